section
-- PART A of the skeleton (a starting text): the words of the tables
-- what a method that only its own file calls must have in tables_1
def lw_okq (q : MethodName × Nat) : Prop := (q.1.cls ≠ "java/lang/invoke/MethodHandle" ∧ q.1.cls ≠ "java/lang/invoke/VarHandle") ∧ Cond.instantiable q.1.cls q.2 ∈ tables_1 ∧ Cond.privateMethod q.1 ∈ tables_1 ∧ Cond.instanceMethod q.1 ∈ tables_1
theorem lw_p0 : lw_okq (⟨"StartTable", "piece", "(II)V"⟩, 4) := ⟨⟨by decide +kernel, by decide +kernel⟩, List.mem_of_getElem? (i := 10) (by decide +kernel), List.mem_of_getElem? (i := 29) (by decide +kernel), List.mem_of_getElem? (i := 30) (by decide +kernel)⟩
theorem lw_p1 : lw_okq (⟨"java/lang/Throwable", "fillInStackTrace", "(I)Ljava/lang/Throwable;"⟩, 6) := ⟨⟨by decide +kernel, by decide +kernel⟩, List.mem_of_getElem? (i := 95) (by decide +kernel), List.mem_of_getElem? (i := 93) (by decide +kernel), List.mem_of_getElem? (i := 94) (by decide +kernel)⟩
theorem lw_p2 : lw_okq (⟨"StartTable", "cell", "(I)V"⟩, 4) := ⟨⟨by decide +kernel, by decide +kernel⟩, List.mem_of_getElem? (i := 10) (by decide +kernel), List.mem_of_getElem? (i := 128) (by decide +kernel), List.mem_of_getElem? (i := 129) (by decide +kernel)⟩
theorem lw_p3 : lw_okq (⟨"StartTable", "over", "(I)I"⟩, 4) := ⟨⟨by decide +kernel, by decide +kernel⟩, List.mem_of_getElem? (i := 10) (by decide +kernel), List.mem_of_getElem? (i := 150) (by decide +kernel), List.mem_of_getElem? (i := 151) (by decide +kernel)⟩
theorem lw_p4 : lw_okq (⟨"StartTable", "card", "(I)V"⟩, 4) := ⟨⟨by decide +kernel, by decide +kernel⟩, List.mem_of_getElem? (i := 10) (by decide +kernel), List.mem_of_getElem? (i := 194) (by decide +kernel), List.mem_of_getElem? (i := 195) (by decide +kernel)⟩
theorem lw_p5 : lw_okq (⟨"StartTable", "extreme", "(Z)I"⟩, 4) := ⟨⟨by decide +kernel, by decide +kernel⟩, List.mem_of_getElem? (i := 10) (by decide +kernel), List.mem_of_getElem? (i := 212) (by decide +kernel), List.mem_of_getElem? (i := 213) (by decide +kernel)⟩
theorem lw_p6 : lw_okq (⟨"StartTableModel", "goes", "(Z)Z"⟩, 3) := ⟨⟨by decide +kernel, by decide +kernel⟩, List.mem_of_getElem? (i := 216) (by decide +kernel), List.mem_of_getElem? (i := 241) (by decide +kernel), List.mem_of_getElem? (i := 242) (by decide +kernel)⟩
theorem lw_p7 : lw_okq (⟨"StartTableModel", "isCell", "(I)Z"⟩, 3) := ⟨⟨by decide +kernel, by decide +kernel⟩, List.mem_of_getElem? (i := 216) (by decide +kernel), List.mem_of_getElem? (i := 249) (by decide +kernel), List.mem_of_getElem? (i := 250) (by decide +kernel)⟩
theorem lw_p8 : lw_okq (⟨"StartTableModel", "from", "(I)I"⟩, 3) := ⟨⟨by decide +kernel, by decide +kernel⟩, List.mem_of_getElem? (i := 216) (by decide +kernel), List.mem_of_getElem? (i := 253) (by decide +kernel), List.mem_of_getElem? (i := 254) (by decide +kernel)⟩
theorem lw_p9 : lw_okq (⟨"StartTableModel", "behind", "(I)I"⟩, 3) := ⟨⟨by decide +kernel, by decide +kernel⟩, List.mem_of_getElem? (i := 216) (by decide +kernel), List.mem_of_getElem? (i := 261) (by decide +kernel), List.mem_of_getElem? (i := 262) (by decide +kernel)⟩
theorem lw_p10 : lw_okq (⟨"StartTableModel", "pieces", "()I"⟩, 3) := ⟨⟨by decide +kernel, by decide +kernel⟩, List.mem_of_getElem? (i := 216) (by decide +kernel), List.mem_of_getElem? (i := 269) (by decide +kernel), List.mem_of_getElem? (i := 270) (by decide +kernel)⟩
theorem lw_p11 : lw_okq (⟨"StartTableModel", "isCard", "(I)Z"⟩, 3) := ⟨⟨by decide +kernel, by decide +kernel⟩, List.mem_of_getElem? (i := 216) (by decide +kernel), List.mem_of_getElem? (i := 285) (by decide +kernel), List.mem_of_getElem? (i := 286) (by decide +kernel)⟩
theorem lw_p12 : lw_okq (⟨"StartTableModel", "cards", "()I"⟩, 3) := ⟨⟨by decide +kernel, by decide +kernel⟩, List.mem_of_getElem? (i := 216) (by decide +kernel), List.mem_of_getElem? (i := 289) (by decide +kernel), List.mem_of_getElem? (i := 290) (by decide +kernel)⟩
def lw_privs_1 : List (MethodName × Nat) := [(⟨"StartTable", "piece", "(II)V"⟩, 4), (⟨"java/lang/Throwable", "fillInStackTrace", "(I)Ljava/lang/Throwable;"⟩, 6), (⟨"StartTable", "cell", "(I)V"⟩, 4), (⟨"StartTable", "over", "(I)I"⟩, 4), (⟨"StartTable", "card", "(I)V"⟩, 4), (⟨"StartTable", "extreme", "(Z)I"⟩, 4), (⟨"StartTableModel", "goes", "(Z)Z"⟩, 3), (⟨"StartTableModel", "isCell", "(I)Z"⟩, 3), (⟨"StartTableModel", "from", "(I)I"⟩, 3), (⟨"StartTableModel", "behind", "(I)I"⟩, 3), (⟨"StartTableModel", "pieces", "()I"⟩, 3), (⟨"StartTableModel", "isCard", "(I)Z"⟩, 3), (⟨"StartTableModel", "cards", "()I"⟩, 3)]
theorem lw_r1 : ∀ q ∈ lw_privs_1, lw_okq q := List.forall_mem_cons.mpr ⟨lw_p0, List.forall_mem_cons.mpr ⟨lw_p1, List.forall_mem_cons.mpr ⟨lw_p2, List.forall_mem_cons.mpr ⟨lw_p3, List.forall_mem_cons.mpr ⟨lw_p4, List.forall_mem_cons.mpr ⟨lw_p5, List.forall_mem_cons.mpr ⟨lw_p6, List.forall_mem_cons.mpr ⟨lw_p7, List.forall_mem_cons.mpr ⟨lw_p8, List.forall_mem_cons.mpr ⟨lw_p9, List.forall_mem_cons.mpr ⟨lw_p10, List.forall_mem_cons.mpr ⟨lw_p11, List.forall_mem_cons.mpr ⟨lw_p12, fun _ h => absurd h List.not_mem_nil⟩⟩⟩⟩⟩⟩⟩⟩⟩⟩⟩⟩⟩
def lw_privs : List (MethodName × Nat) := lw_privs_1
def lw_tbl : List Cond := k2_sels lw_privs ++ tables_1
theorem lw_privs_ok : ∀ q ∈ lw_privs, lw_okq q := lw_r1
/-- the words of the tables that a callee keeps -/
def lw_gd : List Cond := lw_tbl.filter goodWord
theorem gd_good : GoodIn lw_gd lw_gd := fun w hw => ⟨hw, good_of_word (List.mem_filter.mp hw).2⟩
theorem gd_sub {w : Cond} (h : w ∈ lw_gd) : w ∈ lw_tbl := (List.mem_filter.mp h).1
theorem gd_of {w : Cond} (h : w ∈ lw_tbl) (hg : goodWord w = true) : w ∈ lw_gd := List.mem_filter.mpr ⟨h, hg⟩
/-- a contract's words: its own code, then all that is kept -/
theorem gd_call {y : MethodName} {b : ByteArray} {n : Nat} {r : Option FieldType} (h : Cond.code y b n r ∈ lw_gd) : GoodIn lw_gd (.code y b n r :: lw_gd) := by
  intro w hw
  rcases List.mem_cons.mp hw with rfl | hw
  · exact gd_good _ h
  · exact gd_good _ hw
theorem gd_callW {y : MethodName} {b : ByteArray} {n : Nat} {r : Option FieldType} {hs : List (Nat × Nat × Nat × Nat)} (h : Cond.codeWith y b n r hs ∈ lw_gd) : GoodIn lw_gd (.codeWith y b n r hs :: lw_gd) := by
  intro w hw
  rcases List.mem_cons.mp hw with rfl | hw
  · exact gd_good _ h
  · exact gd_good _ hw
theorem gd_callV {own : String} {i : Nat} {C : String} {y : MethodName} {b : ByteArray} {n : Nat} {r : Option FieldType} (h : Cond.code y b n r ∈ lw_gd) (h1 : Cond.methodLink own i y ∈ lw_gd) (h2 : Cond.instanceMethod y ∈ lw_gd) (h3 : Cond.selects C y y ∈ lw_gd) (h4 : Cond.initialized C ∈ lw_gd) : GoodIn lw_gd (wsV own i C y (.code y b n r :: lw_gd)) := by
  intro w hw
  unfold wsV at hw
  rcases List.mem_append.mp hw with hw | hw
  · simp only [List.mem_cons, List.not_mem_nil, or_false] at hw
    rcases hw with rfl | rfl | rfl | rfl
    · exact gd_good _ h1
    · exact gd_good _ h2
    · exact gd_good _ h3
    · exact gd_good _ h4
  · exact gd_call h _ hw
theorem gd_callS {own : String} {i : Nat} {y : MethodName} {b : ByteArray} {n : Nat} {r : Option FieldType} (h : Cond.code y b n r ∈ lw_gd) (h1 : Cond.methodLink own i y ∈ lw_gd) (h2 : Cond.static y ∈ lw_gd) (h4 : Cond.initialized own ∈ lw_gd) : GoodIn lw_gd (wsS own i y (.code y b n r :: lw_gd)) := by
  intro w hw
  unfold wsS at hw
  rcases List.mem_append.mp hw with hw | hw
  · simp only [List.mem_cons, List.not_mem_nil, or_false] at hw
    rcases hw with rfl | rfl | rfl
    · exact gd_good _ h1
    · exact gd_good _ h2
    · exact gd_good _ h4
  · exact gd_call h _ hw
end
section
-- NAMES, printed by gen_names.py
abbrev R_T : String := "StartTable"
abbrev R_O : String := "StartTable$Offsets"
abbrev R_M : String := "StartTableModel"
abbrev R_law : String := "StartTableLaw"
def F_T : u_T := fun k => match k with
  | 0 => ("StartTable", "offsets", "LStartTable$Offsets;", true)
  | 1 => ("StartTable", "sizes", "[I", true)
  | 2 => ("StartTable", "cells", "I", false)
  | _ => ("StartTable", "pieces", "I", false)
def t_T0 : Nat → FieldType := fun k => match k with
  | 0 => .object "StartTable$Offsets"
  | 1 => .array .int
  | 2 => .int
  | _ => .int
def F_O : u_T := fun k => match k with
  | _ => ("StartTable$Offsets", "starts", "[I", true)
def t_O0 : Nat → FieldType := fun k => match k with
  | _ => .array .int
def F_M : u_T := fun k => match k with
  | 0 => ("StartTableModel", "thrown", "I", false)
  | 1 => ("StartTableModel", "cells", "I", false)
  | _ => ("StartTableModel", "begins", "[Z", true)
def t_M0 : Nat → FieldType := fun k => match k with
  | 0 => .int
  | 1 => .int
  | _ => .array .boolean
abbrev classes : List vw_C := [(R_T, F_T, 4), (R_O, F_O, 1), (R_M, F_M, 3)]
theorem n_T : ∀ a, a < 4 → ∀ b, b < 4 → a ≠ b → (F_T a).2.1 ≠ (F_T b).2.1 := by decide +kernel
theorem t_T_ok : ∀ k, k < 4 → parseFieldDescriptor (F_T k).2.2.1 = some (t_T0 k) := by decide +kernel
theorem i_T0 : ∀ w ∈ u_ws R_T F_T 4, w ∈ lw_tbl ∧ goodWord w = true := by decide +kernel
theorem i_T : ∀ w ∈ u_ws R_T F_T 4, w ∈ lw_gd := fun w h => gd_of (i_T0 w h).1 (i_T0 w h).2
theorem n_O : ∀ a, a < 1 → ∀ b, b < 1 → a ≠ b → (F_O a).2.1 ≠ (F_O b).2.1 := by decide +kernel
theorem t_O_ok : ∀ k, k < 1 → parseFieldDescriptor (F_O k).2.2.1 = some (t_O0 k) := by decide +kernel
theorem i_O0 : ∀ w ∈ u_ws R_O F_O 1, w ∈ lw_tbl ∧ goodWord w = true := by decide +kernel
theorem i_O : ∀ w ∈ u_ws R_O F_O 1, w ∈ lw_gd := fun w h => gd_of (i_O0 w h).1 (i_O0 w h).2
theorem n_M : ∀ a, a < 3 → ∀ b, b < 3 → a ≠ b → (F_M a).2.1 ≠ (F_M b).2.1 := by decide +kernel
theorem t_M_ok : ∀ k, k < 3 → parseFieldDescriptor (F_M k).2.2.1 = some (t_M0 k) := by decide +kernel
theorem i_M0 : ∀ w ∈ u_ws R_M F_M 3, w ∈ lw_tbl ∧ goodWord w = true := by decide +kernel
theorem i_M : ∀ w ∈ u_ws R_M F_M 3, w ∈ lw_gd := fun w h => gd_of (i_M0 w h).1 (i_M0 w h).2
abbrev b_T_init : ByteArray := prog_1_method_1_code
abbrev y_T_init : MethodName := ⟨"StartTable", "<init>", "()V"⟩
abbrev c_T_init : Cond := .code y_T_init b_T_init 1 none
theorem mc_T_init : c_T_init ∈ lw_gd := gd_of (List.mem_append_right _ (List.mem_append_left _ (List.mem_of_getElem? (i := 13) rfl))) rfl
abbrev b_T_piece : ByteArray := prog_1_method_2_code
abbrev y_T_piece : MethodName := ⟨"StartTable", "piece", "(II)V"⟩
abbrev c_T_piece : Cond := .code y_T_piece b_T_piece 3 none
theorem mc_T_piece : c_T_piece ∈ lw_gd := gd_of (List.mem_append_right _ (List.mem_append_left _ (List.mem_of_getElem? (i := 31) rfl))) rfl
abbrev b_T_space : ByteArray := prog_1_method_3_code
abbrev y_T_space : MethodName := ⟨"StartTable", "space", "(I)I"⟩
abbrev c_T_space : Cond := .code y_T_space b_T_space 3 (some .int)
theorem mc_T_space : c_T_space ∈ lw_gd := gd_of (List.mem_append_right _ (List.mem_append_left _ (List.mem_of_getElem? (i := 56) rfl))) rfl
abbrev b_T_in : ByteArray := prog_1_method_4_code
abbrev y_T_in : MethodName := ⟨"StartTable", "in", "(Z)V"⟩
abbrev c_T_in : Cond := .code y_T_in b_T_in 1 none
theorem mc_T_in : c_T_in ∈ lw_gd := gd_of (List.mem_append_right _ (List.mem_append_left _ (List.mem_of_getElem? (i := 133) rfl))) rfl
abbrev b_T_cell : ByteArray := prog_1_method_5_code
abbrev y_T_cell : MethodName := ⟨"StartTable", "cell", "(I)V"⟩
abbrev c_T_cell : Cond := .code y_T_cell b_T_cell 2 none
theorem mc_T_cell : c_T_cell ∈ lw_gd := gd_of (List.mem_append_right _ (List.mem_append_left _ (List.mem_of_getElem? (i := 130) rfl))) rfl
abbrev b_T_over : ByteArray := prog_1_method_6_code
abbrev y_T_over : MethodName := ⟨"StartTable", "over", "(I)I"⟩
abbrev c_T_over : Cond := .code y_T_over b_T_over 3 (some .int)
theorem mc_T_over : c_T_over ∈ lw_gd := gd_of (List.mem_append_right _ (List.mem_append_left _ (List.mem_of_getElem? (i := 152) rfl))) rfl
abbrev b_T_cut : ByteArray := prog_1_method_7_code
abbrev y_T_cut : MethodName := ⟨"StartTable", "cut", "(I)I"⟩
abbrev c_T_cut : Cond := .code y_T_cut b_T_cut 4 (some .int)
theorem mc_T_cut : c_T_cut ∈ lw_gd := gd_of (List.mem_append_right _ (List.mem_append_left _ (List.mem_of_getElem? (i := 126) rfl))) rfl
abbrev b_T_join : ByteArray := prog_1_method_8_code
abbrev y_T_join : MethodName := ⟨"StartTable", "join", "(I)I"⟩
abbrev c_T_join : Cond := .code y_T_join b_T_join 4 (some .int)
theorem mc_T_join : c_T_join ∈ lw_gd := gd_of (List.mem_append_right _ (List.mem_append_left _ (List.mem_of_getElem? (i := 163) rfl))) rfl
abbrev b_T_make : ByteArray := prog_1_method_9_code
abbrev y_T_make : MethodName := ⟨"StartTable", "make", "(II)I"⟩
abbrev c_T_make : Cond := .code y_T_make b_T_make 4 (some .int)
theorem mc_T_make : c_T_make ∈ lw_gd := gd_of (List.mem_append_right _ (List.mem_append_left _ (List.mem_of_getElem? (i := 170) rfl))) rfl
abbrev b_T_begin : ByteArray := prog_1_method_10_code
abbrev y_T_begin : MethodName := ⟨"StartTable", "begin", "(I)I"⟩
abbrev c_T_begin : Cond := .code y_T_begin b_T_begin 2 (some .int)
theorem mc_T_begin : c_T_begin ∈ lw_gd := gd_of (List.mem_append_right _ (List.mem_append_left _ (List.mem_of_getElem? (i := 178) rfl))) rfl
abbrev b_T_size : ByteArray := prog_1_method_11_code
abbrev y_T_size : MethodName := ⟨"StartTable", "size", "(I)I"⟩
abbrev c_T_size : Cond := .code y_T_size b_T_size 2 (some .int)
theorem mc_T_size : c_T_size ∈ lw_gd := gd_of (List.mem_append_right _ (List.mem_append_left _ (List.mem_of_getElem? (i := 185) rfl))) rfl
abbrev b_T_card : ByteArray := prog_1_method_12_code
abbrev y_T_card : MethodName := ⟨"StartTable", "card", "(I)V"⟩
abbrev c_T_card : Cond := .code y_T_card b_T_card 2 none
theorem mc_T_card : c_T_card ∈ lw_gd := gd_of (List.mem_append_right _ (List.mem_append_left _ (List.mem_of_getElem? (i := 196) rfl))) rfl
abbrev b_T_start : ByteArray := prog_1_method_13_code
abbrev y_T_start : MethodName := ⟨"StartTable", "start", "(I)I"⟩
abbrev c_T_start : Cond := .code y_T_start b_T_start 2 (some .int)
theorem mc_T_start : c_T_start ∈ lw_gd := gd_of (List.mem_append_right _ (List.mem_append_left _ (List.mem_of_getElem? (i := 192) rfl))) rfl
abbrev b_T_begins : ByteArray := prog_1_method_14_code
abbrev y_T_begins : MethodName := ⟨"StartTable", "begins", "(I)I"⟩
abbrev c_T_begins : Cond := .code y_T_begins b_T_begins 6 (some .int)
theorem mc_T_begins : c_T_begins ∈ lw_gd := gd_of (List.mem_append_right _ (List.mem_append_left _ (List.mem_of_getElem? (i := 203) rfl))) rfl
abbrev b_T_extreme : ByteArray := prog_1_method_15_code
abbrev y_T_extreme : MethodName := ⟨"StartTable", "extreme", "(Z)I"⟩
abbrev c_T_extreme : Cond := .code y_T_extreme b_T_extreme 4 (some .int)
theorem mc_T_extreme : c_T_extreme ∈ lw_gd := gd_of (List.mem_append_right _ (List.mem_append_left _ (List.mem_of_getElem? (i := 214) rfl))) rfl
abbrev b_T_count : ByteArray := prog_1_method_16_code
abbrev y_T_count : MethodName := ⟨"StartTable", "count", "(I)I"⟩
abbrev c_T_count : Cond := .code y_T_count b_T_count 2 (some .int)
theorem mc_T_count : c_T_count ∈ lw_gd := gd_of (List.mem_append_right _ (List.mem_append_left _ (List.mem_of_getElem? (i := 210) rfl))) rfl
abbrev b_M_init : ByteArray := prog_4_method_1_code
abbrev y_M_init : MethodName := ⟨"StartTableModel", "<init>", "()V"⟩
abbrev c_M_init : Cond := .code y_M_init b_M_init 1 none
theorem mc_M_init : c_M_init ∈ lw_gd := gd_of (List.mem_append_right _ (List.mem_append_left _ (List.mem_of_getElem? (i := 219) rfl))) rfl
abbrev b_M_thrown : ByteArray := prog_4_method_2_code
abbrev y_M_thrown : MethodName := ⟨"StartTableModel", "thrown", "()I"⟩
abbrev c_M_thrown : Cond := .code y_M_thrown b_M_thrown 1 (some .int)
theorem mc_M_thrown : c_M_thrown ∈ lw_gd := gd_of (List.mem_append_right _ (List.mem_append_left _ (List.mem_of_getElem? (i := 235) rfl))) rfl
abbrev b_M_goes : ByteArray := prog_4_method_3_code
abbrev y_M_goes : MethodName := ⟨"StartTableModel", "goes", "(Z)Z"⟩
abbrev c_M_goes : Cond := .code y_M_goes b_M_goes 2 (some .boolean)
theorem mc_M_goes : c_M_goes ∈ lw_gd := gd_of (List.mem_append_right _ (List.mem_append_right _ (List.mem_of_getElem? (i := 3) rfl))) rfl
abbrev b_M_cards : ByteArray := prog_4_method_4_code
abbrev y_M_cards : MethodName := ⟨"StartTableModel", "cards", "()I"⟩
abbrev c_M_cards : Cond := .code y_M_cards b_M_cards 1 (some .int)
theorem mc_M_cards : c_M_cards ∈ lw_gd := gd_of (List.mem_append_right _ (List.mem_append_right _ (List.mem_of_getElem? (i := 51) rfl))) rfl
abbrev b_M_isCell : ByteArray := prog_4_method_5_code
abbrev y_M_isCell : MethodName := ⟨"StartTableModel", "isCell", "(I)Z"⟩
abbrev c_M_isCell : Cond := .code y_M_isCell b_M_isCell 2 (some .boolean)
theorem mc_M_isCell : c_M_isCell ∈ lw_gd := gd_of (List.mem_append_right _ (List.mem_append_right _ (List.mem_of_getElem? (i := 11) rfl))) rfl
abbrev b_M_isCard : ByteArray := prog_4_method_6_code
abbrev y_M_isCard : MethodName := ⟨"StartTableModel", "isCard", "(I)Z"⟩
abbrev c_M_isCard : Cond := .code y_M_isCard b_M_isCard 2 (some .boolean)
theorem mc_M_isCard : c_M_isCard ∈ lw_gd := gd_of (List.mem_append_right _ (List.mem_append_right _ (List.mem_of_getElem? (i := 47) rfl))) rfl
abbrev b_M_space : ByteArray := prog_4_method_7_code
abbrev y_M_space : MethodName := ⟨"StartTableModel", "space", "(I)I"⟩
abbrev c_M_space : Cond := .code y_M_space b_M_space 4 (some .int)
theorem mc_M_space : c_M_space ∈ lw_gd := gd_of (List.mem_append_right _ (List.mem_append_left _ (List.mem_of_getElem? (i := 239) rfl))) rfl
abbrev b_M_from : ByteArray := prog_4_method_8_code
abbrev y_M_from : MethodName := ⟨"StartTableModel", "from", "(I)I"⟩
abbrev c_M_from : Cond := .code y_M_from b_M_from 3 (some .int)
theorem mc_M_from : c_M_from ∈ lw_gd := gd_of (List.mem_append_right _ (List.mem_append_right _ (List.mem_of_getElem? (i := 15) rfl))) rfl
abbrev b_M_behind : ByteArray := prog_4_method_9_code
abbrev y_M_behind : MethodName := ⟨"StartTableModel", "behind", "(I)I"⟩
abbrev c_M_behind : Cond := .code y_M_behind b_M_behind 3 (some .int)
theorem mc_M_behind : c_M_behind ∈ lw_gd := gd_of (List.mem_append_right _ (List.mem_append_right _ (List.mem_of_getElem? (i := 23) rfl))) rfl
abbrev b_M_pieces : ByteArray := prog_4_method_10_code
abbrev y_M_pieces : MethodName := ⟨"StartTableModel", "pieces", "()I"⟩
abbrev c_M_pieces : Cond := .code y_M_pieces b_M_pieces 3 (some .int)
theorem mc_M_pieces : c_M_pieces ∈ lw_gd := gd_of (List.mem_append_right _ (List.mem_append_right _ (List.mem_of_getElem? (i := 31) rfl))) rfl
abbrev b_M_cut : ByteArray := prog_4_method_11_code
abbrev y_M_cut : MethodName := ⟨"StartTableModel", "cut", "(I)I"⟩
abbrev c_M_cut : Cond := .code y_M_cut b_M_cut 3 (some .int)
theorem mc_M_cut : c_M_cut ∈ lw_gd := gd_of (List.mem_append_right _ (List.mem_append_right _ (List.mem_of_getElem? (i := 7) rfl))) rfl
abbrev b_M_join : ByteArray := prog_4_method_12_code
abbrev y_M_join : MethodName := ⟨"StartTableModel", "join", "(I)I"⟩
abbrev c_M_join : Cond := .code y_M_join b_M_join 3 (some .int)
theorem mc_M_join : c_M_join ∈ lw_gd := gd_of (List.mem_append_right _ (List.mem_append_right _ (List.mem_of_getElem? (i := 19) rfl))) rfl
abbrev b_M_make : ByteArray := prog_4_method_13_code
abbrev y_M_make : MethodName := ⟨"StartTableModel", "make", "(II)I"⟩
abbrev c_M_make : Cond := .code y_M_make b_M_make 4 (some .int)
theorem mc_M_make : c_M_make ∈ lw_gd := gd_of (List.mem_append_right _ (List.mem_append_right _ (List.mem_of_getElem? (i := 27) rfl))) rfl
abbrev b_M_begin : ByteArray := prog_4_method_14_code
abbrev y_M_begin : MethodName := ⟨"StartTableModel", "begin", "(I)I"⟩
abbrev c_M_begin : Cond := .code y_M_begin b_M_begin 2 (some .int)
theorem mc_M_begin : c_M_begin ∈ lw_gd := gd_of (List.mem_append_right _ (List.mem_append_right _ (List.mem_of_getElem? (i := 35) rfl))) rfl
abbrev b_M_size : ByteArray := prog_4_method_15_code
abbrev y_M_size : MethodName := ⟨"StartTableModel", "size", "(I)I"⟩
abbrev c_M_size : Cond := .code y_M_size b_M_size 2 (some .int)
theorem mc_M_size : c_M_size ∈ lw_gd := gd_of (List.mem_append_right _ (List.mem_append_right _ (List.mem_of_getElem? (i := 39) rfl))) rfl
abbrev b_M_start : ByteArray := prog_4_method_16_code
abbrev y_M_start : MethodName := ⟨"StartTableModel", "start", "(I)I"⟩
abbrev c_M_start : Cond := .code y_M_start b_M_start 2 (some .int)
theorem mc_M_start : c_M_start ∈ lw_gd := gd_of (List.mem_append_right _ (List.mem_append_right _ (List.mem_of_getElem? (i := 43) rfl))) rfl
abbrev b_M_begins : ByteArray := prog_4_method_17_code
abbrev y_M_begins : MethodName := ⟨"StartTableModel", "begins", "(I)I"⟩
abbrev c_M_begins : Cond := .code y_M_begins b_M_begins 4 (some .int)
theorem mc_M_begins : c_M_begins ∈ lw_gd := gd_of (List.mem_append_right _ (List.mem_append_right _ (List.mem_of_getElem? (i := 55) rfl))) rfl
abbrev b_M_count : ByteArray := prog_4_method_18_code
abbrev y_M_count : MethodName := ⟨"StartTableModel", "count", "(I)I"⟩
abbrev c_M_count : Cond := .code y_M_count b_M_count 6 (some .int)
theorem mc_M_count : c_M_count ∈ lw_gd := gd_of (List.mem_append_right _ (List.mem_append_right _ (List.mem_of_getElem? (i := 59) rfl))) rfl
abbrev b_O_init : ByteArray := prog_2_method_1_code
abbrev y_O_init : MethodName := ⟨"StartTable$Offsets", "<init>", "(I)V"⟩
abbrev c_O_init : Cond := .code y_O_init b_O_init 2 none
theorem mc_O_init : c_O_init ∈ lw_gd := gd_of (List.mem_append_right _ (List.mem_append_left _ (List.mem_of_getElem? (i := 21) rfl))) rfl
abbrev b_O_set : ByteArray := prog_2_method_2_code
abbrev y_O_set : MethodName := ⟨"StartTable$Offsets", "set", "(II)V"⟩
abbrev c_O_set : Cond := .code y_O_set b_O_set 5 none
theorem mc_O_set : c_O_set ∈ lw_gd := gd_of (List.mem_append_right _ (List.mem_append_left _ (List.mem_of_getElem? (i := 35) rfl))) rfl
abbrev b_O_start : ByteArray := prog_2_method_3_code
abbrev y_O_start : MethodName := ⟨"StartTable$Offsets", "start", "(I)I"⟩
abbrev c_O_start : Cond := .code y_O_start b_O_start 2 (some .int)
theorem mc_O_start : c_O_start ∈ lw_gd := gd_of (List.mem_append_right _ (List.mem_append_left _ (List.mem_of_getElem? (i := 156) rfl))) rfl
abbrev b_L_space : ByteArray := method_3_code
abbrev y_L_space : MethodName := ⟨"StartTableLaw", "space", "(LStartTable;I[J)I"⟩
abbrev c_L_space : Cond := .codeWith y_L_space b_L_space 4 (some .int) [(0, 9, 12, 13)]
theorem mc_L_space : c_L_space ∈ lw_gd := gd_of (List.mem_append_right _ (List.mem_append_left _ (List.mem_of_getElem? (i := 51) rfl))) rfl
abbrev b_L_cut : ByteArray := method_4_code
abbrev y_L_cut : MethodName := ⟨"StartTableLaw", "cut", "(LStartTable;I[J)I"⟩
abbrev c_L_cut : Cond := .codeWith y_L_cut b_L_cut 4 (some .int) [(0, 9, 12, 18)]
theorem mc_L_cut : c_L_cut ∈ lw_gd := gd_of (List.mem_append_right _ (List.mem_append_left _ (List.mem_of_getElem? (i := 121) rfl))) rfl
abbrev b_L_join : ByteArray := method_5_code
abbrev y_L_join : MethodName := ⟨"StartTableLaw", "join", "(LStartTable;I[J)I"⟩
abbrev c_L_join : Cond := .codeWith y_L_join b_L_join 4 (some .int) [(0, 9, 12, 18)]
theorem mc_L_join : c_L_join ∈ lw_gd := gd_of (List.mem_append_right _ (List.mem_append_left _ (List.mem_of_getElem? (i := 159) rfl))) rfl
abbrev b_L_make : ByteArray := method_6_code
abbrev y_L_make : MethodName := ⟨"StartTableLaw", "make", "(LStartTable;II[J)I"⟩
abbrev c_L_make : Cond := .codeWith y_L_make b_L_make 5 (some .int) [(0, 10, 13, 18)]
theorem mc_L_make : c_L_make ∈ lw_gd := gd_of (List.mem_append_right _ (List.mem_append_left _ (List.mem_of_getElem? (i := 166) rfl))) rfl
abbrev b_L_begin : ByteArray := method_7_code
abbrev y_L_begin : MethodName := ⟨"StartTableLaw", "begin", "(LStartTable;I[J)I"⟩
abbrev c_L_begin : Cond := .codeWith y_L_begin b_L_begin 4 (some .int) [(0, 9, 12, 18)]
theorem mc_L_begin : c_L_begin ∈ lw_gd := gd_of (List.mem_append_right _ (List.mem_append_left _ (List.mem_of_getElem? (i := 174) rfl))) rfl
abbrev b_L_size : ByteArray := method_8_code
abbrev y_L_size : MethodName := ⟨"StartTableLaw", "size", "(LStartTable;I[J)I"⟩
abbrev c_L_size : Cond := .codeWith y_L_size b_L_size 4 (some .int) [(0, 9, 12, 18)]
theorem mc_L_size : c_L_size ∈ lw_gd := gd_of (List.mem_append_right _ (List.mem_append_left _ (List.mem_of_getElem? (i := 181) rfl))) rfl
abbrev b_L_start : ByteArray := method_9_code
abbrev y_L_start : MethodName := ⟨"StartTableLaw", "start", "(LStartTable;I[J)I"⟩
abbrev c_L_start : Cond := .codeWith y_L_start b_L_start 4 (some .int) [(0, 9, 12, 18)]
theorem mc_L_start : c_L_start ∈ lw_gd := gd_of (List.mem_append_right _ (List.mem_append_left _ (List.mem_of_getElem? (i := 188) rfl))) rfl
abbrev b_L_begins : ByteArray := method_10_code
abbrev y_L_begins : MethodName := ⟨"StartTableLaw", "begins", "(LStartTable;I[J)I"⟩
abbrev c_L_begins : Cond := .codeWith y_L_begins b_L_begins 4 (some .int) [(0, 9, 12, 18)]
theorem mc_L_begins : c_L_begins ∈ lw_gd := gd_of (List.mem_append_right _ (List.mem_append_left _ (List.mem_of_getElem? (i := 199) rfl))) rfl
abbrev b_L_count : ByteArray := method_11_code
abbrev y_L_count : MethodName := ⟨"StartTableLaw", "count", "(LStartTable;I[J)I"⟩
abbrev c_L_count : Cond := .codeWith y_L_count b_L_count 4 (some .int) [(0, 9, 12, 13)]
theorem mc_L_count : c_L_count ∈ lw_gd := gd_of (List.mem_append_right _ (List.mem_append_left _ (List.mem_of_getElem? (i := 206) rfl))) rfl
theorem mi_L : Cond.initialized "StartTableLaw" ∈ lw_gd := gd_of (List.mem_append_right _ (List.mem_append_left _ (List.mem_of_getElem? (i := 0) rfl))) rfl
theorem mi_T : Cond.initialized "StartTable" ∈ lw_gd := gd_of (List.mem_append_right _ (List.mem_append_left _ (List.mem_of_getElem? (i := 1) rfl))) rfl
theorem mi_O : Cond.initialized "StartTable$Offsets" ∈ lw_gd := gd_of (List.mem_append_right _ (List.mem_append_left _ (List.mem_of_getElem? (i := 2) rfl))) rfl
theorem mi_M : Cond.initialized "StartTableModel" ∈ lw_gd := gd_of (List.mem_append_right _ (List.mem_append_left _ (List.mem_of_getElem? (i := 3) rfl))) rfl
theorem mi_Thr : Cond.initialized "java/lang/Throwable" ∈ lw_gd := gd_of (List.mem_append_right _ (List.mem_append_left _ (List.mem_of_getElem? (i := 4) rfl))) rfl
theorem mi_Exc : Cond.initialized "java/lang/Exception" ∈ lw_gd := gd_of (List.mem_append_right _ (List.mem_append_left _ (List.mem_of_getElem? (i := 5) rfl))) rfl
theorem mi_RTE : Cond.initialized "java/lang/RuntimeException" ∈ lw_gd := gd_of (List.mem_append_right _ (List.mem_append_left _ (List.mem_of_getElem? (i := 6) rfl))) rfl
theorem mi_IAE : Cond.initialized "java/lang/IllegalArgumentException" ∈ lw_gd := gd_of (List.mem_append_right _ (List.mem_append_left _ (List.mem_of_getElem? (i := 7) rfl))) rfl
theorem mi_IOOBE : Cond.initialized "java/lang/IndexOutOfBoundsException" ∈ lw_gd := gd_of (List.mem_append_right _ (List.mem_append_left _ (List.mem_of_getElem? (i := 8) rfl))) rfl
theorem mk_L_8 : Cond.classLink "StartTableLaw" 8 "StartTable" ∈ lw_gd := gd_of (List.mem_append_right _ (List.mem_append_left _ (List.mem_of_getElem? (i := 9) rfl))) rfl
theorem mn_T : Cond.instantiable "StartTable" 4 ∈ lw_gd := gd_of (List.mem_append_right _ (List.mem_append_left _ (List.mem_of_getElem? (i := 10) rfl))) rfl
theorem ml_L_42 : Cond.methodLink "StartTableLaw" 42 ⟨"StartTable", "<init>", "()V"⟩ ∈ lw_gd := gd_of (List.mem_append_right _ (List.mem_append_left _ (List.mem_of_getElem? (i := 11) rfl))) rfl
theorem ms_T_init : Cond.instanceMethod ⟨"StartTable", "<init>", "()V"⟩ ∈ lw_gd := gd_of (List.mem_append_right _ (List.mem_append_left _ (List.mem_of_getElem? (i := 12) rfl))) rfl
theorem ml_T_1 : Cond.methodLink "StartTable" 1 ⟨"java/lang/Object", "<init>", "()V"⟩ ∈ lw_gd := gd_of (List.mem_append_right _ (List.mem_append_left _ (List.mem_of_getElem? (i := 14) rfl))) rfl
theorem ms_Obj_init : Cond.instanceMethod ⟨"java/lang/Object", "<init>", "()V"⟩ ∈ lw_gd := gd_of (List.mem_append_right _ (List.mem_append_left _ (List.mem_of_getElem? (i := 15) rfl))) rfl
theorem mc_Obj_init : Cond.code ⟨"java/lang/Object", "<init>", "()V"⟩ object_method_1_code 1 none ∈ lw_gd := gd_of (List.mem_append_right _ (List.mem_append_left _ (List.mem_of_getElem? (i := 16) rfl))) rfl
theorem mk_T_7 : Cond.classLink "StartTable" 7 "StartTable$Offsets" ∈ lw_gd := gd_of (List.mem_append_right _ (List.mem_append_left _ (List.mem_of_getElem? (i := 17) rfl))) rfl
theorem mn_O : Cond.instantiable "StartTable$Offsets" 1 ∈ lw_gd := gd_of (List.mem_append_right _ (List.mem_append_left _ (List.mem_of_getElem? (i := 18) rfl))) rfl
theorem ml_T_11 : Cond.methodLink "StartTable" 11 ⟨"StartTable$Offsets", "<init>", "(I)V"⟩ ∈ lw_gd := gd_of (List.mem_append_right _ (List.mem_append_left _ (List.mem_of_getElem? (i := 19) rfl))) rfl
theorem ms_O_init : Cond.instanceMethod ⟨"StartTable$Offsets", "<init>", "(I)V"⟩ ∈ lw_gd := gd_of (List.mem_append_right _ (List.mem_append_left _ (List.mem_of_getElem? (i := 20) rfl))) rfl
theorem ml_O_1 : Cond.methodLink "StartTable$Offsets" 1 ⟨"java/lang/Object", "<init>", "()V"⟩ ∈ lw_gd := gd_of (List.mem_append_right _ (List.mem_append_left _ (List.mem_of_getElem? (i := 22) rfl))) rfl
theorem mf_O_7 : Cond.fieldLink "StartTable$Offsets" 7 "StartTable$Offsets" "starts" "[I" ∈ lw_gd := gd_of (List.mem_append_right _ (List.mem_append_left _ (List.mem_of_getElem? (i := 23) rfl))) rfl
theorem ma_int : Cond.arrayClass .int ∈ lw_gd := gd_of (List.mem_append_right _ (List.mem_append_left _ (List.mem_of_getElem? (i := 27) rfl))) rfl
theorem ml_T_29 : Cond.methodLink "StartTable" 29 ⟨"StartTable", "piece", "(II)V"⟩ ∈ lw_gd := gd_of (List.mem_append_right _ (List.mem_append_left _ (List.mem_of_getElem? (i := 28) rfl))) rfl
theorem ms_T_piece : Cond.instanceMethod ⟨"StartTable", "piece", "(II)V"⟩ ∈ lw_gd := gd_of (List.mem_append_right _ (List.mem_append_left _ (List.mem_of_getElem? (i := 30) rfl))) rfl
theorem ml_T_33 : Cond.methodLink "StartTable" 33 ⟨"StartTable$Offsets", "set", "(II)V"⟩ ∈ lw_gd := gd_of (List.mem_append_right _ (List.mem_append_left _ (List.mem_of_getElem? (i := 32) rfl))) rfl
theorem ms_O_set : Cond.instanceMethod ⟨"StartTable$Offsets", "set", "(II)V"⟩ ∈ lw_gd := gd_of (List.mem_append_right _ (List.mem_append_left _ (List.mem_of_getElem? (i := 33) rfl))) rfl
theorem mv_O_set : Cond.selects "StartTable$Offsets" ⟨"StartTable$Offsets", "set", "(II)V"⟩ ⟨"StartTable$Offsets", "set", "(II)V"⟩ ∈ lw_gd := gd_of (List.mem_append_right _ (List.mem_append_left _ (List.mem_of_getElem? (i := 34) rfl))) rfl
theorem mf_T_14 : Cond.fieldLink "StartTable" 14 "StartTable" "offsets" "LStartTable$Offsets;" ∈ lw_gd := gd_of (List.mem_append_right _ (List.mem_append_left _ (List.mem_of_getElem? (i := 36) rfl))) rfl
theorem mf_T_18 : Cond.fieldLink "StartTable" 18 "StartTable" "sizes" "[I" ∈ lw_gd := gd_of (List.mem_append_right _ (List.mem_append_left _ (List.mem_of_getElem? (i := 37) rfl))) rfl
theorem mf_T_22 : Cond.fieldLink "StartTable" 22 "StartTable" "cells" "I" ∈ lw_gd := gd_of (List.mem_append_right _ (List.mem_append_left _ (List.mem_of_getElem? (i := 38) rfl))) rfl
theorem mf_T_26 : Cond.fieldLink "StartTable" 26 "StartTable" "pieces" "I" ∈ lw_gd := gd_of (List.mem_append_right _ (List.mem_append_left _ (List.mem_of_getElem? (i := 39) rfl))) rfl
theorem ml_L_46 : Cond.methodLink "StartTableLaw" 46 ⟨"StartTableLaw", "space", "(LStartTable;I[J)I"⟩ ∈ lw_gd := gd_of (List.mem_append_right _ (List.mem_append_left _ (List.mem_of_getElem? (i := 49) rfl))) rfl
theorem ms_L_space : Cond.static ⟨"StartTableLaw", "space", "(LStartTable;I[J)I"⟩ ∈ lw_gd := gd_of (List.mem_append_right _ (List.mem_append_left _ (List.mem_of_getElem? (i := 50) rfl))) rfl
theorem mk_L_13 : Cond.classLink "StartTableLaw" 13 "java/lang/IllegalArgumentException" ∈ lw_gd := gd_of (List.mem_append_right _ (List.mem_append_left _ (List.mem_of_getElem? (i := 52) rfl))) rfl
theorem ml_L_7 : Cond.methodLink "StartTableLaw" 7 ⟨"StartTable", "space", "(I)I"⟩ ∈ lw_gd := gd_of (List.mem_append_right _ (List.mem_append_left _ (List.mem_of_getElem? (i := 53) rfl))) rfl
theorem ms_T_space : Cond.instanceMethod ⟨"StartTable", "space", "(I)I"⟩ ∈ lw_gd := gd_of (List.mem_append_right _ (List.mem_append_left _ (List.mem_of_getElem? (i := 54) rfl))) rfl
theorem mv_T_space : Cond.selects "StartTable" ⟨"StartTable", "space", "(I)I"⟩ ⟨"StartTable", "space", "(I)I"⟩ ∈ lw_gd := gd_of (List.mem_append_right _ (List.mem_append_left _ (List.mem_of_getElem? (i := 55) rfl))) rfl
theorem mk_T_36 : Cond.classLink "StartTable" 36 "java/lang/IllegalArgumentException" ∈ lw_gd := gd_of (List.mem_append_right _ (List.mem_append_left _ (List.mem_of_getElem? (i := 57) rfl))) rfl
theorem mn_IAE : Cond.instantiable "java/lang/IllegalArgumentException" 6 ∈ lw_gd := gd_of (List.mem_append_right _ (List.mem_append_left _ (List.mem_of_getElem? (i := 58) rfl))) rfl
theorem ml_Thr_1 : Cond.methodLink "java/lang/Throwable" 1 ⟨"java/lang/Object", "<init>", "()V"⟩ ∈ lw_gd := gd_of (List.mem_append_right _ (List.mem_append_left _ (List.mem_of_getElem? (i := 82) rfl))) rfl
theorem ml_Thr_27 : Cond.methodLink "java/lang/Throwable" 27 ⟨"java/lang/Throwable", "fillInStackTrace", "()Ljava/lang/Throwable;"⟩ ∈ lw_gd := gd_of (List.mem_append_right _ (List.mem_append_left _ (List.mem_of_getElem? (i := 87) rfl))) rfl
theorem ml_Thr_202 : Cond.methodLink "java/lang/Throwable" 202 ⟨"java/lang/Throwable", "fillInStackTrace", "(I)Ljava/lang/Throwable;"⟩ ∈ lw_gd := gd_of (List.mem_append_right _ (List.mem_append_left _ (List.mem_of_getElem? (i := 92) rfl))) rfl
theorem mn_Thr : Cond.instantiable "java/lang/Throwable" 6 ∈ lw_gd := gd_of (List.mem_append_right _ (List.mem_append_left _ (List.mem_of_getElem? (i := 95) rfl))) rfl
theorem ml_T_38 : Cond.methodLink "StartTable" 38 ⟨"java/lang/IllegalArgumentException", "<init>", "()V"⟩ ∈ lw_gd := gd_of (List.mem_append_right _ (List.mem_append_left _ (List.mem_of_getElem? (i := 97) rfl))) rfl
theorem ml_IAE_1 : Cond.methodLink "java/lang/IllegalArgumentException" 1 ⟨"java/lang/RuntimeException", "<init>", "()V"⟩ ∈ lw_gd := gd_of (List.mem_append_right _ (List.mem_append_left _ (List.mem_of_getElem? (i := 100) rfl))) rfl
theorem ml_RTE_1 : Cond.methodLink "java/lang/RuntimeException" 1 ⟨"java/lang/Exception", "<init>", "()V"⟩ ∈ lw_gd := gd_of (List.mem_append_right _ (List.mem_append_left _ (List.mem_of_getElem? (i := 103) rfl))) rfl
theorem ml_Exc_1 : Cond.methodLink "java/lang/Exception" 1 ⟨"java/lang/Throwable", "<init>", "()V"⟩ ∈ lw_gd := gd_of (List.mem_append_right _ (List.mem_append_left _ (List.mem_of_getElem? (i := 106) rfl))) rfl
theorem ml_L_56 : Cond.methodLink "StartTableLaw" 56 ⟨"StartTableLaw", "cut", "(LStartTable;I[J)I"⟩ ∈ lw_gd := gd_of (List.mem_append_right _ (List.mem_append_left _ (List.mem_of_getElem? (i := 119) rfl))) rfl
theorem ms_L_cut : Cond.static ⟨"StartTableLaw", "cut", "(LStartTable;I[J)I"⟩ ∈ lw_gd := gd_of (List.mem_append_right _ (List.mem_append_left _ (List.mem_of_getElem? (i := 120) rfl))) rfl
theorem mk_L_18 : Cond.classLink "StartTableLaw" 18 "java/lang/IndexOutOfBoundsException" ∈ lw_gd := gd_of (List.mem_append_right _ (List.mem_append_left _ (List.mem_of_getElem? (i := 122) rfl))) rfl
theorem ml_L_15 : Cond.methodLink "StartTableLaw" 15 ⟨"StartTable", "cut", "(I)I"⟩ ∈ lw_gd := gd_of (List.mem_append_right _ (List.mem_append_left _ (List.mem_of_getElem? (i := 123) rfl))) rfl
theorem ms_T_cut : Cond.instanceMethod ⟨"StartTable", "cut", "(I)I"⟩ ∈ lw_gd := gd_of (List.mem_append_right _ (List.mem_append_left _ (List.mem_of_getElem? (i := 124) rfl))) rfl
theorem mv_T_cut : Cond.selects "StartTable" ⟨"StartTable", "cut", "(I)I"⟩ ⟨"StartTable", "cut", "(I)I"⟩ ∈ lw_gd := gd_of (List.mem_append_right _ (List.mem_append_left _ (List.mem_of_getElem? (i := 125) rfl))) rfl
theorem ml_T_50 : Cond.methodLink "StartTable" 50 ⟨"StartTable", "cell", "(I)V"⟩ ∈ lw_gd := gd_of (List.mem_append_right _ (List.mem_append_left _ (List.mem_of_getElem? (i := 127) rfl))) rfl
theorem ms_T_cell : Cond.instanceMethod ⟨"StartTable", "cell", "(I)V"⟩ ∈ lw_gd := gd_of (List.mem_append_right _ (List.mem_append_left _ (List.mem_of_getElem? (i := 129) rfl))) rfl
theorem ml_T_42 : Cond.methodLink "StartTable" 42 ⟨"StartTable", "in", "(Z)V"⟩ ∈ lw_gd := gd_of (List.mem_append_right _ (List.mem_append_left _ (List.mem_of_getElem? (i := 131) rfl))) rfl
theorem ms_T_in : Cond.static ⟨"StartTable", "in", "(Z)V"⟩ ∈ lw_gd := gd_of (List.mem_append_right _ (List.mem_append_left _ (List.mem_of_getElem? (i := 132) rfl))) rfl
theorem mk_T_39 : Cond.classLink "StartTable" 39 "java/lang/IndexOutOfBoundsException" ∈ lw_gd := gd_of (List.mem_append_right _ (List.mem_append_left _ (List.mem_of_getElem? (i := 134) rfl))) rfl
theorem mn_IOOBE : Cond.instantiable "java/lang/IndexOutOfBoundsException" 6 ∈ lw_gd := gd_of (List.mem_append_right _ (List.mem_append_left _ (List.mem_of_getElem? (i := 135) rfl))) rfl
theorem ml_T_41 : Cond.methodLink "StartTable" 41 ⟨"java/lang/IndexOutOfBoundsException", "<init>", "()V"⟩ ∈ lw_gd := gd_of (List.mem_append_right _ (List.mem_append_left _ (List.mem_of_getElem? (i := 143) rfl))) rfl
theorem ml_IOOBE_1 : Cond.methodLink "java/lang/IndexOutOfBoundsException" 1 ⟨"java/lang/RuntimeException", "<init>", "()V"⟩ ∈ lw_gd := gd_of (List.mem_append_right _ (List.mem_append_left _ (List.mem_of_getElem? (i := 146) rfl))) rfl
theorem ml_T_53 : Cond.methodLink "StartTable" 53 ⟨"StartTable", "over", "(I)I"⟩ ∈ lw_gd := gd_of (List.mem_append_right _ (List.mem_append_left _ (List.mem_of_getElem? (i := 149) rfl))) rfl
theorem ms_T_over : Cond.instanceMethod ⟨"StartTable", "over", "(I)I"⟩ ∈ lw_gd := gd_of (List.mem_append_right _ (List.mem_append_left _ (List.mem_of_getElem? (i := 151) rfl))) rfl
theorem ml_T_46 : Cond.methodLink "StartTable" 46 ⟨"StartTable$Offsets", "start", "(I)I"⟩ ∈ lw_gd := gd_of (List.mem_append_right _ (List.mem_append_left _ (List.mem_of_getElem? (i := 153) rfl))) rfl
theorem ms_O_start : Cond.instanceMethod ⟨"StartTable$Offsets", "start", "(I)I"⟩ ∈ lw_gd := gd_of (List.mem_append_right _ (List.mem_append_left _ (List.mem_of_getElem? (i := 154) rfl))) rfl
theorem mv_O_start : Cond.selects "StartTable$Offsets" ⟨"StartTable$Offsets", "start", "(I)I"⟩ ⟨"StartTable$Offsets", "start", "(I)I"⟩ ∈ lw_gd := gd_of (List.mem_append_right _ (List.mem_append_left _ (List.mem_of_getElem? (i := 155) rfl))) rfl
theorem ml_L_59 : Cond.methodLink "StartTableLaw" 59 ⟨"StartTableLaw", "join", "(LStartTable;I[J)I"⟩ ∈ lw_gd := gd_of (List.mem_append_right _ (List.mem_append_left _ (List.mem_of_getElem? (i := 157) rfl))) rfl
theorem ms_L_join : Cond.static ⟨"StartTableLaw", "join", "(LStartTable;I[J)I"⟩ ∈ lw_gd := gd_of (List.mem_append_right _ (List.mem_append_left _ (List.mem_of_getElem? (i := 158) rfl))) rfl
theorem ml_L_20 : Cond.methodLink "StartTableLaw" 20 ⟨"StartTable", "join", "(I)I"⟩ ∈ lw_gd := gd_of (List.mem_append_right _ (List.mem_append_left _ (List.mem_of_getElem? (i := 160) rfl))) rfl
theorem ms_T_join : Cond.instanceMethod ⟨"StartTable", "join", "(I)I"⟩ ∈ lw_gd := gd_of (List.mem_append_right _ (List.mem_append_left _ (List.mem_of_getElem? (i := 161) rfl))) rfl
theorem mv_T_join : Cond.selects "StartTable" ⟨"StartTable", "join", "(I)I"⟩ ⟨"StartTable", "join", "(I)I"⟩ ∈ lw_gd := gd_of (List.mem_append_right _ (List.mem_append_left _ (List.mem_of_getElem? (i := 162) rfl))) rfl
theorem ml_L_62 : Cond.methodLink "StartTableLaw" 62 ⟨"StartTableLaw", "make", "(LStartTable;II[J)I"⟩ ∈ lw_gd := gd_of (List.mem_append_right _ (List.mem_append_left _ (List.mem_of_getElem? (i := 164) rfl))) rfl
theorem ms_L_make : Cond.static ⟨"StartTableLaw", "make", "(LStartTable;II[J)I"⟩ ∈ lw_gd := gd_of (List.mem_append_right _ (List.mem_append_left _ (List.mem_of_getElem? (i := 165) rfl))) rfl
theorem ml_L_23 : Cond.methodLink "StartTableLaw" 23 ⟨"StartTable", "make", "(II)I"⟩ ∈ lw_gd := gd_of (List.mem_append_right _ (List.mem_append_left _ (List.mem_of_getElem? (i := 167) rfl))) rfl
theorem ms_T_make : Cond.instanceMethod ⟨"StartTable", "make", "(II)I"⟩ ∈ lw_gd := gd_of (List.mem_append_right _ (List.mem_append_left _ (List.mem_of_getElem? (i := 168) rfl))) rfl
theorem mv_T_make : Cond.selects "StartTable" ⟨"StartTable", "make", "(II)I"⟩ ⟨"StartTable", "make", "(II)I"⟩ ∈ lw_gd := gd_of (List.mem_append_right _ (List.mem_append_left _ (List.mem_of_getElem? (i := 169) rfl))) rfl
theorem ml_T_56 : Cond.methodLink "StartTable" 56 ⟨"StartTable", "cut", "(I)I"⟩ ∈ lw_gd := gd_of (List.mem_append_right _ (List.mem_append_left _ (List.mem_of_getElem? (i := 171) rfl))) rfl
theorem ml_L_66 : Cond.methodLink "StartTableLaw" 66 ⟨"StartTableLaw", "begin", "(LStartTable;I[J)I"⟩ ∈ lw_gd := gd_of (List.mem_append_right _ (List.mem_append_left _ (List.mem_of_getElem? (i := 172) rfl))) rfl
theorem ms_L_begin : Cond.static ⟨"StartTableLaw", "begin", "(LStartTable;I[J)I"⟩ ∈ lw_gd := gd_of (List.mem_append_right _ (List.mem_append_left _ (List.mem_of_getElem? (i := 173) rfl))) rfl
theorem ml_L_27 : Cond.methodLink "StartTableLaw" 27 ⟨"StartTable", "begin", "(I)I"⟩ ∈ lw_gd := gd_of (List.mem_append_right _ (List.mem_append_left _ (List.mem_of_getElem? (i := 175) rfl))) rfl
theorem ms_T_begin : Cond.instanceMethod ⟨"StartTable", "begin", "(I)I"⟩ ∈ lw_gd := gd_of (List.mem_append_right _ (List.mem_append_left _ (List.mem_of_getElem? (i := 176) rfl))) rfl
theorem mv_T_begin : Cond.selects "StartTable" ⟨"StartTable", "begin", "(I)I"⟩ ⟨"StartTable", "begin", "(I)I"⟩ ∈ lw_gd := gd_of (List.mem_append_right _ (List.mem_append_left _ (List.mem_of_getElem? (i := 177) rfl))) rfl
theorem ml_L_69 : Cond.methodLink "StartTableLaw" 69 ⟨"StartTableLaw", "size", "(LStartTable;I[J)I"⟩ ∈ lw_gd := gd_of (List.mem_append_right _ (List.mem_append_left _ (List.mem_of_getElem? (i := 179) rfl))) rfl
theorem ms_L_size : Cond.static ⟨"StartTableLaw", "size", "(LStartTable;I[J)I"⟩ ∈ lw_gd := gd_of (List.mem_append_right _ (List.mem_append_left _ (List.mem_of_getElem? (i := 180) rfl))) rfl
theorem ml_L_30 : Cond.methodLink "StartTableLaw" 30 ⟨"StartTable", "size", "(I)I"⟩ ∈ lw_gd := gd_of (List.mem_append_right _ (List.mem_append_left _ (List.mem_of_getElem? (i := 182) rfl))) rfl
theorem ms_T_size : Cond.instanceMethod ⟨"StartTable", "size", "(I)I"⟩ ∈ lw_gd := gd_of (List.mem_append_right _ (List.mem_append_left _ (List.mem_of_getElem? (i := 183) rfl))) rfl
theorem mv_T_size : Cond.selects "StartTable" ⟨"StartTable", "size", "(I)I"⟩ ⟨"StartTable", "size", "(I)I"⟩ ∈ lw_gd := gd_of (List.mem_append_right _ (List.mem_append_left _ (List.mem_of_getElem? (i := 184) rfl))) rfl
theorem ml_L_72 : Cond.methodLink "StartTableLaw" 72 ⟨"StartTableLaw", "start", "(LStartTable;I[J)I"⟩ ∈ lw_gd := gd_of (List.mem_append_right _ (List.mem_append_left _ (List.mem_of_getElem? (i := 186) rfl))) rfl
theorem ms_L_start : Cond.static ⟨"StartTableLaw", "start", "(LStartTable;I[J)I"⟩ ∈ lw_gd := gd_of (List.mem_append_right _ (List.mem_append_left _ (List.mem_of_getElem? (i := 187) rfl))) rfl
theorem ml_L_33 : Cond.methodLink "StartTableLaw" 33 ⟨"StartTable", "start", "(I)I"⟩ ∈ lw_gd := gd_of (List.mem_append_right _ (List.mem_append_left _ (List.mem_of_getElem? (i := 189) rfl))) rfl
theorem ms_T_start : Cond.instanceMethod ⟨"StartTable", "start", "(I)I"⟩ ∈ lw_gd := gd_of (List.mem_append_right _ (List.mem_append_left _ (List.mem_of_getElem? (i := 190) rfl))) rfl
theorem mv_T_start : Cond.selects "StartTable" ⟨"StartTable", "start", "(I)I"⟩ ⟨"StartTable", "start", "(I)I"⟩ ∈ lw_gd := gd_of (List.mem_append_right _ (List.mem_append_left _ (List.mem_of_getElem? (i := 191) rfl))) rfl
theorem ml_T_59 : Cond.methodLink "StartTable" 59 ⟨"StartTable", "card", "(I)V"⟩ ∈ lw_gd := gd_of (List.mem_append_right _ (List.mem_append_left _ (List.mem_of_getElem? (i := 193) rfl))) rfl
theorem ms_T_card : Cond.instanceMethod ⟨"StartTable", "card", "(I)V"⟩ ∈ lw_gd := gd_of (List.mem_append_right _ (List.mem_append_left _ (List.mem_of_getElem? (i := 195) rfl))) rfl
theorem ml_L_75 : Cond.methodLink "StartTableLaw" 75 ⟨"StartTableLaw", "begins", "(LStartTable;I[J)I"⟩ ∈ lw_gd := gd_of (List.mem_append_right _ (List.mem_append_left _ (List.mem_of_getElem? (i := 197) rfl))) rfl
theorem ms_L_begins : Cond.static ⟨"StartTableLaw", "begins", "(LStartTable;I[J)I"⟩ ∈ lw_gd := gd_of (List.mem_append_right _ (List.mem_append_left _ (List.mem_of_getElem? (i := 198) rfl))) rfl
theorem ml_L_36 : Cond.methodLink "StartTableLaw" 36 ⟨"StartTable", "begins", "(I)I"⟩ ∈ lw_gd := gd_of (List.mem_append_right _ (List.mem_append_left _ (List.mem_of_getElem? (i := 200) rfl))) rfl
theorem ms_T_begins : Cond.instanceMethod ⟨"StartTable", "begins", "(I)I"⟩ ∈ lw_gd := gd_of (List.mem_append_right _ (List.mem_append_left _ (List.mem_of_getElem? (i := 201) rfl))) rfl
theorem mv_T_begins : Cond.selects "StartTable" ⟨"StartTable", "begins", "(I)I"⟩ ⟨"StartTable", "begins", "(I)I"⟩ ∈ lw_gd := gd_of (List.mem_append_right _ (List.mem_append_left _ (List.mem_of_getElem? (i := 202) rfl))) rfl
theorem ml_L_78 : Cond.methodLink "StartTableLaw" 78 ⟨"StartTableLaw", "count", "(LStartTable;I[J)I"⟩ ∈ lw_gd := gd_of (List.mem_append_right _ (List.mem_append_left _ (List.mem_of_getElem? (i := 204) rfl))) rfl
theorem ms_L_count : Cond.static ⟨"StartTableLaw", "count", "(LStartTable;I[J)I"⟩ ∈ lw_gd := gd_of (List.mem_append_right _ (List.mem_append_left _ (List.mem_of_getElem? (i := 205) rfl))) rfl
theorem ml_L_39 : Cond.methodLink "StartTableLaw" 39 ⟨"StartTable", "count", "(I)I"⟩ ∈ lw_gd := gd_of (List.mem_append_right _ (List.mem_append_left _ (List.mem_of_getElem? (i := 207) rfl))) rfl
theorem ms_T_count : Cond.instanceMethod ⟨"StartTable", "count", "(I)I"⟩ ∈ lw_gd := gd_of (List.mem_append_right _ (List.mem_append_left _ (List.mem_of_getElem? (i := 208) rfl))) rfl
theorem mv_T_count : Cond.selects "StartTable" ⟨"StartTable", "count", "(I)I"⟩ ⟨"StartTable", "count", "(I)I"⟩ ∈ lw_gd := gd_of (List.mem_append_right _ (List.mem_append_left _ (List.mem_of_getElem? (i := 209) rfl))) rfl
theorem ml_T_62 : Cond.methodLink "StartTable" 62 ⟨"StartTable", "extreme", "(Z)I"⟩ ∈ lw_gd := gd_of (List.mem_append_right _ (List.mem_append_left _ (List.mem_of_getElem? (i := 211) rfl))) rfl
theorem ms_T_extreme : Cond.instanceMethod ⟨"StartTable", "extreme", "(Z)I"⟩ ∈ lw_gd := gd_of (List.mem_append_right _ (List.mem_append_left _ (List.mem_of_getElem? (i := 213) rfl))) rfl
theorem mk_L_43 : Cond.classLink "StartTableLaw" 43 "StartTableModel" ∈ lw_gd := gd_of (List.mem_append_right _ (List.mem_append_left _ (List.mem_of_getElem? (i := 215) rfl))) rfl
theorem mn_M : Cond.instantiable "StartTableModel" 3 ∈ lw_gd := gd_of (List.mem_append_right _ (List.mem_append_left _ (List.mem_of_getElem? (i := 216) rfl))) rfl
theorem ml_L_45 : Cond.methodLink "StartTableLaw" 45 ⟨"StartTableModel", "<init>", "()V"⟩ ∈ lw_gd := gd_of (List.mem_append_right _ (List.mem_append_left _ (List.mem_of_getElem? (i := 217) rfl))) rfl
theorem ms_M_init : Cond.instanceMethod ⟨"StartTableModel", "<init>", "()V"⟩ ∈ lw_gd := gd_of (List.mem_append_right _ (List.mem_append_left _ (List.mem_of_getElem? (i := 218) rfl))) rfl
theorem ml_M_1 : Cond.methodLink "StartTableModel" 1 ⟨"java/lang/Object", "<init>", "()V"⟩ ∈ lw_gd := gd_of (List.mem_append_right _ (List.mem_append_left _ (List.mem_of_getElem? (i := 220) rfl))) rfl
theorem mf_M_17 : Cond.fieldLink "StartTableModel" 17 "StartTableModel" "thrown" "I" ∈ lw_gd := gd_of (List.mem_append_right _ (List.mem_append_left _ (List.mem_of_getElem? (i := 221) rfl))) rfl
theorem mf_M_7 : Cond.fieldLink "StartTableModel" 7 "StartTableModel" "cells" "I" ∈ lw_gd := gd_of (List.mem_append_right _ (List.mem_append_left _ (List.mem_of_getElem? (i := 222) rfl))) rfl
theorem mf_M_13 : Cond.fieldLink "StartTableModel" 13 "StartTableModel" "begins" "[Z" ∈ lw_gd := gd_of (List.mem_append_right _ (List.mem_append_left _ (List.mem_of_getElem? (i := 223) rfl))) rfl
theorem ma_boolean : Cond.arrayClass .boolean ∈ lw_gd := gd_of (List.mem_append_right _ (List.mem_append_left _ (List.mem_of_getElem? (i := 231) rfl))) rfl
theorem ml_L_52 : Cond.methodLink "StartTableLaw" 52 ⟨"StartTableModel", "thrown", "()I"⟩ ∈ lw_gd := gd_of (List.mem_append_right _ (List.mem_append_left _ (List.mem_of_getElem? (i := 232) rfl))) rfl
theorem ms_M_thrown : Cond.instanceMethod ⟨"StartTableModel", "thrown", "()I"⟩ ∈ lw_gd := gd_of (List.mem_append_right _ (List.mem_append_left _ (List.mem_of_getElem? (i := 233) rfl))) rfl
theorem mv_M_thrown : Cond.selects "StartTableModel" ⟨"StartTableModel", "thrown", "()I"⟩ ⟨"StartTableModel", "thrown", "()I"⟩ ∈ lw_gd := gd_of (List.mem_append_right _ (List.mem_append_left _ (List.mem_of_getElem? (i := 234) rfl))) rfl
theorem ml_L_51 : Cond.methodLink "StartTableLaw" 51 ⟨"StartTableModel", "space", "(I)I"⟩ ∈ lw_gd := gd_of (List.mem_append_right _ (List.mem_append_left _ (List.mem_of_getElem? (i := 236) rfl))) rfl
theorem ms_M_space : Cond.instanceMethod ⟨"StartTableModel", "space", "(I)I"⟩ ∈ lw_gd := gd_of (List.mem_append_right _ (List.mem_append_left _ (List.mem_of_getElem? (i := 237) rfl))) rfl
theorem mv_M_space : Cond.selects "StartTableModel" ⟨"StartTableModel", "space", "(I)I"⟩ ⟨"StartTableModel", "space", "(I)I"⟩ ∈ lw_gd := gd_of (List.mem_append_right _ (List.mem_append_left _ (List.mem_of_getElem? (i := 238) rfl))) rfl
theorem ml_M_24 : Cond.methodLink "StartTableModel" 24 ⟨"StartTableModel", "goes", "(Z)Z"⟩ ∈ lw_gd := gd_of (List.mem_append_right _ (List.mem_append_right _ (List.mem_of_getElem? (i := 0) rfl))) rfl
theorem ms_M_goes : Cond.instanceMethod ⟨"StartTableModel", "goes", "(Z)Z"⟩ ∈ lw_gd := gd_of (List.mem_append_right _ (List.mem_append_right _ (List.mem_of_getElem? (i := 2) rfl))) rfl
theorem ml_L_58 : Cond.methodLink "StartTableLaw" 58 ⟨"StartTableModel", "cut", "(I)I"⟩ ∈ lw_gd := gd_of (List.mem_append_right _ (List.mem_append_right _ (List.mem_of_getElem? (i := 4) rfl))) rfl
theorem ms_M_cut : Cond.instanceMethod ⟨"StartTableModel", "cut", "(I)I"⟩ ∈ lw_gd := gd_of (List.mem_append_right _ (List.mem_append_right _ (List.mem_of_getElem? (i := 5) rfl))) rfl
theorem mv_M_cut : Cond.selects "StartTableModel" ⟨"StartTableModel", "cut", "(I)I"⟩ ⟨"StartTableModel", "cut", "(I)I"⟩ ∈ lw_gd := gd_of (List.mem_append_right _ (List.mem_append_right _ (List.mem_of_getElem? (i := 6) rfl))) rfl
theorem ml_M_28 : Cond.methodLink "StartTableModel" 28 ⟨"StartTableModel", "isCell", "(I)Z"⟩ ∈ lw_gd := gd_of (List.mem_append_right _ (List.mem_append_right _ (List.mem_of_getElem? (i := 8) rfl))) rfl
theorem ms_M_isCell : Cond.instanceMethod ⟨"StartTableModel", "isCell", "(I)Z"⟩ ∈ lw_gd := gd_of (List.mem_append_right _ (List.mem_append_right _ (List.mem_of_getElem? (i := 10) rfl))) rfl
theorem ml_M_32 : Cond.methodLink "StartTableModel" 32 ⟨"StartTableModel", "from", "(I)I"⟩ ∈ lw_gd := gd_of (List.mem_append_right _ (List.mem_append_right _ (List.mem_of_getElem? (i := 12) rfl))) rfl
theorem ms_M_from : Cond.instanceMethod ⟨"StartTableModel", "from", "(I)I"⟩ ∈ lw_gd := gd_of (List.mem_append_right _ (List.mem_append_right _ (List.mem_of_getElem? (i := 14) rfl))) rfl
theorem ml_L_61 : Cond.methodLink "StartTableLaw" 61 ⟨"StartTableModel", "join", "(I)I"⟩ ∈ lw_gd := gd_of (List.mem_append_right _ (List.mem_append_right _ (List.mem_of_getElem? (i := 16) rfl))) rfl
theorem ms_M_join : Cond.instanceMethod ⟨"StartTableModel", "join", "(I)I"⟩ ∈ lw_gd := gd_of (List.mem_append_right _ (List.mem_append_right _ (List.mem_of_getElem? (i := 17) rfl))) rfl
theorem mv_M_join : Cond.selects "StartTableModel" ⟨"StartTableModel", "join", "(I)I"⟩ ⟨"StartTableModel", "join", "(I)I"⟩ ∈ lw_gd := gd_of (List.mem_append_right _ (List.mem_append_right _ (List.mem_of_getElem? (i := 18) rfl))) rfl
theorem ml_M_36 : Cond.methodLink "StartTableModel" 36 ⟨"StartTableModel", "behind", "(I)I"⟩ ∈ lw_gd := gd_of (List.mem_append_right _ (List.mem_append_right _ (List.mem_of_getElem? (i := 20) rfl))) rfl
theorem ms_M_behind : Cond.instanceMethod ⟨"StartTableModel", "behind", "(I)I"⟩ ∈ lw_gd := gd_of (List.mem_append_right _ (List.mem_append_right _ (List.mem_of_getElem? (i := 22) rfl))) rfl
theorem ml_L_65 : Cond.methodLink "StartTableLaw" 65 ⟨"StartTableModel", "make", "(II)I"⟩ ∈ lw_gd := gd_of (List.mem_append_right _ (List.mem_append_right _ (List.mem_of_getElem? (i := 24) rfl))) rfl
theorem ms_M_make : Cond.instanceMethod ⟨"StartTableModel", "make", "(II)I"⟩ ∈ lw_gd := gd_of (List.mem_append_right _ (List.mem_append_right _ (List.mem_of_getElem? (i := 25) rfl))) rfl
theorem mv_M_make : Cond.selects "StartTableModel" ⟨"StartTableModel", "make", "(II)I"⟩ ⟨"StartTableModel", "make", "(II)I"⟩ ∈ lw_gd := gd_of (List.mem_append_right _ (List.mem_append_right _ (List.mem_of_getElem? (i := 26) rfl))) rfl
theorem ml_M_39 : Cond.methodLink "StartTableModel" 39 ⟨"StartTableModel", "pieces", "()I"⟩ ∈ lw_gd := gd_of (List.mem_append_right _ (List.mem_append_right _ (List.mem_of_getElem? (i := 28) rfl))) rfl
theorem ms_M_pieces : Cond.instanceMethod ⟨"StartTableModel", "pieces", "()I"⟩ ∈ lw_gd := gd_of (List.mem_append_right _ (List.mem_append_right _ (List.mem_of_getElem? (i := 30) rfl))) rfl
theorem ml_L_68 : Cond.methodLink "StartTableLaw" 68 ⟨"StartTableModel", "begin", "(I)I"⟩ ∈ lw_gd := gd_of (List.mem_append_right _ (List.mem_append_right _ (List.mem_of_getElem? (i := 32) rfl))) rfl
theorem ms_M_begin : Cond.instanceMethod ⟨"StartTableModel", "begin", "(I)I"⟩ ∈ lw_gd := gd_of (List.mem_append_right _ (List.mem_append_right _ (List.mem_of_getElem? (i := 33) rfl))) rfl
theorem mv_M_begin : Cond.selects "StartTableModel" ⟨"StartTableModel", "begin", "(I)I"⟩ ⟨"StartTableModel", "begin", "(I)I"⟩ ∈ lw_gd := gd_of (List.mem_append_right _ (List.mem_append_right _ (List.mem_of_getElem? (i := 34) rfl))) rfl
theorem ml_L_71 : Cond.methodLink "StartTableLaw" 71 ⟨"StartTableModel", "size", "(I)I"⟩ ∈ lw_gd := gd_of (List.mem_append_right _ (List.mem_append_right _ (List.mem_of_getElem? (i := 36) rfl))) rfl
theorem ms_M_size : Cond.instanceMethod ⟨"StartTableModel", "size", "(I)I"⟩ ∈ lw_gd := gd_of (List.mem_append_right _ (List.mem_append_right _ (List.mem_of_getElem? (i := 37) rfl))) rfl
theorem mv_M_size : Cond.selects "StartTableModel" ⟨"StartTableModel", "size", "(I)I"⟩ ⟨"StartTableModel", "size", "(I)I"⟩ ∈ lw_gd := gd_of (List.mem_append_right _ (List.mem_append_right _ (List.mem_of_getElem? (i := 38) rfl))) rfl
theorem ml_L_74 : Cond.methodLink "StartTableLaw" 74 ⟨"StartTableModel", "start", "(I)I"⟩ ∈ lw_gd := gd_of (List.mem_append_right _ (List.mem_append_right _ (List.mem_of_getElem? (i := 40) rfl))) rfl
theorem ms_M_start : Cond.instanceMethod ⟨"StartTableModel", "start", "(I)I"⟩ ∈ lw_gd := gd_of (List.mem_append_right _ (List.mem_append_right _ (List.mem_of_getElem? (i := 41) rfl))) rfl
theorem mv_M_start : Cond.selects "StartTableModel" ⟨"StartTableModel", "start", "(I)I"⟩ ⟨"StartTableModel", "start", "(I)I"⟩ ∈ lw_gd := gd_of (List.mem_append_right _ (List.mem_append_right _ (List.mem_of_getElem? (i := 42) rfl))) rfl
theorem ml_M_42 : Cond.methodLink "StartTableModel" 42 ⟨"StartTableModel", "isCard", "(I)Z"⟩ ∈ lw_gd := gd_of (List.mem_append_right _ (List.mem_append_right _ (List.mem_of_getElem? (i := 44) rfl))) rfl
theorem ms_M_isCard : Cond.instanceMethod ⟨"StartTableModel", "isCard", "(I)Z"⟩ ∈ lw_gd := gd_of (List.mem_append_right _ (List.mem_append_right _ (List.mem_of_getElem? (i := 46) rfl))) rfl
theorem ml_M_20 : Cond.methodLink "StartTableModel" 20 ⟨"StartTableModel", "cards", "()I"⟩ ∈ lw_gd := gd_of (List.mem_append_right _ (List.mem_append_right _ (List.mem_of_getElem? (i := 48) rfl))) rfl
theorem ms_M_cards : Cond.instanceMethod ⟨"StartTableModel", "cards", "()I"⟩ ∈ lw_gd := gd_of (List.mem_append_right _ (List.mem_append_right _ (List.mem_of_getElem? (i := 50) rfl))) rfl
theorem ml_L_77 : Cond.methodLink "StartTableLaw" 77 ⟨"StartTableModel", "begins", "(I)I"⟩ ∈ lw_gd := gd_of (List.mem_append_right _ (List.mem_append_right _ (List.mem_of_getElem? (i := 52) rfl))) rfl
theorem ms_M_begins : Cond.instanceMethod ⟨"StartTableModel", "begins", "(I)I"⟩ ∈ lw_gd := gd_of (List.mem_append_right _ (List.mem_append_right _ (List.mem_of_getElem? (i := 53) rfl))) rfl
theorem mv_M_begins : Cond.selects "StartTableModel" ⟨"StartTableModel", "begins", "(I)I"⟩ ⟨"StartTableModel", "begins", "(I)I"⟩ ∈ lw_gd := gd_of (List.mem_append_right _ (List.mem_append_right _ (List.mem_of_getElem? (i := 54) rfl))) rfl
theorem ml_L_80 : Cond.methodLink "StartTableLaw" 80 ⟨"StartTableModel", "count", "(I)I"⟩ ∈ lw_gd := gd_of (List.mem_append_right _ (List.mem_append_right _ (List.mem_of_getElem? (i := 56) rfl))) rfl
theorem ms_M_count : Cond.instanceMethod ⟨"StartTableModel", "count", "(I)I"⟩ ∈ lw_gd := gd_of (List.mem_append_right _ (List.mem_append_right _ (List.mem_of_getElem? (i := 57) rfl))) rfl
theorem mv_M_count : Cond.selects "StartTableModel" ⟨"StartTableModel", "count", "(I)I"⟩ ⟨"StartTableModel", "count", "(I)I"⟩ ∈ lw_gd := gd_of (List.mem_append_right _ (List.mem_append_right _ (List.mem_of_getElem? (i := 58) rfl))) rfl
theorem ma_long : Cond.arrayClass .long ∈ lw_gd := gd_of (List.mem_append_right _ (List.mem_append_right _ (List.mem_of_getElem? (i := 60) rfl))) rfl
theorem mv_T_piece : Cond.selects "StartTable" ⟨"StartTable", "piece", "(II)V"⟩ ⟨"StartTable", "piece", "(II)V"⟩ ∈ lw_gd := gd_of (List.mem_append_left _ (List.mem_of_getElem? (i := 0) rfl)) rfl
theorem mv_T_cell : Cond.selects "StartTable" ⟨"StartTable", "cell", "(I)V"⟩ ⟨"StartTable", "cell", "(I)V"⟩ ∈ lw_gd := gd_of (List.mem_append_left _ (List.mem_of_getElem? (i := 2) rfl)) rfl
theorem mv_T_over : Cond.selects "StartTable" ⟨"StartTable", "over", "(I)I"⟩ ⟨"StartTable", "over", "(I)I"⟩ ∈ lw_gd := gd_of (List.mem_append_left _ (List.mem_of_getElem? (i := 3) rfl)) rfl
theorem mv_T_card : Cond.selects "StartTable" ⟨"StartTable", "card", "(I)V"⟩ ⟨"StartTable", "card", "(I)V"⟩ ∈ lw_gd := gd_of (List.mem_append_left _ (List.mem_of_getElem? (i := 4) rfl)) rfl
theorem mv_T_extreme : Cond.selects "StartTable" ⟨"StartTable", "extreme", "(Z)I"⟩ ⟨"StartTable", "extreme", "(Z)I"⟩ ∈ lw_gd := gd_of (List.mem_append_left _ (List.mem_of_getElem? (i := 5) rfl)) rfl
theorem mv_M_goes : Cond.selects "StartTableModel" ⟨"StartTableModel", "goes", "(Z)Z"⟩ ⟨"StartTableModel", "goes", "(Z)Z"⟩ ∈ lw_gd := gd_of (List.mem_append_left _ (List.mem_of_getElem? (i := 6) rfl)) rfl
theorem mv_M_isCell : Cond.selects "StartTableModel" ⟨"StartTableModel", "isCell", "(I)Z"⟩ ⟨"StartTableModel", "isCell", "(I)Z"⟩ ∈ lw_gd := gd_of (List.mem_append_left _ (List.mem_of_getElem? (i := 7) rfl)) rfl
theorem mv_M_from : Cond.selects "StartTableModel" ⟨"StartTableModel", "from", "(I)I"⟩ ⟨"StartTableModel", "from", "(I)I"⟩ ∈ lw_gd := gd_of (List.mem_append_left _ (List.mem_of_getElem? (i := 8) rfl)) rfl
theorem mv_M_behind : Cond.selects "StartTableModel" ⟨"StartTableModel", "behind", "(I)I"⟩ ⟨"StartTableModel", "behind", "(I)I"⟩ ∈ lw_gd := gd_of (List.mem_append_left _ (List.mem_of_getElem? (i := 9) rfl)) rfl
theorem mv_M_pieces : Cond.selects "StartTableModel" ⟨"StartTableModel", "pieces", "()I"⟩ ⟨"StartTableModel", "pieces", "()I"⟩ ∈ lw_gd := gd_of (List.mem_append_left _ (List.mem_of_getElem? (i := 10) rfl)) rfl
theorem mv_M_isCard : Cond.selects "StartTableModel" ⟨"StartTableModel", "isCard", "(I)Z"⟩ ⟨"StartTableModel", "isCard", "(I)Z"⟩ ∈ lw_gd := gd_of (List.mem_append_left _ (List.mem_of_getElem? (i := 11) rfl)) rfl
theorem mv_M_cards : Cond.selects "StartTableModel" ⟨"StartTableModel", "cards", "()I"⟩ ⟨"StartTableModel", "cards", "()I"⟩ ∈ lw_gd := gd_of (List.mem_append_left _ (List.mem_of_getElem? (i := 12) rfl)) rfl
end
section
theorem d_T_init_0 : decode b_T_init 0 = .ok (.aload_n 0, 1) := by decide +kernel
theorem d_T_init_1 : decode b_T_init 1 = .ok (.invokespecial 1, 3) := by decide +kernel
theorem d_T_init_4 : decode b_T_init 4 = .ok (.aload_n 0, 1) := by decide +kernel
theorem d_T_init_5 : decode b_T_init 5 = .ok (.new 7, 3) := by decide +kernel
theorem d_T_init_8 : decode b_T_init 8 = .ok (.dup, 1) := by decide +kernel
theorem d_T_init_9 : decode b_T_init 9 = .ok (.sipush 16384, 3) := by decide +kernel
theorem d_T_init_12 : decode b_T_init 12 = .ok (.invokespecial 11, 3) := by decide +kernel
theorem d_T_init_15 : decode b_T_init 15 = .ok (.putfield 14, 3) := by decide +kernel
theorem d_T_init_18 : decode b_T_init 18 = .ok (.aload_n 0, 1) := by decide +kernel
theorem d_T_init_19 : decode b_T_init 19 = .ok (.sipush 16384, 3) := by decide +kernel
theorem d_T_init_22 : decode b_T_init 22 = .ok (.newarray .int, 2) := by decide +kernel
theorem d_T_init_24 : decode b_T_init 24 = .ok (.putfield 18, 3) := by decide +kernel
theorem d_T_init_27 : decode b_T_init 27 = .ok (.aload_n 0, 1) := by decide +kernel
theorem d_T_init_28 : decode b_T_init 28 = .ok (.sipush 1024, 3) := by decide +kernel
theorem d_T_init_31 : decode b_T_init 31 = .ok (.putfield 22, 3) := by decide +kernel
theorem d_T_init_34 : decode b_T_init 34 = .ok (.aload_n 0, 1) := by decide +kernel
theorem d_T_init_35 : decode b_T_init 35 = .ok (.iconst 1, 1) := by decide +kernel
theorem d_T_init_36 : decode b_T_init 36 = .ok (.putfield 26, 3) := by decide +kernel
theorem d_T_init_39 : decode b_T_init 39 = .ok (.aload_n 0, 1) := by decide +kernel
theorem d_T_init_40 : decode b_T_init 40 = .ok (.iconst 0, 1) := by decide +kernel
theorem d_T_init_41 : decode b_T_init 41 = .ok (.aload_n 0, 1) := by decide +kernel
theorem d_T_init_42 : decode b_T_init 42 = .ok (.getfield 22, 3) := by decide +kernel
theorem d_T_init_45 : decode b_T_init 45 = .ok (.invokevirtual 29, 3) := by decide +kernel
theorem d_T_init_48 : decode b_T_init 48 = .ok (.return_, 1) := by decide +kernel
theorem d_T_piece_0 : decode b_T_piece 0 = .ok (.aload_n 0, 1) := by decide +kernel
theorem d_T_piece_1 : decode b_T_piece 1 = .ok (.getfield 18, 3) := by decide +kernel
theorem d_T_piece_4 : decode b_T_piece 4 = .ok (.iload_n 1, 1) := by decide +kernel
theorem d_T_piece_5 : decode b_T_piece 5 = .ok (.iload_n 2, 1) := by decide +kernel
theorem d_T_piece_6 : decode b_T_piece 6 = .ok (.iastore, 1) := by decide +kernel
theorem d_T_piece_7 : decode b_T_piece 7 = .ok (.aload_n 0, 1) := by decide +kernel
theorem d_T_piece_8 : decode b_T_piece 8 = .ok (.getfield 14, 3) := by decide +kernel
theorem d_T_piece_11 : decode b_T_piece 11 = .ok (.iload_n 1, 1) := by decide +kernel
theorem d_T_piece_12 : decode b_T_piece 12 = .ok (.iload_n 2, 1) := by decide +kernel
theorem d_T_piece_13 : decode b_T_piece 13 = .ok (.invokevirtual 33, 3) := by decide +kernel
theorem d_T_piece_16 : decode b_T_piece 16 = .ok (.return_, 1) := by decide +kernel
theorem d_T_space_0 : decode b_T_space 0 = .ok (.iload_n 1, 1) := by decide +kernel
theorem d_T_space_1 : decode b_T_space 1 = .ok (.iconst 1, 1) := by decide +kernel
theorem d_T_space_2 : decode b_T_space 2 = .ok (.if_icmp .lt 10, 3) := by decide +kernel
theorem d_T_space_5 : decode b_T_space 5 = .ok (.iload_n 1, 1) := by decide +kernel
theorem d_T_space_6 : decode b_T_space 6 = .ok (.sipush 16384, 3) := by decide +kernel
theorem d_T_space_9 : decode b_T_space 9 = .ok (.if_icmp .le 11, 3) := by decide +kernel
theorem d_T_space_12 : decode b_T_space 12 = .ok (.new 36, 3) := by decide +kernel
theorem d_T_space_15 : decode b_T_space 15 = .ok (.dup, 1) := by decide +kernel
theorem d_T_space_16 : decode b_T_space 16 = .ok (.invokespecial 38, 3) := by decide +kernel
theorem d_T_space_19 : decode b_T_space 19 = .ok (.athrow, 1) := by decide +kernel
theorem d_T_space_20 : decode b_T_space 20 = .ok (.aload_n 0, 1) := by decide +kernel
theorem d_T_space_21 : decode b_T_space 21 = .ok (.getfield 22, 3) := by decide +kernel
theorem d_T_space_24 : decode b_T_space 24 = .ok (.istore_n 2, 1) := by decide +kernel
theorem d_T_space_25 : decode b_T_space 25 = .ok (.aload_n 0, 1) := by decide +kernel
theorem d_T_space_26 : decode b_T_space 26 = .ok (.iload_n 1, 1) := by decide +kernel
theorem d_T_space_27 : decode b_T_space 27 = .ok (.putfield 22, 3) := by decide +kernel
theorem d_T_space_30 : decode b_T_space 30 = .ok (.aload_n 0, 1) := by decide +kernel
theorem d_T_space_31 : decode b_T_space 31 = .ok (.iconst 1, 1) := by decide +kernel
theorem d_T_space_32 : decode b_T_space 32 = .ok (.putfield 26, 3) := by decide +kernel
theorem d_T_space_35 : decode b_T_space 35 = .ok (.aload_n 0, 1) := by decide +kernel
theorem d_T_space_36 : decode b_T_space 36 = .ok (.iconst 0, 1) := by decide +kernel
theorem d_T_space_37 : decode b_T_space 37 = .ok (.iload_n 1, 1) := by decide +kernel
theorem d_T_space_38 : decode b_T_space 38 = .ok (.invokevirtual 29, 3) := by decide +kernel
theorem d_T_space_41 : decode b_T_space 41 = .ok (.iload_n 2, 1) := by decide +kernel
theorem d_T_space_42 : decode b_T_space 42 = .ok (.ireturn, 1) := by decide +kernel
theorem d_T_in_0 : decode b_T_in 0 = .ok (.iload_n 0, 1) := by decide +kernel
theorem d_T_in_1 : decode b_T_in 1 = .ok (.ifCond .ne 11, 3) := by decide +kernel
theorem d_T_in_4 : decode b_T_in 4 = .ok (.new 39, 3) := by decide +kernel
theorem d_T_in_7 : decode b_T_in 7 = .ok (.dup, 1) := by decide +kernel
theorem d_T_in_8 : decode b_T_in 8 = .ok (.invokespecial 41, 3) := by decide +kernel
theorem d_T_in_11 : decode b_T_in 11 = .ok (.athrow, 1) := by decide +kernel
theorem d_T_in_12 : decode b_T_in 12 = .ok (.return_, 1) := by decide +kernel
theorem d_T_cell_0 : decode b_T_cell 0 = .ok (.iload_n 1, 1) := by decide +kernel
theorem d_T_cell_1 : decode b_T_cell 1 = .ok (.ifCond .lt 15, 3) := by decide +kernel
theorem d_T_cell_4 : decode b_T_cell 4 = .ok (.iload_n 1, 1) := by decide +kernel
theorem d_T_cell_5 : decode b_T_cell 5 = .ok (.aload_n 0, 1) := by decide +kernel
theorem d_T_cell_6 : decode b_T_cell 6 = .ok (.getfield 22, 3) := by decide +kernel
theorem d_T_cell_9 : decode b_T_cell 9 = .ok (.if_icmp .ge 7, 3) := by decide +kernel
theorem d_T_cell_12 : decode b_T_cell 12 = .ok (.iconst 1, 1) := by decide +kernel
theorem d_T_cell_13 : decode b_T_cell 13 = .ok (.goto 4, 3) := by decide +kernel
theorem d_T_cell_16 : decode b_T_cell 16 = .ok (.iconst 0, 1) := by decide +kernel
theorem d_T_cell_17 : decode b_T_cell 17 = .ok (.invokestatic 42, 3) := by decide +kernel
theorem d_T_cell_20 : decode b_T_cell 20 = .ok (.return_, 1) := by decide +kernel
theorem d_T_over_0 : decode b_T_over 0 = .ok (.aload_n 0, 1) := by decide +kernel
theorem d_T_over_1 : decode b_T_over 1 = .ok (.getfield 14, 3) := by decide +kernel
theorem d_T_over_4 : decode b_T_over 4 = .ok (.iload_n 1, 1) := by decide +kernel
theorem d_T_over_5 : decode b_T_over 5 = .ok (.iconst 5, 1) := by decide +kernel
theorem d_T_over_6 : decode b_T_over 6 = .ok (.ishr, 1) := by decide +kernel
theorem d_T_over_7 : decode b_T_over 7 = .ok (.invokevirtual 46, 3) := by decide +kernel
theorem d_T_over_10 : decode b_T_over 10 = .ok (.istore_n 2, 1) := by decide +kernel
theorem d_T_over_11 : decode b_T_over 11 = .ok (.iload_n 2, 1) := by decide +kernel
theorem d_T_over_12 : decode b_T_over 12 = .ok (.aload_n 0, 1) := by decide +kernel
theorem d_T_over_13 : decode b_T_over 13 = .ok (.getfield 18, 3) := by decide +kernel
theorem d_T_over_16 : decode b_T_over 16 = .ok (.iload_n 2, 1) := by decide +kernel
theorem d_T_over_17 : decode b_T_over 17 = .ok (.iaload, 1) := by decide +kernel
theorem d_T_over_18 : decode b_T_over 18 = .ok (.iadd, 1) := by decide +kernel
theorem d_T_over_19 : decode b_T_over 19 = .ok (.iload_n 1, 1) := by decide +kernel
theorem d_T_over_20 : decode b_T_over 20 = .ok (.if_icmp .gt 15, 3) := by decide +kernel
theorem d_T_over_23 : decode b_T_over 23 = .ok (.iload_n 2, 1) := by decide +kernel
theorem d_T_over_24 : decode b_T_over 24 = .ok (.aload_n 0, 1) := by decide +kernel
theorem d_T_over_25 : decode b_T_over 25 = .ok (.getfield 18, 3) := by decide +kernel
theorem d_T_over_28 : decode b_T_over 28 = .ok (.iload_n 2, 1) := by decide +kernel
theorem d_T_over_29 : decode b_T_over 29 = .ok (.iaload, 1) := by decide +kernel
theorem d_T_over_30 : decode b_T_over 30 = .ok (.iadd, 1) := by decide +kernel
theorem d_T_over_31 : decode b_T_over 31 = .ok (.istore_n 2, 1) := by decide +kernel
theorem d_T_over_32 : decode b_T_over 32 = .ok (.goto (-21), 3) := by decide +kernel
theorem d_T_over_35 : decode b_T_over 35 = .ok (.iload_n 2, 1) := by decide +kernel
theorem d_T_over_36 : decode b_T_over 36 = .ok (.ireturn, 1) := by decide +kernel
theorem d_T_cut_0 : decode b_T_cut 0 = .ok (.aload_n 0, 1) := by decide +kernel
theorem d_T_cut_1 : decode b_T_cut 1 = .ok (.iload_n 1, 1) := by decide +kernel
theorem d_T_cut_2 : decode b_T_cut 2 = .ok (.invokevirtual 50, 3) := by decide +kernel
theorem d_T_cut_5 : decode b_T_cut 5 = .ok (.aload_n 0, 1) := by decide +kernel
theorem d_T_cut_6 : decode b_T_cut 6 = .ok (.iload_n 1, 1) := by decide +kernel
theorem d_T_cut_7 : decode b_T_cut 7 = .ok (.invokevirtual 53, 3) := by decide +kernel
theorem d_T_cut_10 : decode b_T_cut 10 = .ok (.istore_n 2, 1) := by decide +kernel
theorem d_T_cut_11 : decode b_T_cut 11 = .ok (.aload_n 0, 1) := by decide +kernel
theorem d_T_cut_12 : decode b_T_cut 12 = .ok (.getfield 18, 3) := by decide +kernel
theorem d_T_cut_15 : decode b_T_cut 15 = .ok (.iload_n 2, 1) := by decide +kernel
theorem d_T_cut_16 : decode b_T_cut 16 = .ok (.iaload, 1) := by decide +kernel
theorem d_T_cut_17 : decode b_T_cut 17 = .ok (.istore_n 3, 1) := by decide +kernel
theorem d_T_cut_18 : decode b_T_cut 18 = .ok (.iload_n 2, 1) := by decide +kernel
theorem d_T_cut_19 : decode b_T_cut 19 = .ok (.iload_n 1, 1) := by decide +kernel
theorem d_T_cut_20 : decode b_T_cut 20 = .ok (.if_icmp .ne 5, 3) := by decide +kernel
theorem d_T_cut_23 : decode b_T_cut 23 = .ok (.iconst 0, 1) := by decide +kernel
theorem d_T_cut_24 : decode b_T_cut 24 = .ok (.ireturn, 1) := by decide +kernel
theorem d_T_cut_25 : decode b_T_cut 25 = .ok (.aload_n 0, 1) := by decide +kernel
theorem d_T_cut_26 : decode b_T_cut 26 = .ok (.iload_n 2, 1) := by decide +kernel
theorem d_T_cut_27 : decode b_T_cut 27 = .ok (.iload_n 1, 1) := by decide +kernel
theorem d_T_cut_28 : decode b_T_cut 28 = .ok (.iload_n 2, 1) := by decide +kernel
theorem d_T_cut_29 : decode b_T_cut 29 = .ok (.isub, 1) := by decide +kernel
theorem d_T_cut_30 : decode b_T_cut 30 = .ok (.invokevirtual 29, 3) := by decide +kernel
theorem d_T_cut_33 : decode b_T_cut 33 = .ok (.aload_n 0, 1) := by decide +kernel
theorem d_T_cut_34 : decode b_T_cut 34 = .ok (.iload_n 1, 1) := by decide +kernel
theorem d_T_cut_35 : decode b_T_cut 35 = .ok (.iload_n 2, 1) := by decide +kernel
theorem d_T_cut_36 : decode b_T_cut 36 = .ok (.iload_n 3, 1) := by decide +kernel
theorem d_T_cut_37 : decode b_T_cut 37 = .ok (.iadd, 1) := by decide +kernel
theorem d_T_cut_38 : decode b_T_cut 38 = .ok (.iload_n 1, 1) := by decide +kernel
theorem d_T_cut_39 : decode b_T_cut 39 = .ok (.isub, 1) := by decide +kernel
theorem d_T_cut_40 : decode b_T_cut 40 = .ok (.invokevirtual 29, 3) := by decide +kernel
theorem d_T_cut_43 : decode b_T_cut 43 = .ok (.aload_n 0, 1) := by decide +kernel
theorem d_T_cut_44 : decode b_T_cut 44 = .ok (.dup, 1) := by decide +kernel
theorem d_T_cut_45 : decode b_T_cut 45 = .ok (.getfield 26, 3) := by decide +kernel
theorem d_T_cut_48 : decode b_T_cut 48 = .ok (.iconst 1, 1) := by decide +kernel
theorem d_T_cut_49 : decode b_T_cut 49 = .ok (.iadd, 1) := by decide +kernel
theorem d_T_cut_50 : decode b_T_cut 50 = .ok (.putfield 26, 3) := by decide +kernel
theorem d_T_cut_53 : decode b_T_cut 53 = .ok (.iload_n 1, 1) := by decide +kernel
theorem d_T_cut_54 : decode b_T_cut 54 = .ok (.iload_n 2, 1) := by decide +kernel
theorem d_T_cut_55 : decode b_T_cut 55 = .ok (.isub, 1) := by decide +kernel
theorem d_T_cut_56 : decode b_T_cut 56 = .ok (.ireturn, 1) := by decide +kernel
theorem d_T_join_0 : decode b_T_join 0 = .ok (.aload_n 0, 1) := by decide +kernel
theorem d_T_join_1 : decode b_T_join 1 = .ok (.iload_n 1, 1) := by decide +kernel
theorem d_T_join_2 : decode b_T_join 2 = .ok (.invokevirtual 50, 3) := by decide +kernel
theorem d_T_join_5 : decode b_T_join 5 = .ok (.aload_n 0, 1) := by decide +kernel
theorem d_T_join_6 : decode b_T_join 6 = .ok (.iload_n 1, 1) := by decide +kernel
theorem d_T_join_7 : decode b_T_join 7 = .ok (.invokevirtual 53, 3) := by decide +kernel
theorem d_T_join_10 : decode b_T_join 10 = .ok (.istore_n 2, 1) := by decide +kernel
theorem d_T_join_11 : decode b_T_join 11 = .ok (.iload_n 2, 1) := by decide +kernel
theorem d_T_join_12 : decode b_T_join 12 = .ok (.aload_n 0, 1) := by decide +kernel
theorem d_T_join_13 : decode b_T_join 13 = .ok (.getfield 18, 3) := by decide +kernel
theorem d_T_join_16 : decode b_T_join 16 = .ok (.iload_n 2, 1) := by decide +kernel
theorem d_T_join_17 : decode b_T_join 17 = .ok (.iaload, 1) := by decide +kernel
theorem d_T_join_18 : decode b_T_join 18 = .ok (.iadd, 1) := by decide +kernel
theorem d_T_join_19 : decode b_T_join 19 = .ok (.istore_n 3, 1) := by decide +kernel
theorem d_T_join_20 : decode b_T_join 20 = .ok (.iload_n 3, 1) := by decide +kernel
theorem d_T_join_21 : decode b_T_join 21 = .ok (.aload_n 0, 1) := by decide +kernel
theorem d_T_join_22 : decode b_T_join 22 = .ok (.getfield 22, 3) := by decide +kernel
theorem d_T_join_25 : decode b_T_join 25 = .ok (.if_icmp .ne 5, 3) := by decide +kernel
theorem d_T_join_28 : decode b_T_join 28 = .ok (.iconst 0, 1) := by decide +kernel
theorem d_T_join_29 : decode b_T_join 29 = .ok (.ireturn, 1) := by decide +kernel
theorem d_T_join_30 : decode b_T_join 30 = .ok (.aload_n 0, 1) := by decide +kernel
theorem d_T_join_31 : decode b_T_join 31 = .ok (.iload_n 2, 1) := by decide +kernel
theorem d_T_join_32 : decode b_T_join 32 = .ok (.aload_n 0, 1) := by decide +kernel
theorem d_T_join_33 : decode b_T_join 33 = .ok (.getfield 18, 3) := by decide +kernel
theorem d_T_join_36 : decode b_T_join 36 = .ok (.iload_n 2, 1) := by decide +kernel
theorem d_T_join_37 : decode b_T_join 37 = .ok (.iaload, 1) := by decide +kernel
theorem d_T_join_38 : decode b_T_join 38 = .ok (.aload_n 0, 1) := by decide +kernel
theorem d_T_join_39 : decode b_T_join 39 = .ok (.getfield 18, 3) := by decide +kernel
theorem d_T_join_42 : decode b_T_join 42 = .ok (.iload_n 3, 1) := by decide +kernel
theorem d_T_join_43 : decode b_T_join 43 = .ok (.iaload, 1) := by decide +kernel
theorem d_T_join_44 : decode b_T_join 44 = .ok (.iadd, 1) := by decide +kernel
theorem d_T_join_45 : decode b_T_join 45 = .ok (.invokevirtual 29, 3) := by decide +kernel
theorem d_T_join_48 : decode b_T_join 48 = .ok (.aload_n 0, 1) := by decide +kernel
theorem d_T_join_49 : decode b_T_join 49 = .ok (.dup, 1) := by decide +kernel
theorem d_T_join_50 : decode b_T_join 50 = .ok (.getfield 26, 3) := by decide +kernel
theorem d_T_join_53 : decode b_T_join 53 = .ok (.iconst 1, 1) := by decide +kernel
theorem d_T_join_54 : decode b_T_join 54 = .ok (.isub, 1) := by decide +kernel
theorem d_T_join_55 : decode b_T_join 55 = .ok (.putfield 26, 3) := by decide +kernel
theorem d_T_join_58 : decode b_T_join 58 = .ok (.aload_n 0, 1) := by decide +kernel
theorem d_T_join_59 : decode b_T_join 59 = .ok (.getfield 18, 3) := by decide +kernel
theorem d_T_join_62 : decode b_T_join 62 = .ok (.iload_n 2, 1) := by decide +kernel
theorem d_T_join_63 : decode b_T_join 63 = .ok (.iaload, 1) := by decide +kernel
theorem d_T_join_64 : decode b_T_join 64 = .ok (.ireturn, 1) := by decide +kernel
theorem d_T_make_0 : decode b_T_make 0 = .ok (.aload_n 0, 1) := by decide +kernel
theorem d_T_make_1 : decode b_T_make 1 = .ok (.iload_n 1, 1) := by decide +kernel
theorem d_T_make_2 : decode b_T_make 2 = .ok (.invokevirtual 50, 3) := by decide +kernel
theorem d_T_make_5 : decode b_T_make 5 = .ok (.iload_n 2, 1) := by decide +kernel
theorem d_T_make_6 : decode b_T_make 6 = .ok (.iload_n 1, 1) := by decide +kernel
theorem d_T_make_7 : decode b_T_make 7 = .ok (.if_icmp .le 15, 3) := by decide +kernel
theorem d_T_make_10 : decode b_T_make 10 = .ok (.iload_n 2, 1) := by decide +kernel
theorem d_T_make_11 : decode b_T_make 11 = .ok (.aload_n 0, 1) := by decide +kernel
theorem d_T_make_12 : decode b_T_make 12 = .ok (.getfield 22, 3) := by decide +kernel
theorem d_T_make_15 : decode b_T_make 15 = .ok (.if_icmp .gt 7, 3) := by decide +kernel
theorem d_T_make_18 : decode b_T_make 18 = .ok (.iconst 1, 1) := by decide +kernel
theorem d_T_make_19 : decode b_T_make 19 = .ok (.goto 4, 3) := by decide +kernel
theorem d_T_make_22 : decode b_T_make 22 = .ok (.iconst 0, 1) := by decide +kernel
theorem d_T_make_23 : decode b_T_make 23 = .ok (.invokestatic 42, 3) := by decide +kernel
theorem d_T_make_26 : decode b_T_make 26 = .ok (.aload_n 0, 1) := by decide +kernel
theorem d_T_make_27 : decode b_T_make 27 = .ok (.iload_n 1, 1) := by decide +kernel
theorem d_T_make_28 : decode b_T_make 28 = .ok (.invokevirtual 56, 3) := by decide +kernel
theorem d_T_make_31 : decode b_T_make 31 = .ok (.pop, 1) := by decide +kernel
theorem d_T_make_32 : decode b_T_make 32 = .ok (.iload_n 2, 1) := by decide +kernel
theorem d_T_make_33 : decode b_T_make 33 = .ok (.aload_n 0, 1) := by decide +kernel
theorem d_T_make_34 : decode b_T_make 34 = .ok (.getfield 22, 3) := by decide +kernel
theorem d_T_make_37 : decode b_T_make 37 = .ok (.if_icmp .ge 9, 3) := by decide +kernel
theorem d_T_make_40 : decode b_T_make 40 = .ok (.aload_n 0, 1) := by decide +kernel
theorem d_T_make_41 : decode b_T_make 41 = .ok (.iload_n 2, 1) := by decide +kernel
theorem d_T_make_42 : decode b_T_make 42 = .ok (.invokevirtual 56, 3) := by decide +kernel
theorem d_T_make_45 : decode b_T_make 45 = .ok (.pop, 1) := by decide +kernel
theorem d_T_make_46 : decode b_T_make 46 = .ok (.iload_n 1, 1) := by decide +kernel
theorem d_T_make_47 : decode b_T_make 47 = .ok (.aload_n 0, 1) := by decide +kernel
theorem d_T_make_48 : decode b_T_make 48 = .ok (.getfield 18, 3) := by decide +kernel
theorem d_T_make_51 : decode b_T_make 51 = .ok (.iload_n 1, 1) := by decide +kernel
theorem d_T_make_52 : decode b_T_make 52 = .ok (.iaload, 1) := by decide +kernel
theorem d_T_make_53 : decode b_T_make 53 = .ok (.iadd, 1) := by decide +kernel
theorem d_T_make_54 : decode b_T_make 54 = .ok (.istore_n 3, 1) := by decide +kernel
theorem d_T_make_55 : decode b_T_make 55 = .ok (.iload_n 3, 1) := by decide +kernel
theorem d_T_make_56 : decode b_T_make 56 = .ok (.iload_n 2, 1) := by decide +kernel
theorem d_T_make_57 : decode b_T_make 57 = .ok (.if_icmp .ge 25, 3) := by decide +kernel
theorem d_T_make_60 : decode b_T_make 60 = .ok (.aload_n 0, 1) := by decide +kernel
theorem d_T_make_61 : decode b_T_make 61 = .ok (.dup, 1) := by decide +kernel
theorem d_T_make_62 : decode b_T_make 62 = .ok (.getfield 26, 3) := by decide +kernel
theorem d_T_make_65 : decode b_T_make 65 = .ok (.iconst 1, 1) := by decide +kernel
theorem d_T_make_66 : decode b_T_make 66 = .ok (.isub, 1) := by decide +kernel
theorem d_T_make_67 : decode b_T_make 67 = .ok (.putfield 26, 3) := by decide +kernel
theorem d_T_make_70 : decode b_T_make 70 = .ok (.iload_n 3, 1) := by decide +kernel
theorem d_T_make_71 : decode b_T_make 71 = .ok (.aload_n 0, 1) := by decide +kernel
theorem d_T_make_72 : decode b_T_make 72 = .ok (.getfield 18, 3) := by decide +kernel
theorem d_T_make_75 : decode b_T_make 75 = .ok (.iload_n 3, 1) := by decide +kernel
theorem d_T_make_76 : decode b_T_make 76 = .ok (.iaload, 1) := by decide +kernel
theorem d_T_make_77 : decode b_T_make 77 = .ok (.iadd, 1) := by decide +kernel
theorem d_T_make_78 : decode b_T_make 78 = .ok (.istore_n 3, 1) := by decide +kernel
theorem d_T_make_79 : decode b_T_make 79 = .ok (.goto (-24), 3) := by decide +kernel
theorem d_T_make_82 : decode b_T_make 82 = .ok (.aload_n 0, 1) := by decide +kernel
theorem d_T_make_83 : decode b_T_make 83 = .ok (.iload_n 1, 1) := by decide +kernel
theorem d_T_make_84 : decode b_T_make 84 = .ok (.iload_n 2, 1) := by decide +kernel
theorem d_T_make_85 : decode b_T_make 85 = .ok (.iload_n 1, 1) := by decide +kernel
theorem d_T_make_86 : decode b_T_make 86 = .ok (.isub, 1) := by decide +kernel
theorem d_T_make_87 : decode b_T_make 87 = .ok (.invokevirtual 29, 3) := by decide +kernel
theorem d_T_make_90 : decode b_T_make 90 = .ok (.aload_n 0, 1) := by decide +kernel
theorem d_T_make_91 : decode b_T_make 91 = .ok (.getfield 26, 3) := by decide +kernel
theorem d_T_make_94 : decode b_T_make 94 = .ok (.ireturn, 1) := by decide +kernel
theorem d_T_begin_0 : decode b_T_begin 0 = .ok (.aload_n 0, 1) := by decide +kernel
theorem d_T_begin_1 : decode b_T_begin 1 = .ok (.iload_n 1, 1) := by decide +kernel
theorem d_T_begin_2 : decode b_T_begin 2 = .ok (.invokevirtual 50, 3) := by decide +kernel
theorem d_T_begin_5 : decode b_T_begin 5 = .ok (.aload_n 0, 1) := by decide +kernel
theorem d_T_begin_6 : decode b_T_begin 6 = .ok (.iload_n 1, 1) := by decide +kernel
theorem d_T_begin_7 : decode b_T_begin 7 = .ok (.invokevirtual 53, 3) := by decide +kernel
theorem d_T_begin_10 : decode b_T_begin 10 = .ok (.ireturn, 1) := by decide +kernel
theorem d_T_size_0 : decode b_T_size 0 = .ok (.aload_n 0, 1) := by decide +kernel
theorem d_T_size_1 : decode b_T_size 1 = .ok (.iload_n 1, 1) := by decide +kernel
theorem d_T_size_2 : decode b_T_size 2 = .ok (.invokevirtual 50, 3) := by decide +kernel
theorem d_T_size_5 : decode b_T_size 5 = .ok (.aload_n 0, 1) := by decide +kernel
theorem d_T_size_6 : decode b_T_size 6 = .ok (.getfield 18, 3) := by decide +kernel
theorem d_T_size_9 : decode b_T_size 9 = .ok (.aload_n 0, 1) := by decide +kernel
theorem d_T_size_10 : decode b_T_size 10 = .ok (.iload_n 1, 1) := by decide +kernel
theorem d_T_size_11 : decode b_T_size 11 = .ok (.invokevirtual 53, 3) := by decide +kernel
theorem d_T_size_14 : decode b_T_size 14 = .ok (.iaload, 1) := by decide +kernel
theorem d_T_size_15 : decode b_T_size 15 = .ok (.ireturn, 1) := by decide +kernel
theorem d_T_card_0 : decode b_T_card 0 = .ok (.iload_n 1, 1) := by decide +kernel
theorem d_T_card_1 : decode b_T_card 1 = .ok (.ifCond .lt 20, 3) := by decide +kernel
theorem d_T_card_4 : decode b_T_card 4 = .ok (.iload_n 1, 1) := by decide +kernel
theorem d_T_card_5 : decode b_T_card 5 = .ok (.aload_n 0, 1) := by decide +kernel
theorem d_T_card_6 : decode b_T_card 6 = .ok (.getfield 22, 3) := by decide +kernel
theorem d_T_card_9 : decode b_T_card 9 = .ok (.bipush 31, 2) := by decide +kernel
theorem d_T_card_11 : decode b_T_card 11 = .ok (.iadd, 1) := by decide +kernel
theorem d_T_card_12 : decode b_T_card 12 = .ok (.iconst 5, 1) := by decide +kernel
theorem d_T_card_13 : decode b_T_card 13 = .ok (.ishr, 1) := by decide +kernel
theorem d_T_card_14 : decode b_T_card 14 = .ok (.if_icmp .ge 7, 3) := by decide +kernel
theorem d_T_card_17 : decode b_T_card 17 = .ok (.iconst 1, 1) := by decide +kernel
theorem d_T_card_18 : decode b_T_card 18 = .ok (.goto 4, 3) := by decide +kernel
theorem d_T_card_21 : decode b_T_card 21 = .ok (.iconst 0, 1) := by decide +kernel
theorem d_T_card_22 : decode b_T_card 22 = .ok (.invokestatic 42, 3) := by decide +kernel
theorem d_T_card_25 : decode b_T_card 25 = .ok (.return_, 1) := by decide +kernel
theorem d_T_start_0 : decode b_T_start 0 = .ok (.aload_n 0, 1) := by decide +kernel
theorem d_T_start_1 : decode b_T_start 1 = .ok (.iload_n 1, 1) := by decide +kernel
theorem d_T_start_2 : decode b_T_start 2 = .ok (.invokevirtual 59, 3) := by decide +kernel
theorem d_T_start_5 : decode b_T_start 5 = .ok (.aload_n 0, 1) := by decide +kernel
theorem d_T_start_6 : decode b_T_start 6 = .ok (.getfield 14, 3) := by decide +kernel
theorem d_T_start_9 : decode b_T_start 9 = .ok (.iload_n 1, 1) := by decide +kernel
theorem d_T_start_10 : decode b_T_start 10 = .ok (.invokevirtual 46, 3) := by decide +kernel
theorem d_T_start_13 : decode b_T_start 13 = .ok (.ireturn, 1) := by decide +kernel
theorem d_T_begins_0 : decode b_T_begins 0 = .ok (.aload_n 0, 1) := by decide +kernel
theorem d_T_begins_1 : decode b_T_begins 1 = .ok (.iload_n 1, 1) := by decide +kernel
theorem d_T_begins_2 : decode b_T_begins 2 = .ok (.invokevirtual 59, 3) := by decide +kernel
theorem d_T_begins_5 : decode b_T_begins 5 = .ok (.iload_n 1, 1) := by decide +kernel
theorem d_T_begins_6 : decode b_T_begins 6 = .ok (.iconst 5, 1) := by decide +kernel
theorem d_T_begins_7 : decode b_T_begins 7 = .ok (.ishl, 1) := by decide +kernel
theorem d_T_begins_8 : decode b_T_begins 8 = .ok (.istore_n 2, 1) := by decide +kernel
theorem d_T_begins_9 : decode b_T_begins 9 = .ok (.iload_n 2, 1) := by decide +kernel
theorem d_T_begins_10 : decode b_T_begins 10 = .ok (.bipush 32, 2) := by decide +kernel
theorem d_T_begins_12 : decode b_T_begins 12 = .ok (.iadd, 1) := by decide +kernel
theorem d_T_begins_13 : decode b_T_begins 13 = .ok (.aload_n 0, 1) := by decide +kernel
theorem d_T_begins_14 : decode b_T_begins 14 = .ok (.getfield 22, 3) := by decide +kernel
theorem d_T_begins_17 : decode b_T_begins 17 = .ok (.if_icmp .ge 10, 3) := by decide +kernel
theorem d_T_begins_20 : decode b_T_begins 20 = .ok (.iload_n 2, 1) := by decide +kernel
theorem d_T_begins_21 : decode b_T_begins 21 = .ok (.bipush 32, 2) := by decide +kernel
theorem d_T_begins_23 : decode b_T_begins 23 = .ok (.iadd, 1) := by decide +kernel
theorem d_T_begins_24 : decode b_T_begins 24 = .ok (.goto 7, 3) := by decide +kernel
theorem d_T_begins_27 : decode b_T_begins 27 = .ok (.aload_n 0, 1) := by decide +kernel
theorem d_T_begins_28 : decode b_T_begins 28 = .ok (.getfield 22, 3) := by decide +kernel
theorem d_T_begins_31 : decode b_T_begins 31 = .ok (.istore_n 3, 1) := by decide +kernel
theorem d_T_begins_32 : decode b_T_begins 32 = .ok (.iconst 0, 1) := by decide +kernel
theorem d_T_begins_33 : decode b_T_begins 33 = .ok (.istore 4, 2) := by decide +kernel
theorem d_T_begins_35 : decode b_T_begins 35 = .ok (.aload_n 0, 1) := by decide +kernel
theorem d_T_begins_36 : decode b_T_begins 36 = .ok (.getfield 14, 3) := by decide +kernel
theorem d_T_begins_39 : decode b_T_begins 39 = .ok (.iload_n 1, 1) := by decide +kernel
theorem d_T_begins_40 : decode b_T_begins 40 = .ok (.invokevirtual 46, 3) := by decide +kernel
theorem d_T_begins_43 : decode b_T_begins 43 = .ok (.istore 5, 2) := by decide +kernel
theorem d_T_begins_45 : decode b_T_begins 45 = .ok (.iload 5, 2) := by decide +kernel
theorem d_T_begins_47 : decode b_T_begins 47 = .ok (.iload_n 3, 1) := by decide +kernel
theorem d_T_begins_48 : decode b_T_begins 48 = .ok (.if_icmp .ge 27, 3) := by decide +kernel
theorem d_T_begins_51 : decode b_T_begins 51 = .ok (.iload 5, 2) := by decide +kernel
theorem d_T_begins_53 : decode b_T_begins 53 = .ok (.iload_n 2, 1) := by decide +kernel
theorem d_T_begins_54 : decode b_T_begins 54 = .ok (.if_icmp .lt 6, 3) := by decide +kernel
theorem d_T_begins_57 : decode b_T_begins 57 = .ok (.iinc 4 1, 3) := by decide +kernel
theorem d_T_begins_60 : decode b_T_begins 60 = .ok (.iload 5, 2) := by decide +kernel
theorem d_T_begins_62 : decode b_T_begins 62 = .ok (.aload_n 0, 1) := by decide +kernel
theorem d_T_begins_63 : decode b_T_begins 63 = .ok (.getfield 18, 3) := by decide +kernel
theorem d_T_begins_66 : decode b_T_begins 66 = .ok (.iload 5, 2) := by decide +kernel
theorem d_T_begins_68 : decode b_T_begins 68 = .ok (.iaload, 1) := by decide +kernel
theorem d_T_begins_69 : decode b_T_begins 69 = .ok (.iadd, 1) := by decide +kernel
theorem d_T_begins_70 : decode b_T_begins 70 = .ok (.istore 5, 2) := by decide +kernel
theorem d_T_begins_72 : decode b_T_begins 72 = .ok (.goto (-27), 3) := by decide +kernel
theorem d_T_begins_75 : decode b_T_begins 75 = .ok (.iload 4, 2) := by decide +kernel
theorem d_T_begins_77 : decode b_T_begins 77 = .ok (.ireturn, 1) := by decide +kernel
theorem d_T_extreme_0 : decode b_T_extreme 0 = .ok (.aload_n 0, 1) := by decide +kernel
theorem d_T_extreme_1 : decode b_T_extreme 1 = .ok (.getfield 18, 3) := by decide +kernel
theorem d_T_extreme_4 : decode b_T_extreme 4 = .ok (.iconst 0, 1) := by decide +kernel
theorem d_T_extreme_5 : decode b_T_extreme 5 = .ok (.iaload, 1) := by decide +kernel
theorem d_T_extreme_6 : decode b_T_extreme 6 = .ok (.istore_n 2, 1) := by decide +kernel
theorem d_T_extreme_7 : decode b_T_extreme 7 = .ok (.iconst 0, 1) := by decide +kernel
theorem d_T_extreme_8 : decode b_T_extreme 8 = .ok (.istore_n 3, 1) := by decide +kernel
theorem d_T_extreme_9 : decode b_T_extreme 9 = .ok (.iload_n 3, 1) := by decide +kernel
theorem d_T_extreme_10 : decode b_T_extreme 10 = .ok (.aload_n 0, 1) := by decide +kernel
theorem d_T_extreme_11 : decode b_T_extreme 11 = .ok (.getfield 22, 3) := by decide +kernel
theorem d_T_extreme_14 : decode b_T_extreme 14 = .ok (.if_icmp .ge 49, 3) := by decide +kernel
theorem d_T_extreme_17 : decode b_T_extreme 17 = .ok (.iload_n 1, 1) := by decide +kernel
theorem d_T_extreme_18 : decode b_T_extreme 18 = .ok (.ifCond .eq 16, 3) := by decide +kernel
theorem d_T_extreme_21 : decode b_T_extreme 21 = .ok (.aload_n 0, 1) := by decide +kernel
theorem d_T_extreme_22 : decode b_T_extreme 22 = .ok (.getfield 18, 3) := by decide +kernel
theorem d_T_extreme_25 : decode b_T_extreme 25 = .ok (.iload_n 3, 1) := by decide +kernel
theorem d_T_extreme_26 : decode b_T_extreme 26 = .ok (.iaload, 1) := by decide +kernel
theorem d_T_extreme_27 : decode b_T_extreme 27 = .ok (.iload_n 2, 1) := by decide +kernel
theorem d_T_extreme_28 : decode b_T_extreme 28 = .ok (.if_icmp .le 23, 3) := by decide +kernel
theorem d_T_extreme_31 : decode b_T_extreme 31 = .ok (.goto 13, 3) := by decide +kernel
theorem d_T_extreme_34 : decode b_T_extreme 34 = .ok (.aload_n 0, 1) := by decide +kernel
theorem d_T_extreme_35 : decode b_T_extreme 35 = .ok (.getfield 18, 3) := by decide +kernel
theorem d_T_extreme_38 : decode b_T_extreme 38 = .ok (.iload_n 3, 1) := by decide +kernel
theorem d_T_extreme_39 : decode b_T_extreme 39 = .ok (.iaload, 1) := by decide +kernel
theorem d_T_extreme_40 : decode b_T_extreme 40 = .ok (.iload_n 2, 1) := by decide +kernel
theorem d_T_extreme_41 : decode b_T_extreme 41 = .ok (.if_icmp .ge 10, 3) := by decide +kernel
theorem d_T_extreme_44 : decode b_T_extreme 44 = .ok (.aload_n 0, 1) := by decide +kernel
theorem d_T_extreme_45 : decode b_T_extreme 45 = .ok (.getfield 18, 3) := by decide +kernel
theorem d_T_extreme_48 : decode b_T_extreme 48 = .ok (.iload_n 3, 1) := by decide +kernel
theorem d_T_extreme_49 : decode b_T_extreme 49 = .ok (.iaload, 1) := by decide +kernel
theorem d_T_extreme_50 : decode b_T_extreme 50 = .ok (.istore_n 2, 1) := by decide +kernel
theorem d_T_extreme_51 : decode b_T_extreme 51 = .ok (.iload_n 3, 1) := by decide +kernel
theorem d_T_extreme_52 : decode b_T_extreme 52 = .ok (.aload_n 0, 1) := by decide +kernel
theorem d_T_extreme_53 : decode b_T_extreme 53 = .ok (.getfield 18, 3) := by decide +kernel
theorem d_T_extreme_56 : decode b_T_extreme 56 = .ok (.iload_n 3, 1) := by decide +kernel
theorem d_T_extreme_57 : decode b_T_extreme 57 = .ok (.iaload, 1) := by decide +kernel
theorem d_T_extreme_58 : decode b_T_extreme 58 = .ok (.iadd, 1) := by decide +kernel
theorem d_T_extreme_59 : decode b_T_extreme 59 = .ok (.istore_n 3, 1) := by decide +kernel
theorem d_T_extreme_60 : decode b_T_extreme 60 = .ok (.goto (-51), 3) := by decide +kernel
theorem d_T_extreme_63 : decode b_T_extreme 63 = .ok (.iload_n 2, 1) := by decide +kernel
theorem d_T_extreme_64 : decode b_T_extreme 64 = .ok (.ireturn, 1) := by decide +kernel
theorem d_T_count_0 : decode b_T_count 0 = .ok (.iload_n 1, 1) := by decide +kernel
theorem d_T_count_1 : decode b_T_count 1 = .ok (.tableswitch 67 0 4 #[35, 40, 50, 55, 61], 35) := by decide +kernel
theorem d_T_count_36 : decode b_T_count 36 = .ok (.aload_n 0, 1) := by decide +kernel
theorem d_T_count_37 : decode b_T_count 37 = .ok (.getfield 22, 3) := by decide +kernel
theorem d_T_count_40 : decode b_T_count 40 = .ok (.ireturn, 1) := by decide +kernel
theorem d_T_count_41 : decode b_T_count 41 = .ok (.aload_n 0, 1) := by decide +kernel
theorem d_T_count_42 : decode b_T_count 42 = .ok (.getfield 22, 3) := by decide +kernel
theorem d_T_count_45 : decode b_T_count 45 = .ok (.bipush 31, 2) := by decide +kernel
theorem d_T_count_47 : decode b_T_count 47 = .ok (.iadd, 1) := by decide +kernel
theorem d_T_count_48 : decode b_T_count 48 = .ok (.iconst 5, 1) := by decide +kernel
theorem d_T_count_49 : decode b_T_count 49 = .ok (.ishr, 1) := by decide +kernel
theorem d_T_count_50 : decode b_T_count 50 = .ok (.ireturn, 1) := by decide +kernel
theorem d_T_count_51 : decode b_T_count 51 = .ok (.aload_n 0, 1) := by decide +kernel
theorem d_T_count_52 : decode b_T_count 52 = .ok (.getfield 26, 3) := by decide +kernel
theorem d_T_count_55 : decode b_T_count 55 = .ok (.ireturn, 1) := by decide +kernel
theorem d_T_count_56 : decode b_T_count 56 = .ok (.aload_n 0, 1) := by decide +kernel
theorem d_T_count_57 : decode b_T_count 57 = .ok (.iconst 1, 1) := by decide +kernel
theorem d_T_count_58 : decode b_T_count 58 = .ok (.invokevirtual 62, 3) := by decide +kernel
theorem d_T_count_61 : decode b_T_count 61 = .ok (.ireturn, 1) := by decide +kernel
theorem d_T_count_62 : decode b_T_count 62 = .ok (.aload_n 0, 1) := by decide +kernel
theorem d_T_count_63 : decode b_T_count 63 = .ok (.iconst 0, 1) := by decide +kernel
theorem d_T_count_64 : decode b_T_count 64 = .ok (.invokevirtual 62, 3) := by decide +kernel
theorem d_T_count_67 : decode b_T_count 67 = .ok (.ireturn, 1) := by decide +kernel
theorem d_T_count_68 : decode b_T_count 68 = .ok (.new 36, 3) := by decide +kernel
theorem d_T_count_71 : decode b_T_count 71 = .ok (.dup, 1) := by decide +kernel
theorem d_T_count_72 : decode b_T_count 72 = .ok (.invokespecial 38, 3) := by decide +kernel
theorem d_T_count_75 : decode b_T_count 75 = .ok (.athrow, 1) := by decide +kernel
theorem d_O_init_0 : decode b_O_init 0 = .ok (.aload_n 0, 1) := by decide +kernel
theorem d_O_init_1 : decode b_O_init 1 = .ok (.invokespecial 1, 3) := by decide +kernel
theorem d_O_init_4 : decode b_O_init 4 = .ok (.aload_n 0, 1) := by decide +kernel
theorem d_O_init_5 : decode b_O_init 5 = .ok (.iload_n 1, 1) := by decide +kernel
theorem d_O_init_6 : decode b_O_init 6 = .ok (.bipush 31, 2) := by decide +kernel
theorem d_O_init_8 : decode b_O_init 8 = .ok (.iadd, 1) := by decide +kernel
theorem d_O_init_9 : decode b_O_init 9 = .ok (.iconst 5, 1) := by decide +kernel
theorem d_O_init_10 : decode b_O_init 10 = .ok (.ishr, 1) := by decide +kernel
theorem d_O_init_11 : decode b_O_init 11 = .ok (.newarray .int, 2) := by decide +kernel
theorem d_O_init_13 : decode b_O_init 13 = .ok (.putfield 7, 3) := by decide +kernel
theorem d_O_init_16 : decode b_O_init 16 = .ok (.return_, 1) := by decide +kernel
theorem d_O_set_0 : decode b_O_set 0 = .ok (.iload_n 1, 1) := by decide +kernel
theorem d_O_set_1 : decode b_O_set 1 = .ok (.iload_n 2, 1) := by decide +kernel
theorem d_O_set_2 : decode b_O_set 2 = .ok (.iadd, 1) := by decide +kernel
theorem d_O_set_3 : decode b_O_set 3 = .ok (.istore_n 3, 1) := by decide +kernel
theorem d_O_set_4 : decode b_O_set 4 = .ok (.iload_n 1, 1) := by decide +kernel
theorem d_O_set_5 : decode b_O_set 5 = .ok (.bipush 31, 2) := by decide +kernel
theorem d_O_set_7 : decode b_O_set 7 = .ok (.iadd, 1) := by decide +kernel
theorem d_O_set_8 : decode b_O_set 8 = .ok (.iconst 5, 1) := by decide +kernel
theorem d_O_set_9 : decode b_O_set 9 = .ok (.ishr, 1) := by decide +kernel
theorem d_O_set_10 : decode b_O_set 10 = .ok (.istore 4, 2) := by decide +kernel
theorem d_O_set_12 : decode b_O_set 12 = .ok (.iload 4, 2) := by decide +kernel
theorem d_O_set_14 : decode b_O_set 14 = .ok (.iconst 5, 1) := by decide +kernel
theorem d_O_set_15 : decode b_O_set 15 = .ok (.ishl, 1) := by decide +kernel
theorem d_O_set_16 : decode b_O_set 16 = .ok (.iload_n 3, 1) := by decide +kernel
theorem d_O_set_17 : decode b_O_set 17 = .ok (.if_icmp .ge 17, 3) := by decide +kernel
theorem d_O_set_20 : decode b_O_set 20 = .ok (.aload_n 0, 1) := by decide +kernel
theorem d_O_set_21 : decode b_O_set 21 = .ok (.getfield 7, 3) := by decide +kernel
theorem d_O_set_24 : decode b_O_set 24 = .ok (.iload 4, 2) := by decide +kernel
theorem d_O_set_26 : decode b_O_set 26 = .ok (.iload_n 1, 1) := by decide +kernel
theorem d_O_set_27 : decode b_O_set 27 = .ok (.iastore, 1) := by decide +kernel
theorem d_O_set_28 : decode b_O_set 28 = .ok (.iinc 4 1, 3) := by decide +kernel
theorem d_O_set_31 : decode b_O_set 31 = .ok (.goto (-19), 3) := by decide +kernel
theorem d_O_set_34 : decode b_O_set 34 = .ok (.return_, 1) := by decide +kernel
theorem d_O_start_0 : decode b_O_start 0 = .ok (.aload_n 0, 1) := by decide +kernel
theorem d_O_start_1 : decode b_O_start 1 = .ok (.getfield 7, 3) := by decide +kernel
theorem d_O_start_4 : decode b_O_start 4 = .ok (.iload_n 1, 1) := by decide +kernel
theorem d_O_start_5 : decode b_O_start 5 = .ok (.iaload, 1) := by decide +kernel
theorem d_O_start_6 : decode b_O_start 6 = .ok (.ireturn, 1) := by decide +kernel
end
section
theorem d_M_init_0 : decode b_M_init 0 = .ok (.aload_n 0, 1) := by decide +kernel
theorem d_M_init_1 : decode b_M_init 1 = .ok (.invokespecial 1, 3) := by decide +kernel
theorem d_M_init_4 : decode b_M_init 4 = .ok (.aload_n 0, 1) := by decide +kernel
theorem d_M_init_5 : decode b_M_init 5 = .ok (.sipush 1024, 3) := by decide +kernel
theorem d_M_init_8 : decode b_M_init 8 = .ok (.putfield 7, 3) := by decide +kernel
theorem d_M_init_11 : decode b_M_init 11 = .ok (.aload_n 0, 1) := by decide +kernel
theorem d_M_init_12 : decode b_M_init 12 = .ok (.sipush 16385, 3) := by decide +kernel
theorem d_M_init_15 : decode b_M_init 15 = .ok (.newarray .boolean, 2) := by decide +kernel
theorem d_M_init_17 : decode b_M_init 17 = .ok (.putfield 13, 3) := by decide +kernel
theorem d_M_init_20 : decode b_M_init 20 = .ok (.aload_n 0, 1) := by decide +kernel
theorem d_M_init_21 : decode b_M_init 21 = .ok (.getfield 13, 3) := by decide +kernel
theorem d_M_init_24 : decode b_M_init 24 = .ok (.iconst 0, 1) := by decide +kernel
theorem d_M_init_25 : decode b_M_init 25 = .ok (.iconst 1, 1) := by decide +kernel
theorem d_M_init_26 : decode b_M_init 26 = .ok (.bastore, 1) := by decide +kernel
theorem d_M_init_27 : decode b_M_init 27 = .ok (.aload_n 0, 1) := by decide +kernel
theorem d_M_init_28 : decode b_M_init 28 = .ok (.getfield 13, 3) := by decide +kernel
theorem d_M_init_31 : decode b_M_init 31 = .ok (.sipush 1024, 3) := by decide +kernel
theorem d_M_init_34 : decode b_M_init 34 = .ok (.iconst 1, 1) := by decide +kernel
theorem d_M_init_35 : decode b_M_init 35 = .ok (.bastore, 1) := by decide +kernel
theorem d_M_init_36 : decode b_M_init 36 = .ok (.return_, 1) := by decide +kernel
theorem d_M_thrown_0 : decode b_M_thrown 0 = .ok (.aload_n 0, 1) := by decide +kernel
theorem d_M_thrown_1 : decode b_M_thrown 1 = .ok (.getfield 17, 3) := by decide +kernel
theorem d_M_thrown_4 : decode b_M_thrown 4 = .ok (.ireturn, 1) := by decide +kernel
theorem d_M_goes_0 : decode b_M_goes 0 = .ok (.aload_n 0, 1) := by decide +kernel
theorem d_M_goes_1 : decode b_M_goes 1 = .ok (.iload_n 1, 1) := by decide +kernel
theorem d_M_goes_2 : decode b_M_goes 2 = .ok (.ifCond .eq 7, 3) := by decide +kernel
theorem d_M_goes_5 : decode b_M_goes 5 = .ok (.iconst 0, 1) := by decide +kernel
theorem d_M_goes_6 : decode b_M_goes 6 = .ok (.goto 4, 3) := by decide +kernel
theorem d_M_goes_9 : decode b_M_goes 9 = .ok (.iconst 1, 1) := by decide +kernel
theorem d_M_goes_10 : decode b_M_goes 10 = .ok (.putfield 17, 3) := by decide +kernel
theorem d_M_goes_13 : decode b_M_goes 13 = .ok (.iload_n 1, 1) := by decide +kernel
theorem d_M_goes_14 : decode b_M_goes 14 = .ok (.ireturn, 1) := by decide +kernel
theorem d_M_cards_0 : decode b_M_cards 0 = .ok (.aload_n 0, 1) := by decide +kernel
theorem d_M_cards_1 : decode b_M_cards 1 = .ok (.getfield 7, 3) := by decide +kernel
theorem d_M_cards_4 : decode b_M_cards 4 = .ok (.bipush 31, 2) := by decide +kernel
theorem d_M_cards_6 : decode b_M_cards 6 = .ok (.iadd, 1) := by decide +kernel
theorem d_M_cards_7 : decode b_M_cards 7 = .ok (.bipush 32, 2) := by decide +kernel
theorem d_M_cards_9 : decode b_M_cards 9 = .ok (.idiv, 1) := by decide +kernel
theorem d_M_cards_10 : decode b_M_cards 10 = .ok (.ireturn, 1) := by decide +kernel
theorem d_M_isCell_0 : decode b_M_isCell 0 = .ok (.iload_n 1, 1) := by decide +kernel
theorem d_M_isCell_1 : decode b_M_isCell 1 = .ok (.ifCond .lt 15, 3) := by decide +kernel
theorem d_M_isCell_4 : decode b_M_isCell 4 = .ok (.iload_n 1, 1) := by decide +kernel
theorem d_M_isCell_5 : decode b_M_isCell 5 = .ok (.aload_n 0, 1) := by decide +kernel
theorem d_M_isCell_6 : decode b_M_isCell 6 = .ok (.getfield 7, 3) := by decide +kernel
theorem d_M_isCell_9 : decode b_M_isCell 9 = .ok (.if_icmp .ge 7, 3) := by decide +kernel
theorem d_M_isCell_12 : decode b_M_isCell 12 = .ok (.iconst 1, 1) := by decide +kernel
theorem d_M_isCell_13 : decode b_M_isCell 13 = .ok (.goto 4, 3) := by decide +kernel
theorem d_M_isCell_16 : decode b_M_isCell 16 = .ok (.iconst 0, 1) := by decide +kernel
theorem d_M_isCell_17 : decode b_M_isCell 17 = .ok (.ireturn, 1) := by decide +kernel
theorem d_M_isCard_0 : decode b_M_isCard 0 = .ok (.iload_n 1, 1) := by decide +kernel
theorem d_M_isCard_1 : decode b_M_isCard 1 = .ok (.ifCond .lt 15, 3) := by decide +kernel
theorem d_M_isCard_4 : decode b_M_isCard 4 = .ok (.iload_n 1, 1) := by decide +kernel
theorem d_M_isCard_5 : decode b_M_isCard 5 = .ok (.aload_n 0, 1) := by decide +kernel
theorem d_M_isCard_6 : decode b_M_isCard 6 = .ok (.invokevirtual 20, 3) := by decide +kernel
theorem d_M_isCard_9 : decode b_M_isCard 9 = .ok (.if_icmp .ge 7, 3) := by decide +kernel
theorem d_M_isCard_12 : decode b_M_isCard 12 = .ok (.iconst 1, 1) := by decide +kernel
theorem d_M_isCard_13 : decode b_M_isCard 13 = .ok (.goto 4, 3) := by decide +kernel
theorem d_M_isCard_16 : decode b_M_isCard 16 = .ok (.iconst 0, 1) := by decide +kernel
theorem d_M_isCard_17 : decode b_M_isCard 17 = .ok (.ireturn, 1) := by decide +kernel
theorem d_M_space_0 : decode b_M_space 0 = .ok (.aload_n 0, 1) := by decide +kernel
theorem d_M_space_1 : decode b_M_space 1 = .ok (.iload_n 1, 1) := by decide +kernel
theorem d_M_space_2 : decode b_M_space 2 = .ok (.iconst 1, 1) := by decide +kernel
theorem d_M_space_3 : decode b_M_space 3 = .ok (.if_icmp .lt 14, 3) := by decide +kernel
theorem d_M_space_6 : decode b_M_space 6 = .ok (.iload_n 1, 1) := by decide +kernel
theorem d_M_space_7 : decode b_M_space 7 = .ok (.sipush 16384, 3) := by decide +kernel
theorem d_M_space_10 : decode b_M_space 10 = .ok (.if_icmp .gt 7, 3) := by decide +kernel
theorem d_M_space_13 : decode b_M_space 13 = .ok (.iconst 1, 1) := by decide +kernel
theorem d_M_space_14 : decode b_M_space 14 = .ok (.goto 4, 3) := by decide +kernel
theorem d_M_space_17 : decode b_M_space 17 = .ok (.iconst 0, 1) := by decide +kernel
theorem d_M_space_18 : decode b_M_space 18 = .ok (.invokevirtual 24, 3) := by decide +kernel
theorem d_M_space_21 : decode b_M_space 21 = .ok (.ifCond .ne 5, 3) := by decide +kernel
theorem d_M_space_24 : decode b_M_space 24 = .ok (.iconst 0, 1) := by decide +kernel
theorem d_M_space_25 : decode b_M_space 25 = .ok (.ireturn, 1) := by decide +kernel
theorem d_M_space_26 : decode b_M_space 26 = .ok (.aload_n 0, 1) := by decide +kernel
theorem d_M_space_27 : decode b_M_space 27 = .ok (.getfield 7, 3) := by decide +kernel
theorem d_M_space_30 : decode b_M_space 30 = .ok (.istore_n 2, 1) := by decide +kernel
theorem d_M_space_31 : decode b_M_space 31 = .ok (.iconst 0, 1) := by decide +kernel
theorem d_M_space_32 : decode b_M_space 32 = .ok (.istore_n 3, 1) := by decide +kernel
theorem d_M_space_33 : decode b_M_space 33 = .ok (.iload_n 3, 1) := by decide +kernel
theorem d_M_space_34 : decode b_M_space 34 = .ok (.sipush 16384, 3) := by decide +kernel
theorem d_M_space_37 : decode b_M_space 37 = .ok (.if_icmp .gt 29, 3) := by decide +kernel
theorem d_M_space_40 : decode b_M_space 40 = .ok (.aload_n 0, 1) := by decide +kernel
theorem d_M_space_41 : decode b_M_space 41 = .ok (.getfield 13, 3) := by decide +kernel
theorem d_M_space_44 : decode b_M_space 44 = .ok (.iload_n 3, 1) := by decide +kernel
theorem d_M_space_45 : decode b_M_space 45 = .ok (.iload_n 3, 1) := by decide +kernel
theorem d_M_space_46 : decode b_M_space 46 = .ok (.ifCond .eq 8, 3) := by decide +kernel
theorem d_M_space_49 : decode b_M_space 49 = .ok (.iload_n 3, 1) := by decide +kernel
theorem d_M_space_50 : decode b_M_space 50 = .ok (.iload_n 1, 1) := by decide +kernel
theorem d_M_space_51 : decode b_M_space 51 = .ok (.if_icmp .ne 7, 3) := by decide +kernel
theorem d_M_space_54 : decode b_M_space 54 = .ok (.iconst 1, 1) := by decide +kernel
theorem d_M_space_55 : decode b_M_space 55 = .ok (.goto 4, 3) := by decide +kernel
theorem d_M_space_58 : decode b_M_space 58 = .ok (.iconst 0, 1) := by decide +kernel
theorem d_M_space_59 : decode b_M_space 59 = .ok (.bastore, 1) := by decide +kernel
theorem d_M_space_60 : decode b_M_space 60 = .ok (.iinc 3 1, 3) := by decide +kernel
theorem d_M_space_63 : decode b_M_space 63 = .ok (.goto (-30), 3) := by decide +kernel
theorem d_M_space_66 : decode b_M_space 66 = .ok (.aload_n 0, 1) := by decide +kernel
theorem d_M_space_67 : decode b_M_space 67 = .ok (.iload_n 1, 1) := by decide +kernel
theorem d_M_space_68 : decode b_M_space 68 = .ok (.putfield 7, 3) := by decide +kernel
theorem d_M_space_71 : decode b_M_space 71 = .ok (.iload_n 2, 1) := by decide +kernel
theorem d_M_space_72 : decode b_M_space 72 = .ok (.ireturn, 1) := by decide +kernel
theorem d_M_from_0 : decode b_M_from 0 = .ok (.iload_n 1, 1) := by decide +kernel
theorem d_M_from_1 : decode b_M_from 1 = .ok (.istore_n 2, 1) := by decide +kernel
theorem d_M_from_2 : decode b_M_from 2 = .ok (.aload_n 0, 1) := by decide +kernel
theorem d_M_from_3 : decode b_M_from 3 = .ok (.getfield 13, 3) := by decide +kernel
theorem d_M_from_6 : decode b_M_from 6 = .ok (.iload_n 2, 1) := by decide +kernel
theorem d_M_from_7 : decode b_M_from 7 = .ok (.baload, 1) := by decide +kernel
theorem d_M_from_8 : decode b_M_from 8 = .ok (.ifCond .ne 9, 3) := by decide +kernel
theorem d_M_from_11 : decode b_M_from 11 = .ok (.iinc 2 (-1), 3) := by decide +kernel
theorem d_M_from_14 : decode b_M_from 14 = .ok (.goto (-12), 3) := by decide +kernel
theorem d_M_from_17 : decode b_M_from 17 = .ok (.iload_n 2, 1) := by decide +kernel
theorem d_M_from_18 : decode b_M_from 18 = .ok (.ireturn, 1) := by decide +kernel
theorem d_M_behind_0 : decode b_M_behind 0 = .ok (.iload_n 1, 1) := by decide +kernel
theorem d_M_behind_1 : decode b_M_behind 1 = .ok (.iconst 1, 1) := by decide +kernel
theorem d_M_behind_2 : decode b_M_behind 2 = .ok (.iadd, 1) := by decide +kernel
theorem d_M_behind_3 : decode b_M_behind 3 = .ok (.istore_n 2, 1) := by decide +kernel
theorem d_M_behind_4 : decode b_M_behind 4 = .ok (.aload_n 0, 1) := by decide +kernel
theorem d_M_behind_5 : decode b_M_behind 5 = .ok (.getfield 13, 3) := by decide +kernel
theorem d_M_behind_8 : decode b_M_behind 8 = .ok (.iload_n 2, 1) := by decide +kernel
theorem d_M_behind_9 : decode b_M_behind 9 = .ok (.baload, 1) := by decide +kernel
theorem d_M_behind_10 : decode b_M_behind 10 = .ok (.ifCond .ne 9, 3) := by decide +kernel
theorem d_M_behind_13 : decode b_M_behind 13 = .ok (.iinc 2 1, 3) := by decide +kernel
theorem d_M_behind_16 : decode b_M_behind 16 = .ok (.goto (-12), 3) := by decide +kernel
theorem d_M_behind_19 : decode b_M_behind 19 = .ok (.iload_n 2, 1) := by decide +kernel
theorem d_M_behind_20 : decode b_M_behind 20 = .ok (.ireturn, 1) := by decide +kernel
theorem d_M_pieces_0 : decode b_M_pieces 0 = .ok (.iconst 0, 1) := by decide +kernel
theorem d_M_pieces_1 : decode b_M_pieces 1 = .ok (.istore_n 1, 1) := by decide +kernel
theorem d_M_pieces_2 : decode b_M_pieces 2 = .ok (.iconst 0, 1) := by decide +kernel
theorem d_M_pieces_3 : decode b_M_pieces 3 = .ok (.istore_n 2, 1) := by decide +kernel
theorem d_M_pieces_4 : decode b_M_pieces 4 = .ok (.iload_n 2, 1) := by decide +kernel
theorem d_M_pieces_5 : decode b_M_pieces 5 = .ok (.aload_n 0, 1) := by decide +kernel
theorem d_M_pieces_6 : decode b_M_pieces 6 = .ok (.getfield 7, 3) := by decide +kernel
theorem d_M_pieces_9 : decode b_M_pieces 9 = .ok (.if_icmp .ge 26, 3) := by decide +kernel
theorem d_M_pieces_12 : decode b_M_pieces 12 = .ok (.aload_n 0, 1) := by decide +kernel
theorem d_M_pieces_13 : decode b_M_pieces 13 = .ok (.getfield 13, 3) := by decide +kernel
theorem d_M_pieces_16 : decode b_M_pieces 16 = .ok (.iload_n 2, 1) := by decide +kernel
theorem d_M_pieces_17 : decode b_M_pieces 17 = .ok (.baload, 1) := by decide +kernel
theorem d_M_pieces_18 : decode b_M_pieces 18 = .ok (.ifCond .eq 9, 3) := by decide +kernel
theorem d_M_pieces_21 : decode b_M_pieces 21 = .ok (.iload_n 1, 1) := by decide +kernel
theorem d_M_pieces_22 : decode b_M_pieces 22 = .ok (.iconst 1, 1) := by decide +kernel
theorem d_M_pieces_23 : decode b_M_pieces 23 = .ok (.iadd, 1) := by decide +kernel
theorem d_M_pieces_24 : decode b_M_pieces 24 = .ok (.goto 4, 3) := by decide +kernel
theorem d_M_pieces_27 : decode b_M_pieces 27 = .ok (.iload_n 1, 1) := by decide +kernel
theorem d_M_pieces_28 : decode b_M_pieces 28 = .ok (.istore_n 1, 1) := by decide +kernel
theorem d_M_pieces_29 : decode b_M_pieces 29 = .ok (.iinc 2 1, 3) := by decide +kernel
theorem d_M_pieces_32 : decode b_M_pieces 32 = .ok (.goto (-28), 3) := by decide +kernel
theorem d_M_pieces_35 : decode b_M_pieces 35 = .ok (.iload_n 1, 1) := by decide +kernel
theorem d_M_pieces_36 : decode b_M_pieces 36 = .ok (.ireturn, 1) := by decide +kernel
theorem d_M_cut_0 : decode b_M_cut 0 = .ok (.aload_n 0, 1) := by decide +kernel
theorem d_M_cut_1 : decode b_M_cut 1 = .ok (.aload_n 0, 1) := by decide +kernel
theorem d_M_cut_2 : decode b_M_cut 2 = .ok (.iload_n 1, 1) := by decide +kernel
theorem d_M_cut_3 : decode b_M_cut 3 = .ok (.invokevirtual 28, 3) := by decide +kernel
theorem d_M_cut_6 : decode b_M_cut 6 = .ok (.invokevirtual 24, 3) := by decide +kernel
theorem d_M_cut_9 : decode b_M_cut 9 = .ok (.ifCond .ne 5, 3) := by decide +kernel
theorem d_M_cut_12 : decode b_M_cut 12 = .ok (.iconst 0, 1) := by decide +kernel
theorem d_M_cut_13 : decode b_M_cut 13 = .ok (.ireturn, 1) := by decide +kernel
theorem d_M_cut_14 : decode b_M_cut 14 = .ok (.iload_n 1, 1) := by decide +kernel
theorem d_M_cut_15 : decode b_M_cut 15 = .ok (.aload_n 0, 1) := by decide +kernel
theorem d_M_cut_16 : decode b_M_cut 16 = .ok (.iload_n 1, 1) := by decide +kernel
theorem d_M_cut_17 : decode b_M_cut 17 = .ok (.invokevirtual 32, 3) := by decide +kernel
theorem d_M_cut_20 : decode b_M_cut 20 = .ok (.isub, 1) := by decide +kernel
theorem d_M_cut_21 : decode b_M_cut 21 = .ok (.istore_n 2, 1) := by decide +kernel
theorem d_M_cut_22 : decode b_M_cut 22 = .ok (.aload_n 0, 1) := by decide +kernel
theorem d_M_cut_23 : decode b_M_cut 23 = .ok (.getfield 13, 3) := by decide +kernel
theorem d_M_cut_26 : decode b_M_cut 26 = .ok (.iload_n 1, 1) := by decide +kernel
theorem d_M_cut_27 : decode b_M_cut 27 = .ok (.iconst 1, 1) := by decide +kernel
theorem d_M_cut_28 : decode b_M_cut 28 = .ok (.bastore, 1) := by decide +kernel
theorem d_M_cut_29 : decode b_M_cut 29 = .ok (.iload_n 2, 1) := by decide +kernel
theorem d_M_cut_30 : decode b_M_cut 30 = .ok (.ireturn, 1) := by decide +kernel
theorem d_M_join_0 : decode b_M_join 0 = .ok (.aload_n 0, 1) := by decide +kernel
theorem d_M_join_1 : decode b_M_join 1 = .ok (.aload_n 0, 1) := by decide +kernel
theorem d_M_join_2 : decode b_M_join 2 = .ok (.iload_n 1, 1) := by decide +kernel
theorem d_M_join_3 : decode b_M_join 3 = .ok (.invokevirtual 28, 3) := by decide +kernel
theorem d_M_join_6 : decode b_M_join 6 = .ok (.invokevirtual 24, 3) := by decide +kernel
theorem d_M_join_9 : decode b_M_join 9 = .ok (.ifCond .ne 5, 3) := by decide +kernel
theorem d_M_join_12 : decode b_M_join 12 = .ok (.iconst 0, 1) := by decide +kernel
theorem d_M_join_13 : decode b_M_join 13 = .ok (.ireturn, 1) := by decide +kernel
theorem d_M_join_14 : decode b_M_join 14 = .ok (.aload_n 0, 1) := by decide +kernel
theorem d_M_join_15 : decode b_M_join 15 = .ok (.iload_n 1, 1) := by decide +kernel
theorem d_M_join_16 : decode b_M_join 16 = .ok (.invokevirtual 36, 3) := by decide +kernel
theorem d_M_join_19 : decode b_M_join 19 = .ok (.istore_n 2, 1) := by decide +kernel
theorem d_M_join_20 : decode b_M_join 20 = .ok (.iload_n 2, 1) := by decide +kernel
theorem d_M_join_21 : decode b_M_join 21 = .ok (.aload_n 0, 1) := by decide +kernel
theorem d_M_join_22 : decode b_M_join 22 = .ok (.getfield 7, 3) := by decide +kernel
theorem d_M_join_25 : decode b_M_join 25 = .ok (.if_icmp .ne 5, 3) := by decide +kernel
theorem d_M_join_28 : decode b_M_join 28 = .ok (.iconst 0, 1) := by decide +kernel
theorem d_M_join_29 : decode b_M_join 29 = .ok (.ireturn, 1) := by decide +kernel
theorem d_M_join_30 : decode b_M_join 30 = .ok (.aload_n 0, 1) := by decide +kernel
theorem d_M_join_31 : decode b_M_join 31 = .ok (.getfield 13, 3) := by decide +kernel
theorem d_M_join_34 : decode b_M_join 34 = .ok (.iload_n 2, 1) := by decide +kernel
theorem d_M_join_35 : decode b_M_join 35 = .ok (.iconst 0, 1) := by decide +kernel
theorem d_M_join_36 : decode b_M_join 36 = .ok (.bastore, 1) := by decide +kernel
theorem d_M_join_37 : decode b_M_join 37 = .ok (.aload_n 0, 1) := by decide +kernel
theorem d_M_join_38 : decode b_M_join 38 = .ok (.iload_n 1, 1) := by decide +kernel
theorem d_M_join_39 : decode b_M_join 39 = .ok (.invokevirtual 36, 3) := by decide +kernel
theorem d_M_join_42 : decode b_M_join 42 = .ok (.aload_n 0, 1) := by decide +kernel
theorem d_M_join_43 : decode b_M_join 43 = .ok (.iload_n 1, 1) := by decide +kernel
theorem d_M_join_44 : decode b_M_join 44 = .ok (.invokevirtual 32, 3) := by decide +kernel
theorem d_M_join_47 : decode b_M_join 47 = .ok (.isub, 1) := by decide +kernel
theorem d_M_join_48 : decode b_M_join 48 = .ok (.ireturn, 1) := by decide +kernel
theorem d_M_make_0 : decode b_M_make 0 = .ok (.aload_n 0, 1) := by decide +kernel
theorem d_M_make_1 : decode b_M_make 1 = .ok (.aload_n 0, 1) := by decide +kernel
theorem d_M_make_2 : decode b_M_make 2 = .ok (.iload_n 1, 1) := by decide +kernel
theorem d_M_make_3 : decode b_M_make 3 = .ok (.invokevirtual 28, 3) := by decide +kernel
theorem d_M_make_6 : decode b_M_make 6 = .ok (.ifCond .eq 20, 3) := by decide +kernel
theorem d_M_make_9 : decode b_M_make 9 = .ok (.iload_n 2, 1) := by decide +kernel
theorem d_M_make_10 : decode b_M_make 10 = .ok (.iload_n 1, 1) := by decide +kernel
theorem d_M_make_11 : decode b_M_make 11 = .ok (.if_icmp .le 15, 3) := by decide +kernel
theorem d_M_make_14 : decode b_M_make 14 = .ok (.iload_n 2, 1) := by decide +kernel
theorem d_M_make_15 : decode b_M_make 15 = .ok (.aload_n 0, 1) := by decide +kernel
theorem d_M_make_16 : decode b_M_make 16 = .ok (.getfield 7, 3) := by decide +kernel
theorem d_M_make_19 : decode b_M_make 19 = .ok (.if_icmp .gt 7, 3) := by decide +kernel
theorem d_M_make_22 : decode b_M_make 22 = .ok (.iconst 1, 1) := by decide +kernel
theorem d_M_make_23 : decode b_M_make 23 = .ok (.goto 4, 3) := by decide +kernel
theorem d_M_make_26 : decode b_M_make 26 = .ok (.iconst 0, 1) := by decide +kernel
theorem d_M_make_27 : decode b_M_make 27 = .ok (.invokevirtual 24, 3) := by decide +kernel
theorem d_M_make_30 : decode b_M_make 30 = .ok (.ifCond .ne 5, 3) := by decide +kernel
theorem d_M_make_33 : decode b_M_make 33 = .ok (.iconst 0, 1) := by decide +kernel
theorem d_M_make_34 : decode b_M_make 34 = .ok (.ireturn, 1) := by decide +kernel
theorem d_M_make_35 : decode b_M_make 35 = .ok (.iload_n 1, 1) := by decide +kernel
theorem d_M_make_36 : decode b_M_make 36 = .ok (.istore_n 3, 1) := by decide +kernel
theorem d_M_make_37 : decode b_M_make 37 = .ok (.iload_n 3, 1) := by decide +kernel
theorem d_M_make_38 : decode b_M_make 38 = .ok (.iload_n 2, 1) := by decide +kernel
theorem d_M_make_39 : decode b_M_make 39 = .ok (.if_icmp .gt 30, 3) := by decide +kernel
theorem d_M_make_42 : decode b_M_make 42 = .ok (.aload_n 0, 1) := by decide +kernel
theorem d_M_make_43 : decode b_M_make 43 = .ok (.getfield 13, 3) := by decide +kernel
theorem d_M_make_46 : decode b_M_make 46 = .ok (.iload_n 3, 1) := by decide +kernel
theorem d_M_make_47 : decode b_M_make 47 = .ok (.iload_n 3, 1) := by decide +kernel
theorem d_M_make_48 : decode b_M_make 48 = .ok (.iload_n 1, 1) := by decide +kernel
theorem d_M_make_49 : decode b_M_make 49 = .ok (.if_icmp .eq 8, 3) := by decide +kernel
theorem d_M_make_52 : decode b_M_make 52 = .ok (.iload_n 3, 1) := by decide +kernel
theorem d_M_make_53 : decode b_M_make 53 = .ok (.iload_n 2, 1) := by decide +kernel
theorem d_M_make_54 : decode b_M_make 54 = .ok (.if_icmp .ne 7, 3) := by decide +kernel
theorem d_M_make_57 : decode b_M_make 57 = .ok (.iconst 1, 1) := by decide +kernel
theorem d_M_make_58 : decode b_M_make 58 = .ok (.goto 4, 3) := by decide +kernel
theorem d_M_make_61 : decode b_M_make 61 = .ok (.iconst 0, 1) := by decide +kernel
theorem d_M_make_62 : decode b_M_make 62 = .ok (.bastore, 1) := by decide +kernel
theorem d_M_make_63 : decode b_M_make 63 = .ok (.iinc 3 1, 3) := by decide +kernel
theorem d_M_make_66 : decode b_M_make 66 = .ok (.goto (-29), 3) := by decide +kernel
theorem d_M_make_69 : decode b_M_make 69 = .ok (.aload_n 0, 1) := by decide +kernel
theorem d_M_make_70 : decode b_M_make 70 = .ok (.invokevirtual 39, 3) := by decide +kernel
theorem d_M_make_73 : decode b_M_make 73 = .ok (.ireturn, 1) := by decide +kernel
theorem d_M_begin_0 : decode b_M_begin 0 = .ok (.aload_n 0, 1) := by decide +kernel
theorem d_M_begin_1 : decode b_M_begin 1 = .ok (.aload_n 0, 1) := by decide +kernel
theorem d_M_begin_2 : decode b_M_begin 2 = .ok (.iload_n 1, 1) := by decide +kernel
theorem d_M_begin_3 : decode b_M_begin 3 = .ok (.invokevirtual 28, 3) := by decide +kernel
theorem d_M_begin_6 : decode b_M_begin 6 = .ok (.invokevirtual 24, 3) := by decide +kernel
theorem d_M_begin_9 : decode b_M_begin 9 = .ok (.ifCond .eq 11, 3) := by decide +kernel
theorem d_M_begin_12 : decode b_M_begin 12 = .ok (.aload_n 0, 1) := by decide +kernel
theorem d_M_begin_13 : decode b_M_begin 13 = .ok (.iload_n 1, 1) := by decide +kernel
theorem d_M_begin_14 : decode b_M_begin 14 = .ok (.invokevirtual 32, 3) := by decide +kernel
theorem d_M_begin_17 : decode b_M_begin 17 = .ok (.goto 4, 3) := by decide +kernel
theorem d_M_begin_20 : decode b_M_begin 20 = .ok (.iconst 0, 1) := by decide +kernel
theorem d_M_begin_21 : decode b_M_begin 21 = .ok (.ireturn, 1) := by decide +kernel
theorem d_M_size_0 : decode b_M_size 0 = .ok (.aload_n 0, 1) := by decide +kernel
theorem d_M_size_1 : decode b_M_size 1 = .ok (.aload_n 0, 1) := by decide +kernel
theorem d_M_size_2 : decode b_M_size 2 = .ok (.iload_n 1, 1) := by decide +kernel
theorem d_M_size_3 : decode b_M_size 3 = .ok (.invokevirtual 28, 3) := by decide +kernel
theorem d_M_size_6 : decode b_M_size 6 = .ok (.invokevirtual 24, 3) := by decide +kernel
theorem d_M_size_9 : decode b_M_size 9 = .ok (.ifCond .eq 17, 3) := by decide +kernel
theorem d_M_size_12 : decode b_M_size 12 = .ok (.aload_n 0, 1) := by decide +kernel
theorem d_M_size_13 : decode b_M_size 13 = .ok (.iload_n 1, 1) := by decide +kernel
theorem d_M_size_14 : decode b_M_size 14 = .ok (.invokevirtual 36, 3) := by decide +kernel
theorem d_M_size_17 : decode b_M_size 17 = .ok (.aload_n 0, 1) := by decide +kernel
theorem d_M_size_18 : decode b_M_size 18 = .ok (.iload_n 1, 1) := by decide +kernel
theorem d_M_size_19 : decode b_M_size 19 = .ok (.invokevirtual 32, 3) := by decide +kernel
theorem d_M_size_22 : decode b_M_size 22 = .ok (.isub, 1) := by decide +kernel
theorem d_M_size_23 : decode b_M_size 23 = .ok (.goto 4, 3) := by decide +kernel
theorem d_M_size_26 : decode b_M_size 26 = .ok (.iconst 0, 1) := by decide +kernel
theorem d_M_size_27 : decode b_M_size 27 = .ok (.ireturn, 1) := by decide +kernel
theorem d_M_start_0 : decode b_M_start 0 = .ok (.aload_n 0, 1) := by decide +kernel
theorem d_M_start_1 : decode b_M_start 1 = .ok (.aload_n 0, 1) := by decide +kernel
theorem d_M_start_2 : decode b_M_start 2 = .ok (.iload_n 1, 1) := by decide +kernel
theorem d_M_start_3 : decode b_M_start 3 = .ok (.invokevirtual 42, 3) := by decide +kernel
theorem d_M_start_6 : decode b_M_start 6 = .ok (.invokevirtual 24, 3) := by decide +kernel
theorem d_M_start_9 : decode b_M_start 9 = .ok (.ifCond .eq 14, 3) := by decide +kernel
theorem d_M_start_12 : decode b_M_start 12 = .ok (.aload_n 0, 1) := by decide +kernel
theorem d_M_start_13 : decode b_M_start 13 = .ok (.bipush 32, 2) := by decide +kernel
theorem d_M_start_15 : decode b_M_start 15 = .ok (.iload_n 1, 1) := by decide +kernel
theorem d_M_start_16 : decode b_M_start 16 = .ok (.imul, 1) := by decide +kernel
theorem d_M_start_17 : decode b_M_start 17 = .ok (.invokevirtual 32, 3) := by decide +kernel
theorem d_M_start_20 : decode b_M_start 20 = .ok (.goto 4, 3) := by decide +kernel
theorem d_M_start_23 : decode b_M_start 23 = .ok (.iconst 0, 1) := by decide +kernel
theorem d_M_start_24 : decode b_M_start 24 = .ok (.ireturn, 1) := by decide +kernel
theorem d_M_begins_0 : decode b_M_begins 0 = .ok (.aload_n 0, 1) := by decide +kernel
theorem d_M_begins_1 : decode b_M_begins 1 = .ok (.aload_n 0, 1) := by decide +kernel
theorem d_M_begins_2 : decode b_M_begins 2 = .ok (.iload_n 1, 1) := by decide +kernel
theorem d_M_begins_3 : decode b_M_begins 3 = .ok (.invokevirtual 42, 3) := by decide +kernel
theorem d_M_begins_6 : decode b_M_begins 6 = .ok (.invokevirtual 24, 3) := by decide +kernel
theorem d_M_begins_9 : decode b_M_begins 9 = .ok (.ifCond .ne 5, 3) := by decide +kernel
theorem d_M_begins_12 : decode b_M_begins 12 = .ok (.iconst 0, 1) := by decide +kernel
theorem d_M_begins_13 : decode b_M_begins 13 = .ok (.ireturn, 1) := by decide +kernel
theorem d_M_begins_14 : decode b_M_begins 14 = .ok (.iconst 0, 1) := by decide +kernel
theorem d_M_begins_15 : decode b_M_begins 15 = .ok (.istore_n 2, 1) := by decide +kernel
theorem d_M_begins_16 : decode b_M_begins 16 = .ok (.bipush 32, 2) := by decide +kernel
theorem d_M_begins_18 : decode b_M_begins 18 = .ok (.iload_n 1, 1) := by decide +kernel
theorem d_M_begins_19 : decode b_M_begins 19 = .ok (.imul, 1) := by decide +kernel
theorem d_M_begins_20 : decode b_M_begins 20 = .ok (.istore_n 3, 1) := by decide +kernel
theorem d_M_begins_21 : decode b_M_begins 21 = .ok (.iload_n 3, 1) := by decide +kernel
theorem d_M_begins_22 : decode b_M_begins 22 = .ok (.bipush 32, 2) := by decide +kernel
theorem d_M_begins_24 : decode b_M_begins 24 = .ok (.iload_n 1, 1) := by decide +kernel
theorem d_M_begins_25 : decode b_M_begins 25 = .ok (.imul, 1) := by decide +kernel
theorem d_M_begins_26 : decode b_M_begins 26 = .ok (.bipush 32, 2) := by decide +kernel
theorem d_M_begins_28 : decode b_M_begins 28 = .ok (.iadd, 1) := by decide +kernel
theorem d_M_begins_29 : decode b_M_begins 29 = .ok (.if_icmp .ge 34, 3) := by decide +kernel
theorem d_M_begins_32 : decode b_M_begins 32 = .ok (.iload_n 3, 1) := by decide +kernel
theorem d_M_begins_33 : decode b_M_begins 33 = .ok (.aload_n 0, 1) := by decide +kernel
theorem d_M_begins_34 : decode b_M_begins 34 = .ok (.getfield 7, 3) := by decide +kernel
theorem d_M_begins_37 : decode b_M_begins 37 = .ok (.if_icmp .ge 26, 3) := by decide +kernel
theorem d_M_begins_40 : decode b_M_begins 40 = .ok (.aload_n 0, 1) := by decide +kernel
theorem d_M_begins_41 : decode b_M_begins 41 = .ok (.getfield 13, 3) := by decide +kernel
theorem d_M_begins_44 : decode b_M_begins 44 = .ok (.iload_n 3, 1) := by decide +kernel
theorem d_M_begins_45 : decode b_M_begins 45 = .ok (.baload, 1) := by decide +kernel
theorem d_M_begins_46 : decode b_M_begins 46 = .ok (.ifCond .eq 9, 3) := by decide +kernel
theorem d_M_begins_49 : decode b_M_begins 49 = .ok (.iload_n 2, 1) := by decide +kernel
theorem d_M_begins_50 : decode b_M_begins 50 = .ok (.iconst 1, 1) := by decide +kernel
theorem d_M_begins_51 : decode b_M_begins 51 = .ok (.iadd, 1) := by decide +kernel
theorem d_M_begins_52 : decode b_M_begins 52 = .ok (.goto 4, 3) := by decide +kernel
theorem d_M_begins_55 : decode b_M_begins 55 = .ok (.iload_n 2, 1) := by decide +kernel
theorem d_M_begins_56 : decode b_M_begins 56 = .ok (.istore_n 2, 1) := by decide +kernel
theorem d_M_begins_57 : decode b_M_begins 57 = .ok (.iinc 3 1, 3) := by decide +kernel
theorem d_M_begins_60 : decode b_M_begins 60 = .ok (.goto (-39), 3) := by decide +kernel
theorem d_M_begins_63 : decode b_M_begins 63 = .ok (.iload_n 2, 1) := by decide +kernel
theorem d_M_begins_64 : decode b_M_begins 64 = .ok (.ireturn, 1) := by decide +kernel
theorem d_M_count_0 : decode b_M_count 0 = .ok (.aload_n 0, 1) := by decide +kernel
theorem d_M_count_1 : decode b_M_count 1 = .ok (.iload_n 1, 1) := by decide +kernel
theorem d_M_count_2 : decode b_M_count 2 = .ok (.ifCond .lt 12, 3) := by decide +kernel
theorem d_M_count_5 : decode b_M_count 5 = .ok (.iload_n 1, 1) := by decide +kernel
theorem d_M_count_6 : decode b_M_count 6 = .ok (.iconst 4, 1) := by decide +kernel
theorem d_M_count_7 : decode b_M_count 7 = .ok (.if_icmp .gt 7, 3) := by decide +kernel
theorem d_M_count_10 : decode b_M_count 10 = .ok (.iconst 1, 1) := by decide +kernel
theorem d_M_count_11 : decode b_M_count 11 = .ok (.goto 4, 3) := by decide +kernel
theorem d_M_count_14 : decode b_M_count 14 = .ok (.iconst 0, 1) := by decide +kernel
theorem d_M_count_15 : decode b_M_count 15 = .ok (.invokevirtual 24, 3) := by decide +kernel
theorem d_M_count_18 : decode b_M_count 18 = .ok (.ifCond .ne 5, 3) := by decide +kernel
theorem d_M_count_21 : decode b_M_count 21 = .ok (.iconst 0, 1) := by decide +kernel
theorem d_M_count_22 : decode b_M_count 22 = .ok (.ireturn, 1) := by decide +kernel
theorem d_M_count_23 : decode b_M_count 23 = .ok (.iconst 0, 1) := by decide +kernel
theorem d_M_count_24 : decode b_M_count 24 = .ok (.istore_n 2, 1) := by decide +kernel
theorem d_M_count_25 : decode b_M_count 25 = .ok (.sipush 16384, 3) := by decide +kernel
theorem d_M_count_28 : decode b_M_count 28 = .ok (.istore_n 3, 1) := by decide +kernel
theorem d_M_count_29 : decode b_M_count 29 = .ok (.iconst 0, 1) := by decide +kernel
theorem d_M_count_30 : decode b_M_count 30 = .ok (.istore 4, 2) := by decide +kernel
theorem d_M_count_32 : decode b_M_count 32 = .ok (.iload 4, 2) := by decide +kernel
theorem d_M_count_34 : decode b_M_count 34 = .ok (.aload_n 0, 1) := by decide +kernel
theorem d_M_count_35 : decode b_M_count 35 = .ok (.getfield 7, 3) := by decide +kernel
theorem d_M_count_38 : decode b_M_count 38 = .ok (.if_icmp .ge 51, 3) := by decide +kernel
theorem d_M_count_41 : decode b_M_count 41 = .ok (.aload_n 0, 1) := by decide +kernel
theorem d_M_count_42 : decode b_M_count 42 = .ok (.iload 4, 2) := by decide +kernel
theorem d_M_count_44 : decode b_M_count 44 = .ok (.invokevirtual 36, 3) := by decide +kernel
theorem d_M_count_47 : decode b_M_count 47 = .ok (.iload 4, 2) := by decide +kernel
theorem d_M_count_49 : decode b_M_count 49 = .ok (.isub, 1) := by decide +kernel
theorem d_M_count_50 : decode b_M_count 50 = .ok (.istore 5, 2) := by decide +kernel
theorem d_M_count_52 : decode b_M_count 52 = .ok (.iload 5, 2) := by decide +kernel
theorem d_M_count_54 : decode b_M_count 54 = .ok (.iload_n 2, 1) := by decide +kernel
theorem d_M_count_55 : decode b_M_count 55 = .ok (.if_icmp .le 8, 3) := by decide +kernel
theorem d_M_count_58 : decode b_M_count 58 = .ok (.iload 5, 2) := by decide +kernel
theorem d_M_count_60 : decode b_M_count 60 = .ok (.goto 4, 3) := by decide +kernel
theorem d_M_count_63 : decode b_M_count 63 = .ok (.iload_n 2, 1) := by decide +kernel
theorem d_M_count_64 : decode b_M_count 64 = .ok (.istore_n 2, 1) := by decide +kernel
theorem d_M_count_65 : decode b_M_count 65 = .ok (.iload 5, 2) := by decide +kernel
theorem d_M_count_67 : decode b_M_count 67 = .ok (.iload_n 3, 1) := by decide +kernel
theorem d_M_count_68 : decode b_M_count 68 = .ok (.if_icmp .ge 8, 3) := by decide +kernel
theorem d_M_count_71 : decode b_M_count 71 = .ok (.iload 5, 2) := by decide +kernel
theorem d_M_count_73 : decode b_M_count 73 = .ok (.goto 4, 3) := by decide +kernel
theorem d_M_count_76 : decode b_M_count 76 = .ok (.iload_n 3, 1) := by decide +kernel
theorem d_M_count_77 : decode b_M_count 77 = .ok (.istore_n 3, 1) := by decide +kernel
theorem d_M_count_78 : decode b_M_count 78 = .ok (.aload_n 0, 1) := by decide +kernel
theorem d_M_count_79 : decode b_M_count 79 = .ok (.iload 4, 2) := by decide +kernel
theorem d_M_count_81 : decode b_M_count 81 = .ok (.invokevirtual 36, 3) := by decide +kernel
theorem d_M_count_84 : decode b_M_count 84 = .ok (.istore 4, 2) := by decide +kernel
theorem d_M_count_86 : decode b_M_count 86 = .ok (.goto (-54), 3) := by decide +kernel
theorem d_M_count_89 : decode b_M_count 89 = .ok (.iload_n 1, 1) := by decide +kernel
theorem d_M_count_90 : decode b_M_count 90 = .ok (.tableswitch 47 0 3 #[30, 35, 40, 45], 30) := by decide +kernel
theorem d_M_count_120 : decode b_M_count 120 = .ok (.aload_n 0, 1) := by decide +kernel
theorem d_M_count_121 : decode b_M_count 121 = .ok (.getfield 7, 3) := by decide +kernel
theorem d_M_count_124 : decode b_M_count 124 = .ok (.ireturn, 1) := by decide +kernel
theorem d_M_count_125 : decode b_M_count 125 = .ok (.aload_n 0, 1) := by decide +kernel
theorem d_M_count_126 : decode b_M_count 126 = .ok (.invokevirtual 20, 3) := by decide +kernel
theorem d_M_count_129 : decode b_M_count 129 = .ok (.ireturn, 1) := by decide +kernel
theorem d_M_count_130 : decode b_M_count 130 = .ok (.aload_n 0, 1) := by decide +kernel
theorem d_M_count_131 : decode b_M_count 131 = .ok (.invokevirtual 39, 3) := by decide +kernel
theorem d_M_count_134 : decode b_M_count 134 = .ok (.ireturn, 1) := by decide +kernel
theorem d_M_count_135 : decode b_M_count 135 = .ok (.iload_n 2, 1) := by decide +kernel
theorem d_M_count_136 : decode b_M_count 136 = .ok (.ireturn, 1) := by decide +kernel
theorem d_M_count_137 : decode b_M_count 137 = .ok (.iload_n 3, 1) := by decide +kernel
theorem d_M_count_138 : decode b_M_count 138 = .ok (.ireturn, 1) := by decide +kernel
theorem d_L_space_0 : decode b_L_space 0 = .ok (.aload_n 2, 1) := by decide +kernel
theorem d_L_space_1 : decode b_L_space 1 = .ok (.iconst 0, 1) := by decide +kernel
theorem d_L_space_2 : decode b_L_space 2 = .ok (.aload_n 0, 1) := by decide +kernel
theorem d_L_space_3 : decode b_L_space 3 = .ok (.iload_n 1, 1) := by decide +kernel
theorem d_L_space_4 : decode b_L_space 4 = .ok (.invokevirtual 7, 3) := by decide +kernel
theorem d_L_space_7 : decode b_L_space 7 = .ok (.i2l, 1) := by decide +kernel
theorem d_L_space_8 : decode b_L_space 8 = .ok (.lastore, 1) := by decide +kernel
theorem d_L_space_9 : decode b_L_space 9 = .ok (.goto 6, 3) := by decide +kernel
theorem d_L_space_12 : decode b_L_space 12 = .ok (.astore_n 3, 1) := by decide +kernel
theorem d_L_space_13 : decode b_L_space 13 = .ok (.iconst 1, 1) := by decide +kernel
theorem d_L_space_14 : decode b_L_space 14 = .ok (.ireturn, 1) := by decide +kernel
theorem d_L_space_15 : decode b_L_space 15 = .ok (.iconst 0, 1) := by decide +kernel
theorem d_L_space_16 : decode b_L_space 16 = .ok (.ireturn, 1) := by decide +kernel
theorem d_L_cut_0 : decode b_L_cut 0 = .ok (.aload_n 2, 1) := by decide +kernel
theorem d_L_cut_1 : decode b_L_cut 1 = .ok (.iconst 0, 1) := by decide +kernel
theorem d_L_cut_2 : decode b_L_cut 2 = .ok (.aload_n 0, 1) := by decide +kernel
theorem d_L_cut_3 : decode b_L_cut 3 = .ok (.iload_n 1, 1) := by decide +kernel
theorem d_L_cut_4 : decode b_L_cut 4 = .ok (.invokevirtual 15, 3) := by decide +kernel
theorem d_L_cut_7 : decode b_L_cut 7 = .ok (.i2l, 1) := by decide +kernel
theorem d_L_cut_8 : decode b_L_cut 8 = .ok (.lastore, 1) := by decide +kernel
theorem d_L_cut_9 : decode b_L_cut 9 = .ok (.goto 6, 3) := by decide +kernel
theorem d_L_cut_12 : decode b_L_cut 12 = .ok (.astore_n 3, 1) := by decide +kernel
theorem d_L_cut_13 : decode b_L_cut 13 = .ok (.iconst 1, 1) := by decide +kernel
theorem d_L_cut_14 : decode b_L_cut 14 = .ok (.ireturn, 1) := by decide +kernel
theorem d_L_cut_15 : decode b_L_cut 15 = .ok (.iconst 0, 1) := by decide +kernel
theorem d_L_cut_16 : decode b_L_cut 16 = .ok (.ireturn, 1) := by decide +kernel
theorem d_L_join_0 : decode b_L_join 0 = .ok (.aload_n 2, 1) := by decide +kernel
theorem d_L_join_1 : decode b_L_join 1 = .ok (.iconst 0, 1) := by decide +kernel
theorem d_L_join_2 : decode b_L_join 2 = .ok (.aload_n 0, 1) := by decide +kernel
theorem d_L_join_3 : decode b_L_join 3 = .ok (.iload_n 1, 1) := by decide +kernel
theorem d_L_join_4 : decode b_L_join 4 = .ok (.invokevirtual 20, 3) := by decide +kernel
theorem d_L_join_7 : decode b_L_join 7 = .ok (.i2l, 1) := by decide +kernel
theorem d_L_join_8 : decode b_L_join 8 = .ok (.lastore, 1) := by decide +kernel
theorem d_L_join_9 : decode b_L_join 9 = .ok (.goto 6, 3) := by decide +kernel
theorem d_L_join_12 : decode b_L_join 12 = .ok (.astore_n 3, 1) := by decide +kernel
theorem d_L_join_13 : decode b_L_join 13 = .ok (.iconst 1, 1) := by decide +kernel
theorem d_L_join_14 : decode b_L_join 14 = .ok (.ireturn, 1) := by decide +kernel
theorem d_L_join_15 : decode b_L_join 15 = .ok (.iconst 0, 1) := by decide +kernel
theorem d_L_join_16 : decode b_L_join 16 = .ok (.ireturn, 1) := by decide +kernel
theorem d_L_make_0 : decode b_L_make 0 = .ok (.aload_n 3, 1) := by decide +kernel
theorem d_L_make_1 : decode b_L_make 1 = .ok (.iconst 0, 1) := by decide +kernel
theorem d_L_make_2 : decode b_L_make 2 = .ok (.aload_n 0, 1) := by decide +kernel
theorem d_L_make_3 : decode b_L_make 3 = .ok (.iload_n 1, 1) := by decide +kernel
theorem d_L_make_4 : decode b_L_make 4 = .ok (.iload_n 2, 1) := by decide +kernel
theorem d_L_make_5 : decode b_L_make 5 = .ok (.invokevirtual 23, 3) := by decide +kernel
theorem d_L_make_8 : decode b_L_make 8 = .ok (.i2l, 1) := by decide +kernel
theorem d_L_make_9 : decode b_L_make 9 = .ok (.lastore, 1) := by decide +kernel
theorem d_L_make_10 : decode b_L_make 10 = .ok (.goto 7, 3) := by decide +kernel
theorem d_L_make_13 : decode b_L_make 13 = .ok (.astore 4, 2) := by decide +kernel
theorem d_L_make_15 : decode b_L_make 15 = .ok (.iconst 1, 1) := by decide +kernel
theorem d_L_make_16 : decode b_L_make 16 = .ok (.ireturn, 1) := by decide +kernel
theorem d_L_make_17 : decode b_L_make 17 = .ok (.iconst 0, 1) := by decide +kernel
theorem d_L_make_18 : decode b_L_make 18 = .ok (.ireturn, 1) := by decide +kernel
theorem d_L_begin_0 : decode b_L_begin 0 = .ok (.aload_n 2, 1) := by decide +kernel
theorem d_L_begin_1 : decode b_L_begin 1 = .ok (.iconst 0, 1) := by decide +kernel
theorem d_L_begin_2 : decode b_L_begin 2 = .ok (.aload_n 0, 1) := by decide +kernel
theorem d_L_begin_3 : decode b_L_begin 3 = .ok (.iload_n 1, 1) := by decide +kernel
theorem d_L_begin_4 : decode b_L_begin 4 = .ok (.invokevirtual 27, 3) := by decide +kernel
theorem d_L_begin_7 : decode b_L_begin 7 = .ok (.i2l, 1) := by decide +kernel
theorem d_L_begin_8 : decode b_L_begin 8 = .ok (.lastore, 1) := by decide +kernel
theorem d_L_begin_9 : decode b_L_begin 9 = .ok (.goto 6, 3) := by decide +kernel
theorem d_L_begin_12 : decode b_L_begin 12 = .ok (.astore_n 3, 1) := by decide +kernel
theorem d_L_begin_13 : decode b_L_begin 13 = .ok (.iconst 1, 1) := by decide +kernel
theorem d_L_begin_14 : decode b_L_begin 14 = .ok (.ireturn, 1) := by decide +kernel
theorem d_L_begin_15 : decode b_L_begin 15 = .ok (.iconst 0, 1) := by decide +kernel
theorem d_L_begin_16 : decode b_L_begin 16 = .ok (.ireturn, 1) := by decide +kernel
theorem d_L_size_0 : decode b_L_size 0 = .ok (.aload_n 2, 1) := by decide +kernel
theorem d_L_size_1 : decode b_L_size 1 = .ok (.iconst 0, 1) := by decide +kernel
theorem d_L_size_2 : decode b_L_size 2 = .ok (.aload_n 0, 1) := by decide +kernel
theorem d_L_size_3 : decode b_L_size 3 = .ok (.iload_n 1, 1) := by decide +kernel
theorem d_L_size_4 : decode b_L_size 4 = .ok (.invokevirtual 30, 3) := by decide +kernel
theorem d_L_size_7 : decode b_L_size 7 = .ok (.i2l, 1) := by decide +kernel
theorem d_L_size_8 : decode b_L_size 8 = .ok (.lastore, 1) := by decide +kernel
theorem d_L_size_9 : decode b_L_size 9 = .ok (.goto 6, 3) := by decide +kernel
theorem d_L_size_12 : decode b_L_size 12 = .ok (.astore_n 3, 1) := by decide +kernel
theorem d_L_size_13 : decode b_L_size 13 = .ok (.iconst 1, 1) := by decide +kernel
theorem d_L_size_14 : decode b_L_size 14 = .ok (.ireturn, 1) := by decide +kernel
theorem d_L_size_15 : decode b_L_size 15 = .ok (.iconst 0, 1) := by decide +kernel
theorem d_L_size_16 : decode b_L_size 16 = .ok (.ireturn, 1) := by decide +kernel
theorem d_L_start_0 : decode b_L_start 0 = .ok (.aload_n 2, 1) := by decide +kernel
theorem d_L_start_1 : decode b_L_start 1 = .ok (.iconst 0, 1) := by decide +kernel
theorem d_L_start_2 : decode b_L_start 2 = .ok (.aload_n 0, 1) := by decide +kernel
theorem d_L_start_3 : decode b_L_start 3 = .ok (.iload_n 1, 1) := by decide +kernel
theorem d_L_start_4 : decode b_L_start 4 = .ok (.invokevirtual 33, 3) := by decide +kernel
theorem d_L_start_7 : decode b_L_start 7 = .ok (.i2l, 1) := by decide +kernel
theorem d_L_start_8 : decode b_L_start 8 = .ok (.lastore, 1) := by decide +kernel
theorem d_L_start_9 : decode b_L_start 9 = .ok (.goto 6, 3) := by decide +kernel
theorem d_L_start_12 : decode b_L_start 12 = .ok (.astore_n 3, 1) := by decide +kernel
theorem d_L_start_13 : decode b_L_start 13 = .ok (.iconst 1, 1) := by decide +kernel
theorem d_L_start_14 : decode b_L_start 14 = .ok (.ireturn, 1) := by decide +kernel
theorem d_L_start_15 : decode b_L_start 15 = .ok (.iconst 0, 1) := by decide +kernel
theorem d_L_start_16 : decode b_L_start 16 = .ok (.ireturn, 1) := by decide +kernel
theorem d_L_begins_0 : decode b_L_begins 0 = .ok (.aload_n 2, 1) := by decide +kernel
theorem d_L_begins_1 : decode b_L_begins 1 = .ok (.iconst 0, 1) := by decide +kernel
theorem d_L_begins_2 : decode b_L_begins 2 = .ok (.aload_n 0, 1) := by decide +kernel
theorem d_L_begins_3 : decode b_L_begins 3 = .ok (.iload_n 1, 1) := by decide +kernel
theorem d_L_begins_4 : decode b_L_begins 4 = .ok (.invokevirtual 36, 3) := by decide +kernel
theorem d_L_begins_7 : decode b_L_begins 7 = .ok (.i2l, 1) := by decide +kernel
theorem d_L_begins_8 : decode b_L_begins 8 = .ok (.lastore, 1) := by decide +kernel
theorem d_L_begins_9 : decode b_L_begins 9 = .ok (.goto 6, 3) := by decide +kernel
theorem d_L_begins_12 : decode b_L_begins 12 = .ok (.astore_n 3, 1) := by decide +kernel
theorem d_L_begins_13 : decode b_L_begins 13 = .ok (.iconst 1, 1) := by decide +kernel
theorem d_L_begins_14 : decode b_L_begins 14 = .ok (.ireturn, 1) := by decide +kernel
theorem d_L_begins_15 : decode b_L_begins 15 = .ok (.iconst 0, 1) := by decide +kernel
theorem d_L_begins_16 : decode b_L_begins 16 = .ok (.ireturn, 1) := by decide +kernel
theorem d_L_count_0 : decode b_L_count 0 = .ok (.aload_n 2, 1) := by decide +kernel
theorem d_L_count_1 : decode b_L_count 1 = .ok (.iconst 0, 1) := by decide +kernel
theorem d_L_count_2 : decode b_L_count 2 = .ok (.aload_n 0, 1) := by decide +kernel
theorem d_L_count_3 : decode b_L_count 3 = .ok (.iload_n 1, 1) := by decide +kernel
theorem d_L_count_4 : decode b_L_count 4 = .ok (.invokevirtual 39, 3) := by decide +kernel
theorem d_L_count_7 : decode b_L_count 7 = .ok (.i2l, 1) := by decide +kernel
theorem d_L_count_8 : decode b_L_count 8 = .ok (.lastore, 1) := by decide +kernel
theorem d_L_count_9 : decode b_L_count 9 = .ok (.goto 6, 3) := by decide +kernel
theorem d_L_count_12 : decode b_L_count 12 = .ok (.astore_n 3, 1) := by decide +kernel
theorem d_L_count_13 : decode b_L_count 13 = .ok (.iconst 1, 1) := by decide +kernel
theorem d_L_count_14 : decode b_L_count 14 = .ok (.ireturn, 1) := by decide +kernel
theorem d_L_count_15 : decode b_L_count 15 = .ok (.iconst 0, 1) := by decide +kernel
theorem d_L_count_16 : decode b_L_count 16 = .ok (.ireturn, 1) := by decide +kernel
end
section
/-! THE PLAIN PICTURE: B says where a piece begins; nothing of the machine here -/
def bI (b : Bool) : Int32 := if b then nI 1 else nI 0
def bz (B : Nat → Bool) : Nat → Int32 := fun j => bI (B j)
def sB (B : Nat → Bool) (k : Nat) (b : Bool) : Nat → Bool := fun j => if j = k then b else B j
theorem bI_t : bI true = nI 1 := rfl
theorem bI_f : bI false = nI 0 := rfl
theorem sB_self (B : Nat → Bool) (k : Nat) (b : Bool) : sB B k b k = b := by simp [sB]
theorem sB_ne {B : Nat → Bool} {k j : Nat} {b : Bool} (h : j ≠ k) : sB B k b j = B j := by simp [sB, h]
theorem upd_bz (B : Nat → Bool) (k : Nat) (b : Bool) : upd (bz B) k (bI b) = bz (sB B k b) := by
  funext j
  by_cases h : j = k <;> simp [upd, bz, sB, h]
theorem sB_same {B : Nat → Bool} {k : Nat} {b : Bool} (h : B k = b) : sB B k b = B := by
  funext j
  by_cases hj : j = k
  · subst hj; simp [sB, h]
  · simp [sB, hj]
def isPv (B : Nat → Bool) (a p : Nat) : Prop := p ≤ a ∧ B p = true ∧ ∀ j, p < j → j ≤ a → B j = false
def isNx (B : Nat → Bool) (a q : Nat) : Prop := a < q ∧ B q = true ∧ ∀ j, a < j → j < q → B j = false
def pv (B : Nat → Bool) : Nat → Nat
  | 0 => 0
  | a + 1 => if B (a + 1) = true then a + 1 else pv B a
def nxF (B : Nat → Bool) : Nat → Nat → Nat
  | 0, a => a + 1
  | f + 1, a => if B (a + 1) = true then a + 1 else nxF B f (a + 1)
def nx (B : Nat → Bool) (N a : Nat) : Nat := nxF B (N - a - 1) a
def cnt (B : Nat → Bool) : Nat → Nat
  | 0 => 0
  | n + 1 => cnt B n + (if B n = true then 1 else 0)
theorem bt_ne {b : Bool} (h : b = true) (h2 : b = false) : False := by rw [h] at h2; cases h2
theorem bt_f {b : Bool} (h : ¬ b = true) : b = false := by cases b <;> simp_all
theorem pv_is {B : Nat → Bool} (h0 : B 0 = true) : ∀ a, isPv B a (pv B a) := by
  intro a
  induction a with
  | zero => exact ⟨Nat.le_refl _, h0, fun j h1 h2 => absurd h1 (by simp only [pv]; omega)⟩
  | succ a ih =>
    simp only [pv]
    by_cases h : B (a + 1) = true
    · rw [if_pos h]
      exact ⟨Nat.le_refl _, h, fun j h1 h2 => by omega⟩
    · rw [if_neg h]
      refine ⟨Nat.le_succ_of_le ih.1, ih.2.1, fun j h1 h2 => ?_⟩
      by_cases hj : j = a + 1
      · subst hj; exact bt_f h
      · exact ih.2.2 j h1 (by omega)
theorem pv_uq {B : Nat → Bool} {a p q : Nat} (h : isPv B a p) (h2 : isPv B a q) : p = q := by
  rcases Nat.lt_trichotomy p q with z | z | z
  · exact (bt_ne h2.2.1 (h.2.2 q z h2.1)).elim
  · exact z
  · exact (bt_ne h.2.1 (h2.2.2 p z h.1)).elim
theorem pv_eq {B : Nat → Bool} {a p : Nat} (h0 : B 0 = true) (h : isPv B a p) : pv B a = p := pv_uq (pv_is h0 a) h
theorem nx_uq {B : Nat → Bool} {a p q : Nat} (h : isNx B a p) (h2 : isNx B a q) : p = q := by
  rcases Nat.lt_trichotomy p q with z | z | z
  · exact (bt_ne h.2.1 (h2.2.2 p h.1 z)).elim
  · exact z
  · exact (bt_ne h2.2.1 (h.2.2 q h2.1 z)).elim
theorem nxF_is {B : Nat → Bool} {N : Nat} (hN : B N = true) : ∀ f a, a + f + 1 = N → isNx B a (nxF B f a) ∧ nxF B f a ≤ N := by
  intro f
  induction f with
  | zero =>
    intro a h
    simp only [nxF]
    have e : a + 1 = N := by omega
    exact ⟨⟨Nat.lt_succ_self a, by rw [e]; exact hN, fun j h1 h2 => by omega⟩, by omega⟩
  | succ f ih =>
    intro a h
    simp only [nxF]
    by_cases hB : B (a + 1) = true
    · rw [if_pos hB]
      exact ⟨⟨Nat.lt_succ_self a, hB, fun j h1 h2 => by omega⟩, by omega⟩
    · rw [if_neg hB]
      obtain ⟨⟨q1, q2, q3⟩, q4⟩ := ih (a + 1) (by omega)
      refine ⟨⟨by omega, q2, fun j h1 h2 => ?_⟩, q4⟩
      by_cases hj : j = a + 1
      · subst hj; exact bt_f hB
      · exact q3 j (by omega) h2
theorem nx_is {B : Nat → Bool} {N a : Nat} (hN : B N = true) (h : a < N) : isNx B a (nx B N a) := (nxF_is hN (N - a - 1) a (by omega)).1
theorem nx_le {B : Nat → Bool} {N a : Nat} (hN : B N = true) (h : a < N) : nx B N a ≤ N := (nxF_is hN (N - a - 1) a (by omega)).2
theorem nx_gt {B : Nat → Bool} {N a : Nat} (hN : B N = true) (h : a < N) : a < nx B N a := (nx_is hN h).1
theorem nx_b {B : Nat → Bool} {N a : Nat} (hN : B N = true) (h : a < N) : B (nx B N a) = true := (nx_is hN h).2.1
theorem nx_eq {B : Nat → Bool} {N a q : Nat} (hN : B N = true) (h : a < N) (hq : isNx B a q) : nx B N a = q := nx_uq (nx_is hN h) hq
theorem pv_le {B : Nat → Bool} (h0 : B 0 = true) (a : Nat) : pv B a ≤ a := (pv_is h0 a).1
theorem pv_b {B : Nat → Bool} (h0 : B 0 = true) (a : Nat) : B (pv B a) = true := (pv_is h0 a).2.1
/-- the piece over a: what comes behind its beginning comes behind a -/
theorem nx_pv {B : Nat → Bool} {N a : Nat} (h0 : B 0 = true) (hN : B N = true) (h : a < N) : nx B N (pv B a) = nx B N a := by
  have hp := pv_is h0 a
  have hq := nx_is hN h
  refine nx_eq hN (Nat.lt_of_le_of_lt hp.1 h) ⟨Nat.lt_of_le_of_lt hp.1 hq.1, hq.2.1, fun j h1 h2 => ?_⟩
  by_cases hj : j ≤ a
  · exact hp.2.2 j h1 hj
  · exact hq.2.2 j (by omega) h2
theorem pv_self {B : Nat → Bool} {a : Nat} (h0 : B 0 = true) (h : B a = true) : pv B a = a := pv_eq h0 ⟨Nat.le_refl a, h, fun j h1 h2 => by omega⟩
theorem pv_pred {B : Nat → Bool} {a : Nat} (h : B (a + 1) = false) : pv B (a + 1) = pv B a := by simp [pv, h]
/-- from p, a beginning at or ahead of a, with the next one behind a: p is a's -/
theorem pv_of_nx {B : Nat → Bool} {N a p : Nat} (h0 : B 0 = true) (hN : B N = true) (hp : p < N) (hb : B p = true) (h1 : p ≤ a) (h2 : a < nx B N p) : pv B a = p := by
  have hq := nx_is hN hp
  exact pv_eq h0 ⟨h1, hb, fun j z1 z2 => hq.2.2 j z1 (by omega)⟩
theorem cnt_s (B : Nat → Bool) (n : Nat) : cnt B (n + 1) = cnt B n + (if B n = true then 1 else 0) := rfl
theorem cnt_t {B : Nat → Bool} {n : Nat} (h : B n = true) : cnt B (n + 1) = cnt B n + 1 := by rw [cnt_s, if_pos h]
theorem cnt_f {B : Nat → Bool} {n : Nat} (h : B n = false) : cnt B (n + 1) = cnt B n := by rw [cnt_s, if_neg (by rw [h]; decide)]; rfl
theorem cnt_mono {B : Nat → Bool} {a b : Nat} (h : a ≤ b) : cnt B a ≤ cnt B b := by
  induction b with
  | zero => have : a = 0 := by omega
            subst this; exact Nat.le_refl _
  | succ b ih =>
    by_cases hb : a = b + 1
    · subst hb; exact Nat.le_refl _
    · exact Nat.le_trans (ih (by omega)) (by rw [cnt_s]; exact Nat.le_add_right _ _)
theorem cnt_gap {B : Nat → Bool} {a b : Nat} (h : a ≤ b) (hz : ∀ j, a ≤ j → j < b → B j = false) : cnt B b = cnt B a := by
  induction b with
  | zero => have : a = 0 := by omega
            subst this; rfl
  | succ b ih =>
    by_cases hb : a = b + 1
    · subst hb; rfl
    · rw [cnt_f (hz b (by omega) (by omega))]
      exact ih (by omega) (fun j h1 h2 => hz j h1 (by omega))
theorem cnt_le (B : Nat → Bool) (n : Nat) : cnt B n ≤ n := by
  induction n with
  | zero => exact Nat.le_refl _
  | succ n ih =>
    rw [cnt_s]
    split <;> omega
theorem cnt_nx {B : Nat → Bool} {N a : Nat} (hN : B N = true) (h : a < N) (hb : B a = true) : cnt B (nx B N a) = cnt B a + 1 := by
  have hq := nx_is hN h
  rw [← cnt_t hb]
  exact cnt_gap hq.1 (fun j h1 h2 => hq.2.2 j h1 h2)
theorem cnt_sB_t {B : Nat → Bool} {a : Nat} (h : B a = false) : ∀ n, cnt (sB B a true) n = cnt B n + (if a < n then 1 else 0) := by
  intro n
  induction n with
  | zero => rfl
  | succ n ih =>
    rw [cnt_s, cnt_s, ih]
    by_cases hn : n = a
    · subst hn
      rw [sB_self, h]
      simp
    · rw [sB_ne hn]
      by_cases h1 : a < n
      · rw [if_pos h1, if_pos (show a < n + 1 by omega)]; omega
      · rw [if_neg h1, if_neg (show ¬ a < n + 1 by omega)]; omega
theorem cnt_sB_f {B : Nat → Bool} {a : Nat} (h : B a = true) : ∀ n, cnt (sB B a false) n + (if a < n then 1 else 0) = cnt B n := by
  intro n
  induction n with
  | zero => rfl
  | succ n ih =>
    rw [cnt_s, cnt_s, ← ih]
    by_cases hn : n = a
    · subst hn
      rw [sB_self, h]
      simp
    · rw [sB_ne hn]
      by_cases h1 : a < n
      · rw [if_pos h1, if_pos (show a < n + 1 by omega)]; omega
      · rw [if_neg h1, if_neg (show ¬ a < n + 1 by omega)]; omega
/-- the table's arrays behind piece(a, e - a) -/
def stS (st : Nat → Int32) (a e : Nat) : Nat → Int32 := fun c => if a ≤ 32 * c ∧ 32 * c < e then nI a else st c
def Rep (N : Nat) (B : Nat → Bool) (P : Int32) (st sz : Nat → Int32) : Prop :=
  1 ≤ N ∧ N ≤ 16384 ∧ B 0 = true ∧ B N = true ∧ P = nI (cnt B N) ∧ (∀ p, p < N → B p = true → sz p = nI (nx B N p - p)) ∧ ∀ c, 32 * c < N → st c = nI (pv B (32 * c))
theorem rep_mk {N : Nat} {B : Nat → Bool} {P : Int32} {st sz : Nat → Int32} (h1 : 1 ≤ N) (h2 : N ≤ 16384) (h0 : B 0 = true) (hN : B N = true) (hP : P = nI (cnt B N))
    (hz : ∀ p, p < N → B p = true → ∃ q, isNx B p q ∧ sz p = nI (q - p)) (hs : ∀ c, 32 * c < N → ∃ p, isPv B (32 * c) p ∧ st c = nI p) : Rep N B P st sz := by
  refine ⟨h1, h2, h0, hN, hP, fun p hp hb => ?_, fun c hc => ?_⟩
  · obtain ⟨q, e1, e2⟩ := hz p hp hb
    rw [nx_eq hN hp e1]; exact e2
  · obtain ⟨p, e1, e2⟩ := hs c hc
    rw [pv_eq h0 e1]; exact e2
theorem upd_at (f : Nat → Int32) (k : Nat) (x : Int32) : upd f k x k = x := by simp [upd]
theorem upd_ne {f : Nat → Int32} {k j : Nat} {x : Int32} (h : j ≠ k) : upd f k x j = f j := by simp [upd, h]
/-- one piece over all -/
theorem rep_one {n : Nat} {B : Nat → Bool} {st sz : Nat → Int32} (h1 : 1 ≤ n) (h2 : n ≤ 16384) (h0 : B 0 = true) (hN : B n = true) (hb : ∀ j, 0 < j → j < n → B j = false) : Rep n B (nI 1) (stS st 0 n) (upd sz 0 (nI n)) := by
  refine rep_mk h1 h2 h0 hN ?_ (fun p hp hB => ?_) (fun c hc => ⟨0, ⟨Nat.zero_le _, h0, fun j z1 z2 => hb j z1 (by omega)⟩, by simp [stS, hc]⟩)
  · have e : cnt B n = cnt B 1 := cnt_gap h1 (fun j z1 z2 => hb j (by omega) z2)
    rw [e, cnt_t h0]; rfl
  · have hp0 : p = 0 := by
      rcases Nat.eq_zero_or_pos p with z | z
      · exact z
      · exact (bt_ne hB (hb p z hp)).elim
    subst hp0
    exact ⟨n, ⟨hp, hN, hb⟩, by rw [upd_at]; rfl⟩
theorem rep_cut {N : Nat} {B : Nat → Bool} {P : Int32} {st sz : Nat → Int32} (h : Rep N B P st sz) {a p q : Nat} (ha : a < N) (hp : pv B a = p) (hq : nx B N p = q) (hne : p ≠ a) :
    Rep N (sB B a true) (P + nI 1) (stS (stS st p a) a q) (upd (upd sz p (nI (a - p))) a (nI (q - a))) := by
  obtain ⟨r1, r2, r0, rN, rP, rz, rs⟩ := h
  have ip : isPv B a p := hp ▸ pv_is r0 a
  have hpa : p < a := Nat.lt_of_le_of_ne ip.1 hne
  have iq : isNx B p q := hq ▸ nx_is rN (by omega)
  have hqN : q ≤ N := hq ▸ nx_le rN (by omega)
  have hBa : B a = false := ip.2.2 a hpa (Nat.le_refl a)
  have haq : a < q := by
    have e := nx_pv r0 rN ha
    rw [hp, hq] at e
    rw [e]; exact nx_gt rN ha
  have up : ∀ j, B j = true → sB B a true j = true := fun j hj => by
    by_cases z : j = a
    · subst z; exact sB_self _ _ _
    · rw [sB_ne z]; exact hj
  refine rep_mk r1 r2 (up 0 r0) (up N rN) ?_ (fun x hx hB => ?_) (fun c hc => ?_)
  · rw [rP, cnt_sB_t hBa, if_pos ha, nI_add]
  · by_cases hxa : x = a
    · subst hxa
      exact ⟨q, ⟨haq, up q iq.2.1, fun j z1 z2 => by rw [sB_ne (by omega)]; exact iq.2.2 j (by omega) z2⟩, upd_at _ _ _⟩
    · rw [sB_ne hxa] at hB
      rw [upd_ne hxa]
      by_cases hxp : x = p
      · subst hxp
        exact ⟨a, ⟨hpa, sB_self _ _ _, fun j z1 z2 => by rw [sB_ne (by omega)]; exact ip.2.2 j z1 (by omega)⟩, upd_at _ _ _⟩
      · rw [upd_ne hxp]
        have ix := nx_is rN hx
        refine ⟨nx B N x, ⟨ix.1, up _ ix.2.1, fun j z1 z2 => ?_⟩, rz x hx hB⟩
        by_cases hja : j = a
        · subst hja
          have hxp2 : x < p := by
            rcases Nat.lt_trichotomy x p with z | z | z
            · exact z
            · exact absurd z hxp
            · exact (bt_ne hB (ip.2.2 x z (by omega))).elim
          exact (bt_ne ip.2.1 (ix.2.2 p hxp2 (by omega))).elim
        · rw [sB_ne hja]; exact ix.2.2 j z1 z2
  · by_cases c1 : a ≤ 32 * c ∧ 32 * c < q
    · exact ⟨a, ⟨c1.1, sB_self _ _ _, fun j z1 z2 => by rw [sB_ne (by omega)]; exact iq.2.2 j (by omega) (by omega)⟩, by simp only [stS]; rw [if_pos c1]⟩
    · by_cases c2 : p ≤ 32 * c ∧ 32 * c < a
      · exact ⟨p, ⟨c2.1, up p ip.2.1, fun j z1 z2 => by rw [sB_ne (by omega)]; exact ip.2.2 j z1 (by omega)⟩, by simp only [stS]; rw [if_neg c1, if_pos c2]⟩
      · have iy := pv_is r0 (32 * c)
        refine ⟨pv B (32 * c), ⟨iy.1, up _ iy.2.1, fun j z1 z2 => ?_⟩, by simp only [stS]; rw [if_neg c1, if_neg c2]; exact rs c hc⟩
        by_cases hja : j = a
        · subst hja
          have hq2 : q ≤ 32 * c := by omega
          have hy : q ≤ pv B (32 * c) := by
            rcases Nat.lt_or_ge (pv B (32 * c)) q with z | z
            · exact (bt_ne iq.2.1 (iy.2.2 q z hq2)).elim
            · exact z
          omega
        · rw [sB_ne hja]; exact iy.2.2 j z1 z2
theorem rep_join {N : Nat} {B : Nat → Bool} {P : Int32} {st sz : Nat → Int32} (h : Rep N B P st sz) {p q r : Nat} (hp : p < N) (hb : B p = true) (hq : nx B N p = q) (hqN : q < N) (hr : nx B N q = r) :
    Rep N (sB B q false) (P - nI 1) (stS st p r) (upd sz p (nI (r - p))) := by
  obtain ⟨r1, r2, r0, rN, rP, rz, rs⟩ := h
  have iq : isNx B p q := hq ▸ nx_is rN hp
  have ir : isNx B q r := hr ▸ nx_is rN hqN
  have dn : ∀ j, B j = false → sB B q false j = false := fun j hj => by
    by_cases z : j = q
    · subst z; exact sB_self _ _ _
    · rw [sB_ne z]; exact hj
  refine rep_mk r1 r2 (by rw [sB_ne (by have := iq.1; omega)]; exact r0) (by rw [sB_ne (by omega)]; exact rN) ?_ (fun x hx hB => ?_) (fun c hc => ?_)
  · have e := cnt_sB_f iq.2.1 N
    rw [if_pos hqN] at e
    rw [rP, ← e, pk_sub (by omega), Nat.add_sub_cancel]
  · have hxq : x ≠ q := fun z => by rw [z, sB_self] at hB; cases hB
    rw [sB_ne hxq] at hB
    by_cases hxp : x = p
    · subst hxp
      refine ⟨r, ⟨Nat.lt_trans iq.1 ir.1, by rw [sB_ne (by have := ir.1; omega)]; exact ir.2.1, fun j z1 z2 => ?_⟩, upd_at _ _ _⟩
      by_cases hj : j = q
      · subst hj; exact sB_self _ _ _
      · rcases Nat.lt_or_ge j q with z | z
        · exact dn j (iq.2.2 j z1 z)
        · exact dn j (ir.2.2 j (by omega) z2)
    · rw [upd_ne hxp]
      have ix := nx_is rN hx
      have hne : nx B N x ≠ q := fun z => by
        rw [z] at ix
        rcases Nat.lt_trichotomy x p with w | w | w
        · exact bt_ne hb (ix.2.2 p w iq.1)
        · exact hxp w
        · exact bt_ne hB (iq.2.2 x w ix.1)
      exact ⟨nx B N x, ⟨ix.1, by rw [sB_ne hne]; exact ix.2.1, fun j z1 z2 => dn j (ix.2.2 j z1 z2)⟩, rz x hx hB⟩
  · by_cases c1 : p ≤ 32 * c ∧ 32 * c < r
    · refine ⟨p, ⟨c1.1, by rw [sB_ne (by have := iq.1; omega)]; exact hb, fun j z1 z2 => ?_⟩, by simp only [stS]; rw [if_pos c1]⟩
      by_cases hj : j = q
      · subst hj; exact sB_self _ _ _
      · rcases Nat.lt_or_ge j q with z | z
        · exact dn j (iq.2.2 j z1 z)
        · exact dn j (ir.2.2 j (by omega) (by omega))
    · have iy := pv_is r0 (32 * c)
      have hne : pv B (32 * c) ≠ q := fun z => by
        rw [z] at iy
        have h1 : ¬ r ≤ 32 * c := fun w => bt_ne ir.2.1 (iy.2.2 r ir.1 w)
        have := iq.1
        have := iy.1
        omega
      exact ⟨pv B (32 * c), ⟨iy.1, by rw [sB_ne hne]; exact iy.2.1, fun j z1 z2 => dn j (iy.2.2 j z1 z2)⟩, by simp only [stS]; rw [if_neg c1]; exact rs c hc⟩
/-- make(a, b): one piece from a to b -/
def mkB (B : Nat → Bool) (a b : Nat) : Nat → Bool := fun c => if a ≤ c ∧ c ≤ b then (decide (c = a) || decide (c = b)) else B c
theorem mkB_out {B : Nat → Bool} {a b c : Nat} (h : ¬ (a ≤ c ∧ c ≤ b)) : mkB B a b c = B c := by simp only [mkB]; rw [if_neg h]
theorem mkB_a (B : Nat → Bool) {a b : Nat} (h : a < b) : mkB B a b a = true := by simp only [mkB]; rw [if_pos ⟨Nat.le_refl a, by omega⟩]; simp
theorem mkB_b (B : Nat → Bool) {a b : Nat} (h : a < b) : mkB B a b b = true := by simp only [mkB]; rw [if_pos ⟨by omega, Nat.le_refl b⟩]; simp
theorem mkB_in (B : Nat → Bool) {a b c : Nat} (h1 : a < c) (h2 : c < b) : mkB B a b c = false := by
  simp only [mkB]; rw [if_pos ⟨by omega, by omega⟩]
  have e1 : c ≠ a := by omega
  have e2 : c ≠ b := by omega
  simp [e1, e2]
theorem mkB_cut (B : Nat → Bool) {a b : Nat} (hab : a < b) : mkB (sB (sB B a true) b true) a b = mkB B a b := by
  funext c
  by_cases h : a ≤ c ∧ c ≤ b
  · simp only [mkB]; rw [if_pos h, if_pos h]
  · rw [mkB_out h, mkB_out h]
    rw [sB_ne (by omega), sB_ne (by omega)]
theorem cnt_congr {B C : Nat → Bool} : ∀ {n : Nat}, (∀ j, j < n → B j = C j) → cnt B n = cnt C n := by
  intro n
  induction n with
  | zero => intro _; rfl
  | succ n ih =>
    intro h
    rw [cnt_s, cnt_s, ih (fun j hj => h j (by omega)), h n (by omega)]
theorem cnt_mkB {B : Nat → Bool} {a b : Nat} (hab : a < b) (ha : B a = true) (hb : B b = true) : ∀ n, b ≤ n → cnt (mkB B a b) n + (cnt B b - cnt B (a + 1)) = cnt B n := by
  have h0 : cnt (mkB B a b) (a + 1) = cnt B (a + 1) := cnt_congr (fun j hj => by
    by_cases e : j = a
    · subst e; rw [mkB_a B hab, ha]
    · exact mkB_out (by omega))
  have h1 : cnt (mkB B a b) b = cnt B (a + 1) := by
    rw [← h0]
    exact cnt_gap hab (fun j z1 z2 => mkB_in B (by omega) z2)
  have h2 : cnt B (a + 1) ≤ cnt B b := cnt_mono hab
  intro n
  induction n with
  | zero => intro h; omega
  | succ n ih =>
    intro h
    by_cases hn : b = n + 1
    · rw [← hn, h1]; omega
    · have i := ih (by omega)
      have e : mkB B a b n = B n := by
        by_cases e : n = b
        · subst e; rw [mkB_b B hab, hb]
        · exact mkB_out (by omega)
      rw [cnt_s (mkB B a b) n, cnt_s B n, e]
      omega
theorem rep_make {N : Nat} {B : Nat → Bool} {P0 : Int32} {st sz : Nat → Int32} (h : Rep N B P0 st sz) {a b : Nat} (hab : a < b) (hbN : b ≤ N) (ha : B a = true) (hb : B b = true) :
    Rep N (mkB B a b) (nI (cnt B N - (cnt B b - cnt B (a + 1)))) (stS st a b) (upd sz a (nI (b - a))) := by
  obtain ⟨r1, r2, r0, rN, rP, rz, rs⟩ := h
  have eN : mkB B a b N = true := by
    by_cases e : N = b
    · rw [e]; exact mkB_b B hab
    · rw [mkB_out (by omega)]; exact rN
  have e0 : mkB B a b 0 = true := by
    by_cases e : a = 0
    · subst e; exact mkB_a B hab
    · rw [mkB_out (by omega)]; exact r0
  refine rep_mk r1 r2 e0 eN ?_ (fun x hx hB => ?_) (fun c hc => ?_)
  · have e := cnt_mkB hab ha hb N hbN
    congr 1
    omega
  · by_cases hxa : x = a
    · subst hxa
      exact ⟨b, ⟨hab, mkB_b B hab, fun j z1 z2 => mkB_in B z1 z2⟩, upd_at _ _ _⟩
    · rw [upd_ne hxa]
      rcases Nat.lt_or_ge x a with z | z
      · rw [mkB_out (by omega)] at hB
        have ix := nx_is rN hx
        have hle : nx B N x ≤ a := by
          rcases Nat.lt_or_ge a (nx B N x) with w | w
          · exact (bt_ne ha (ix.2.2 a z w)).elim
          · exact w
        refine ⟨nx B N x, ⟨ix.1, ?_, fun j z1 z2 => ?_⟩, rz x hx hB⟩
        · by_cases e : nx B N x = a
          · rw [e]; exact mkB_a B hab
          · rw [mkB_out (by omega)]; exact ix.2.1
        · rw [mkB_out (by omega)]; exact ix.2.2 j z1 z2
      · have hxb : b ≤ x := by
          rcases Nat.lt_or_ge x b with w | w
          · rw [mkB_in B (by omega) w] at hB; cases hB
          · exact w
        have hBx : B x = true := by
          by_cases e : x = b
          · rw [e]; exact hb
          · rw [mkB_out (by omega)] at hB; exact hB
        have ix := nx_is rN hx
        exact ⟨nx B N x, ⟨ix.1, by rw [mkB_out (by have := ix.1; omega)]; exact ix.2.1, fun j z1 z2 => by rw [mkB_out (by omega)]; exact ix.2.2 j z1 z2⟩, rz x hx hBx⟩
  · by_cases c1 : a ≤ 32 * c ∧ 32 * c < b
    · exact ⟨a, ⟨c1.1, mkB_a B hab, fun j z1 z2 => mkB_in B z1 (by omega)⟩, by simp only [stS]; rw [if_pos c1]⟩
    · have iy := pv_is r0 (32 * c)
      refine ⟨pv B (32 * c), ⟨iy.1, ?_, fun j z1 z2 => ?_⟩, by simp only [stS]; rw [if_neg c1]; exact rs c hc⟩
      · rcases Nat.lt_or_ge (32 * c) a with z | z
        · rw [mkB_out (by have := iy.1; omega)]; exact iy.2.1
        · have hy : b ≤ pv B (32 * c) := by
            rcases Nat.lt_or_ge (pv B (32 * c)) b with w | w
            · exact (bt_ne hb (iy.2.2 b w (by omega))).elim
            · exact w
          by_cases e : pv B (32 * c) = b
          · rw [e]; exact mkB_b B hab
          · rw [mkB_out (by omega)]; exact iy.2.1
      · rcases Nat.lt_or_ge (32 * c) a with z | z
        · rw [mkB_out (by omega)]; exact iy.2.2 j z1 z2
        · have hy : b ≤ pv B (32 * c) := by
            rcases Nat.lt_or_ge (pv B (32 * c)) b with w | w
            · exact (bt_ne hb (iy.2.2 b w (by omega))).elim
            · exact w
          rw [mkB_out (by omega)]; exact iy.2.2 j z1 z2
/-- greatest and least, going from piece to piece -/
def fmx (acc x : Nat) : Nat := if acc < x then x else acc
def fmn (acc x : Nat) : Nat := if x < acc then x else acc
def wk (f : Nat → Nat → Nat) (B : Nat → Bool) (N : Nat) : Nat → Nat → Nat → Nat
  | 0, _, acc => acc
  | n + 1, p, acc => if p < N then wk f B N n (nx B N p) (f acc (nx B N p - p)) else acc
theorem wk_in {f : Nat → Nat → Nat} {B : Nat → Bool} {N n p acc : Nat} (h : p < N) : wk f B N (n + 1) p acc = wk f B N n (nx B N p) (f acc (nx B N p - p)) := by simp [wk, h]
theorem wk_out {f : Nat → Nat → Nat} {B : Nat → Bool} {N n p acc : Nat} (h : N ≤ p) : wk f B N n p acc = acc := by
  cases n with
  | zero => rfl
  | succ n => simp only [wk]; rw [if_neg (by omega)]
theorem wk_max {B : Nat → Bool} {N : Nat} (h1 : 1 ≤ N) (hN : B N = true) : wk fmx B N N 0 (nx B N 0) = wk fmx B N N 0 0 := by
  obtain ⟨n, rfl⟩ : ∃ n, N = n + 1 := ⟨N - 1, by omega⟩
  have hq := nx_gt hN (show 0 < n + 1 by omega)
  rw [wk_in (by omega), wk_in (by omega)]
  congr 1
  simp only [fmx, Nat.sub_zero]
  rw [if_neg (by omega), if_pos hq]
theorem wk_min {B : Nat → Bool} {N : Nat} (h1 : 1 ≤ N) (h2 : N ≤ 16384) (hN : B N = true) : wk fmn B N N 0 (nx B N 0) = wk fmn B N N 0 16384 := by
  have hq := nx_le hN (show 0 < N by omega)
  obtain ⟨n, rfl⟩ : ∃ n, N = n + 1 := ⟨N - 1, by omega⟩
  rw [wk_in (by omega), wk_in (by omega)]
  congr 1
  simp only [fmn, Nat.sub_zero]
  rw [if_neg (by omega)]
  by_cases e : nx B (n + 1) 0 < 16384
  · rw [if_pos e]
  · rw [if_neg e]; omega
/-! what each call answers and does: (thrown, answer, cells behind it, beginnings behind it) -/
abbrev Sp : Type := Int32 × Int32 × Nat × (Nat → Bool)
def spB (n : Nat) (B : Nat → Bool) : Nat → Bool := fun c => if c ≤ 16384 then (decide (c = 0) || decide (c = n)) else B c
def sp_space (N : Nat) (B : Nat → Bool) (x : Int32) : Sp := if 1 ≤ x.toInt ∧ x.toInt ≤ 16384 then (nI 0, nI N, x.toInt.toNat, spB x.toInt.toNat B) else (nI 1, nI 0, N, B)
def sp_cut (N : Nat) (B : Nat → Bool) (x : Int32) : Sp := if 0 ≤ x.toInt ∧ x.toInt < N then (nI 0, nI (x.toInt.toNat - pv B x.toInt.toNat), N, sB B x.toInt.toNat true) else (nI 1, nI 0, N, B)
def jn_ans (N : Nat) (B : Nat → Bool) (a : Nat) : Int32 := if nx B N a = N then nI 0 else nI (nx (sB B (nx B N a) false) N a - pv (sB B (nx B N a) false) a)
def jn_B (N : Nat) (B : Nat → Bool) (a : Nat) : Nat → Bool := if nx B N a = N then B else sB B (nx B N a) false
def sp_join (N : Nat) (B : Nat → Bool) (x : Int32) : Sp := if 0 ≤ x.toInt ∧ x.toInt < N then (nI 0, jn_ans N B x.toInt.toNat, N, jn_B N B x.toInt.toNat) else (nI 1, nI 0, N, B)
def sp_make (N : Nat) (B : Nat → Bool) (x y : Int32) : Sp := if (0 ≤ x.toInt ∧ x.toInt < N) ∧ x.toInt < y.toInt ∧ y.toInt ≤ N then (nI 0, nI (cnt (mkB B x.toInt.toNat y.toInt.toNat) N), N, mkB B x.toInt.toNat y.toInt.toNat) else (nI 1, nI 0, N, B)
def sp_begin (N : Nat) (B : Nat → Bool) (x : Int32) : Sp := if 0 ≤ x.toInt ∧ x.toInt < N then (nI 0, nI (pv B x.toInt.toNat), N, B) else (nI 1, nI 0, N, B)
def sp_size (N : Nat) (B : Nat → Bool) (x : Int32) : Sp := if 0 ≤ x.toInt ∧ x.toInt < N then (nI 0, nI (nx B N x.toInt.toNat - pv B x.toInt.toNat), N, B) else (nI 1, nI 0, N, B)
def sp_start (N : Nat) (B : Nat → Bool) (x : Int32) : Sp := if 0 ≤ x.toInt ∧ x.toInt < ((N + 31) / 32 : Nat) then (nI 0, nI (pv B (32 * x.toInt.toNat)), N, B) else (nI 1, nI 0, N, B)
def bg_e (N c : Nat) : Nat := if 32 * c + 32 < N then 32 * c + 32 else N
def sp_begins (N : Nat) (B : Nat → Bool) (x : Int32) : Sp := if 0 ≤ x.toInt ∧ x.toInt < ((N + 31) / 32 : Nat) then (nI 0, nI (cnt B (bg_e N x.toInt.toNat) - cnt B (32 * x.toInt.toNat)), N, B) else (nI 1, nI 0, N, B)
def co_ans (N : Nat) (B : Nat → Bool) (k : Nat) : Int32 := match k with
  | 0 => nI N
  | 1 => nI ((N + 31) / 32)
  | 2 => nI (cnt B N)
  | 3 => nI (wk fmx B N N 0 0)
  | _ => nI (wk fmn B N N 0 16384)
def sp_count (N : Nat) (B : Nat → Bool) (x : Int32) : Sp := if 0 ≤ x.toInt ∧ x.toInt ≤ 4 then (nI 0, co_ans N B x.toInt.toNat, N, B) else (nI 1, nI 0, N, B)
theorem ti_n {a : Nat} (h : a ≤ 16384) : (nI a).toInt = (a : Int) := nI_toInt (by omega)
theorem ix_no {x : Int32} {N : Nat} (hN : N ≤ 16384) (h : x < 0 ∨ nI N ≤ x) : ¬ (0 ≤ x.toInt ∧ x.toInt < (N : Int)) := by
  intro z
  rcases h with h | h
  · rw [Int32.lt_iff_toInt_lt, Int32.toInt_zero] at h; omega
  · rw [Int32.le_iff_toInt_le, ti_n hN] at h; omega
theorem sp_cut_ok {N a : Nat} {B : Nat → Bool} (hN : N ≤ 16384) (h : a < N) : sp_cut N B (nI a) = (nI 0, nI (a - pv B a), N, sB B a true) := by
  simp only [sp_cut, ti_n (show a ≤ 16384 by omega)]; rw [if_pos ⟨by omega, by omega⟩]; rfl
theorem sp_join_ok {N a : Nat} {B : Nat → Bool} (hN : N ≤ 16384) (h : a < N) : sp_join N B (nI a) = (nI 0, jn_ans N B a, N, jn_B N B a) := by
  simp only [sp_join, ti_n (show a ≤ 16384 by omega)]; rw [if_pos ⟨by omega, by omega⟩]; rfl
theorem sp_begin_ok {N a : Nat} {B : Nat → Bool} (hN : N ≤ 16384) (h : a < N) : sp_begin N B (nI a) = (nI 0, nI (pv B a), N, B) := by
  simp only [sp_begin, ti_n (show a ≤ 16384 by omega)]; rw [if_pos ⟨by omega, by omega⟩]; rfl
theorem sp_size_ok {N a : Nat} {B : Nat → Bool} (hN : N ≤ 16384) (h : a < N) : sp_size N B (nI a) = (nI 0, nI (nx B N a - pv B a), N, B) := by
  simp only [sp_size, ti_n (show a ≤ 16384 by omega)]; rw [if_pos ⟨by omega, by omega⟩]; rfl
theorem sp_start_ok {N a : Nat} {B : Nat → Bool} (hN : N ≤ 16384) (h : a < (N + 31) / 32) : sp_start N B (nI a) = (nI 0, nI (pv B (32 * a)), N, B) := by
  simp only [sp_start, ti_n (show a ≤ 16384 by omega)]; rw [if_pos ⟨by omega, by omega⟩]; rfl
theorem sp_begins_ok {N a : Nat} {B : Nat → Bool} (hN : N ≤ 16384) (h : a < (N + 31) / 32) : sp_begins N B (nI a) = (nI 0, nI (cnt B (bg_e N a) - cnt B (32 * a)), N, B) := by
  simp only [sp_begins, ti_n (show a ≤ 16384 by omega)]; rw [if_pos ⟨by omega, by omega⟩]; rfl
theorem sp_space_ok {N n : Nat} {B : Nat → Bool} (h1 : 1 ≤ n) (h2 : n ≤ 16384) : sp_space N B (nI n) = (nI 0, nI N, n, spB n B) := by
  simp only [sp_space, ti_n h2]; rw [if_pos ⟨by omega, by omega⟩]; rfl
theorem sp_count_ok {N k : Nat} {B : Nat → Bool} (h : k ≤ 4) : sp_count N B (nI k) = (nI 0, co_ans N B k, N, B) := by
  simp only [sp_count, ti_n (show k ≤ 16384 by omega)]; rw [if_pos ⟨by omega, by omega⟩]; rfl
theorem sp_make_ok {N a b : Nat} {B : Nat → Bool} (hN : N ≤ 16384) (h : a < b) (h2 : b ≤ N) : sp_make N B (nI a) (nI b) = (nI 0, nI (cnt (mkB B a b) N), N, mkB B a b) := by
  simp only [sp_make, ti_n (show a ≤ 16384 by omega), ti_n (show b ≤ 16384 by omega)]; rw [if_pos ⟨⟨by omega, by omega⟩, by omega, by omega⟩]; rfl
theorem sp_cut_no {N : Nat} {B : Nat → Bool} {x : Int32} (hN : N ≤ 16384) (h : x < 0 ∨ nI N ≤ x) : sp_cut N B x = (nI 1, nI 0, N, B) := if_neg (ix_no hN h)
theorem sp_join_no {N : Nat} {B : Nat → Bool} {x : Int32} (hN : N ≤ 16384) (h : x < 0 ∨ nI N ≤ x) : sp_join N B x = (nI 1, nI 0, N, B) := if_neg (ix_no hN h)
theorem sp_begin_no {N : Nat} {B : Nat → Bool} {x : Int32} (hN : N ≤ 16384) (h : x < 0 ∨ nI N ≤ x) : sp_begin N B x = (nI 1, nI 0, N, B) := if_neg (ix_no hN h)
theorem sp_size_no {N : Nat} {B : Nat → Bool} {x : Int32} (hN : N ≤ 16384) (h : x < 0 ∨ nI N ≤ x) : sp_size N B x = (nI 1, nI 0, N, B) := if_neg (ix_no hN h)
theorem sp_start_no {N : Nat} {B : Nat → Bool} {x : Int32} (hN : N ≤ 16384) (h : x < 0 ∨ nI ((N + 31) / 32) ≤ x) : sp_start N B x = (nI 1, nI 0, N, B) := if_neg (ix_no (by omega) h)
theorem sp_begins_no {N : Nat} {B : Nat → Bool} {x : Int32} (hN : N ≤ 16384) (h : x < 0 ∨ nI ((N + 31) / 32) ≤ x) : sp_begins N B x = (nI 1, nI 0, N, B) := if_neg (ix_no (by omega) h)
theorem sp_space_no {N : Nat} {B : Nat → Bool} {x : Int32} (h : x < nI 1 ∨ nI 16384 < x) : sp_space N B x = (nI 1, nI 0, N, B) := if_neg (fun z => by
  rcases h with h | h
  · rw [Int32.lt_iff_toInt_lt, ti_n (by omega)] at h; omega
  · rw [Int32.lt_iff_toInt_lt, ti_n (by omega)] at h; omega)
theorem sp_count_no {N : Nat} {B : Nat → Bool} {x : Int32} (h : x < 0 ∨ nI 4 < x) : sp_count N B x = (nI 1, nI 0, N, B) := if_neg (fun z => by
  rcases h with h | h
  · rw [Int32.lt_iff_toInt_lt, Int32.toInt_zero] at h; omega
  · rw [Int32.lt_iff_toInt_lt, ti_n (by omega)] at h; omega)
theorem sp_make_no1 {N : Nat} {B : Nat → Bool} {x y : Int32} (hN : N ≤ 16384) (h : x < 0 ∨ nI N ≤ x) : sp_make N B x y = (nI 1, nI 0, N, B) := if_neg (fun z => ix_no hN h z.1)
theorem sp_make_no2 {N a : Nat} {B : Nat → Bool} {y : Int32} (hN : N ≤ 16384) (ha : a < N) (h : y ≤ nI a ∨ nI N < y) : sp_make N B (nI a) y = (nI 1, nI 0, N, B) := if_neg (fun z => by
  have z2 := z.2
  rcases h with h | h
  · rw [Int32.le_iff_toInt_le] at h; omega
  · rw [Int32.lt_iff_toInt_lt, ti_n hN] at h; omega)
/-- an argument of an index's kind: in range, or not -/
theorem ix_case (x : Int32) {n : Nat} (hn : n ≤ 16384) : (x < 0 ∨ nI n ≤ x) ∨ ∃ j, j < n ∧ x = nI j := by
  rcases pk_ix x (show n < 2 ^ 31 by omega) with h | h | h
  · exact Or.inl (Or.inl h)
  · exact Or.inl (Or.inr h)
  · exact Or.inr h
theorem ix_case1 (x : Int32) {n : Nat} (hn : n ≤ 16384) : (x < nI 1 ∨ nI n < x) ∨ ∃ j, 1 ≤ j ∧ j ≤ n ∧ x = nI j := by
  rcases pk_ix x (show n + 1 < 2 ^ 31 by omega) with h | h | ⟨j, h, e⟩
  · refine Or.inl (Or.inl ?_)
    rw [Int32.lt_iff_toInt_lt, Int32.toInt_zero] at h
    rw [Int32.lt_iff_toInt_lt, ti_n (by omega)]; omega
  · refine Or.inl (Or.inr ?_)
    rw [Int32.le_iff_toInt_le, nI_toInt (by omega)] at h
    rw [Int32.lt_iff_toInt_lt, ti_n hn]; omega
  · by_cases hj : j = 0
    · subst hj
      refine Or.inl (Or.inl ?_)
      rw [e, Int32.lt_iff_toInt_lt, ti_n (by omega), ti_n (by omega)]; omega
    · exact Or.inr ⟨j, by omega, by omega, e⟩
theorem ix_case4 (x : Int32) : (x < 0 ∨ nI 4 < x) ∨ ∃ j, j ≤ 4 ∧ x = nI j := by
  rcases pk_ix x (show 5 < 2 ^ 31 by omega) with h | h | ⟨j, h, e⟩
  · exact Or.inl (Or.inl h)
  · refine Or.inl (Or.inr ?_)
    rw [Int32.le_iff_toInt_le, ti_n (by omega)] at h
    rw [Int32.lt_iff_toInt_lt, ti_n (by omega)]; omega
  · exact Or.inr ⟨j, by omega, e⟩
/-- the second argument of make -/
theorem ix_case2 (y : Int32) {a n : Nat} (ha : a < n) (hn : n ≤ 16384) : (y ≤ nI a ∨ nI n < y) ∨ ∃ b, a < b ∧ b ≤ n ∧ y = nI b := by
  rcases pk_ix y (show n + 1 < 2 ^ 31 by omega) with h | h | ⟨j, h, e⟩
  · refine Or.inl (Or.inl ?_)
    rw [Int32.lt_iff_toInt_lt, Int32.toInt_zero] at h
    rw [Int32.le_iff_toInt_le, ti_n (by omega)]; omega
  · refine Or.inl (Or.inr ?_)
    rw [Int32.le_iff_toInt_le, nI_toInt (by omega)] at h
    rw [Int32.lt_iff_toInt_lt, ti_n hn]; omega
  · by_cases hj : j ≤ a
    · refine Or.inl (Or.inl ?_)
      rw [e, Int32.le_iff_toInt_le, ti_n (by omega), ti_n (by omega)]; omega
    · exact Or.inr ⟨j, by omega, by omega, e⟩
end
section
/-! ROWS FOR NUMBERS THAT ARE nI OF A NUMBER; calls and ends in one row each -/
section RWa
variable {p : Program} {l : Launch} {e : Env} {R : Room} {s : State} {m : MethodId} {args : Array Value} {below : List Frame} {meth : Method} {c : Code} {H : Heap} {locs : List Loc} {cells slots : Nat} {Q : State → Prop}
variable {cc : ByteArray} {pc : Nat} {ls : Array Slot} {rest : List Value}
theorem r_add (hexec : p.tables.exec = Jvm.exec) (hb : c.code = cc) {a b : Nat} (hdg : decode cc pc = .ok (.iadd, 1)) (k : W p l e R s m args below meth c H locs cells slots Q (F0 m (pc + 1) ls (.int (nI (a + b)) :: rest))) : W p l e R s m args below meth c H locs cells slots Q (F0 m pc ls (.int (nI b) :: .int (nI a) :: rest)) :=
  lv_iadd hexec hb hdg (by rw [nI_add]; exact k)
theorem r_sub (hexec : p.tables.exec = Jvm.exec) (hb : c.code = cc) {a b : Nat} (hdg : decode cc pc = .ok (.isub, 1)) (h : b ≤ a) (k : W p l e R s m args below meth c H locs cells slots Q (F0 m (pc + 1) ls (.int (nI (a - b)) :: rest))) : W p l e R s m args below meth c H locs cells slots Q (F0 m pc ls (.int (nI b) :: .int (nI a) :: rest)) :=
  lv_isub hexec hb hdg (by rw [pk_sub h]; exact k)
theorem r_mul (hexec : p.tables.exec = Jvm.exec) (hb : c.code = cc) {a b : Nat} (hdg : decode cc pc = .ok (.imul, 1)) (k : W p l e R s m args below meth c H locs cells slots Q (F0 m (pc + 1) ls (.int (nI (a * b)) :: rest))) : W p l e R s m args below meth c H locs cells slots Q (F0 m pc ls (.int (nI b) :: .int (nI a) :: rest)) :=
  lv_imul hexec hb hdg (by rw [pk_mul]; exact k)
theorem r_div32 (hexec : p.tables.exec = Jvm.exec) (hb : c.code = cc) {a : Nat} (hdg : decode cc pc = .ok (.idiv, 1)) (h : a < 2 ^ 31) (k : W p l e R s m args below meth c H locs cells slots Q (F0 m (pc + 1) ls (.int (nI (a / 32)) :: rest))) : W p l e R s m args below meth c H locs cells slots Q (F0 m pc ls (.int (nI 32) :: .int (nI a) :: rest)) :=
  lv_idiv hexec hb hdg (nI_ne0 (by omega) (by omega)) (by rw [pk_div h (by omega) (by omega)]; exact k)
theorem r_shr5 (hexec : p.tables.exec = Jvm.exec) (hb : c.code = cc) {a : Nat} (hdg : decode cc pc = .ok (.ishr, 1)) (h : a < 2 ^ 31) (k : W p l e R s m args below meth c H locs cells slots Q (F0 m (pc + 1) ls (.int (nI (a / 32)) :: rest))) : W p l e R s m args below meth c H locs cells slots Q (F0 m pc ls (.int (nI 5) :: .int (nI a) :: rest)) :=
  lv_ishr hexec hb hdg (by rw [pk_shrN h (nI 5 &&& 31) 5 (by decide +kernel)]; exact k)
theorem r_shl5 (hexec : p.tables.exec = Jvm.exec) (hb : c.code = cc) {a : Nat} (hdg : decode cc pc = .ok (.ishl, 1)) (h : a < 2 ^ 20) (k : W p l e R s m args below meth c H locs cells slots Q (F0 m (pc + 1) ls (.int (nI (a * 32)) :: rest))) : W p l e R s m args below meth c H locs cells slots Q (F0 m pc ls (.int (nI 5) :: .int (nI a) :: rest)) :=
  lv_ishl hexec hb hdg (by rw [pk_shlN (nI 5 &&& 31) 5 (by decide +kernel) (by omega)]; exact k)
theorem r_ige (hexec : p.tables.exec = Jvm.exec) (hb : c.code = cc) {a b : Nat} {off : Int} {tgt : Nat} (hdg : decode cc pc = .ok (.if_icmp .ge off, 3)) (ht : (pc : Int) + off = (tgt : Int)) (h1 : a < 2 ^ 31) (h2 : b < 2 ^ 31)
    (kt : b ≤ a → W p l e R s m args below meth c H locs cells slots Q (F0 m tgt ls rest)) (kf : a < b → W p l e R s m args below meth c H locs cells slots Q (F0 m (pc + 3) ls rest)) : W p l e R s m args below meth c H locs cells slots Q (F0 m pc ls (.int (nI b) :: .int (nI a) :: rest)) :=
  lv_icmp_ge hexec hb hdg ht (fun q => kt ((nI_leI h2 h1).mp q)) (fun q => kf (Nat.lt_of_not_le fun z => q ((nI_leI h2 h1).mpr z)))
theorem r_ilt (hexec : p.tables.exec = Jvm.exec) (hb : c.code = cc) {a b : Nat} {off : Int} {tgt : Nat} (hdg : decode cc pc = .ok (.if_icmp .lt off, 3)) (ht : (pc : Int) + off = (tgt : Int)) (h1 : a < 2 ^ 31) (h2 : b < 2 ^ 31)
    (kt : a < b → W p l e R s m args below meth c H locs cells slots Q (F0 m tgt ls rest)) (kf : b ≤ a → W p l e R s m args below meth c H locs cells slots Q (F0 m (pc + 3) ls rest)) : W p l e R s m args below meth c H locs cells slots Q (F0 m pc ls (.int (nI b) :: .int (nI a) :: rest)) :=
  lv_icmp_lt hexec hb hdg ht (fun q => kt ((nI_ltI h1 h2).mp q)) (fun q => kf (Nat.le_of_not_lt fun z => q ((nI_ltI h1 h2).mpr z)))
theorem r_igt (hexec : p.tables.exec = Jvm.exec) (hb : c.code = cc) {a b : Nat} {off : Int} {tgt : Nat} (hdg : decode cc pc = .ok (.if_icmp .gt off, 3)) (ht : (pc : Int) + off = (tgt : Int)) (h1 : a < 2 ^ 31) (h2 : b < 2 ^ 31)
    (kt : b < a → W p l e R s m args below meth c H locs cells slots Q (F0 m tgt ls rest)) (kf : a ≤ b → W p l e R s m args below meth c H locs cells slots Q (F0 m (pc + 3) ls rest)) : W p l e R s m args below meth c H locs cells slots Q (F0 m pc ls (.int (nI b) :: .int (nI a) :: rest)) :=
  lv_icmp_gt hexec hb hdg ht (fun q => kt ((nI_ltI h2 h1).mp q)) (fun q => kf (Nat.le_of_not_lt fun z => q ((nI_ltI h2 h1).mpr z)))
theorem r_ile (hexec : p.tables.exec = Jvm.exec) (hb : c.code = cc) {a b : Nat} {off : Int} {tgt : Nat} (hdg : decode cc pc = .ok (.if_icmp .le off, 3)) (ht : (pc : Int) + off = (tgt : Int)) (h1 : a < 2 ^ 31) (h2 : b < 2 ^ 31)
    (kt : a ≤ b → W p l e R s m args below meth c H locs cells slots Q (F0 m tgt ls rest)) (kf : b < a → W p l e R s m args below meth c H locs cells slots Q (F0 m (pc + 3) ls rest)) : W p l e R s m args below meth c H locs cells slots Q (F0 m pc ls (.int (nI b) :: .int (nI a) :: rest)) :=
  lv_icmp_le hexec hb hdg ht (fun q => kt ((nI_leI h1 h2).mp q)) (fun q => kf (Nat.lt_of_not_le fun z => q ((nI_leI h1 h2).mpr z)))
theorem r_ieq (hexec : p.tables.exec = Jvm.exec) (hb : c.code = cc) {a b : Nat} {off : Int} {tgt : Nat} (hdg : decode cc pc = .ok (.if_icmp .eq off, 3)) (ht : (pc : Int) + off = (tgt : Int)) (h1 : a < 2 ^ 31) (h2 : b < 2 ^ 31)
    (kt : a = b → W p l e R s m args below meth c H locs cells slots Q (F0 m tgt ls rest)) (kf : a ≠ b → W p l e R s m args below meth c H locs cells slots Q (F0 m (pc + 3) ls rest)) : W p l e R s m args below meth c H locs cells slots Q (F0 m pc ls (.int (nI b) :: .int (nI a) :: rest)) :=
  lv_icmp_eq hexec hb hdg ht (fun q => kt ((nI_eq h1 h2).mp q)) (fun q => kf (fun z => q ((nI_eq h1 h2).mpr z)))
theorem r_ine (hexec : p.tables.exec = Jvm.exec) (hb : c.code = cc) {a b : Nat} {off : Int} {tgt : Nat} (hdg : decode cc pc = .ok (.if_icmp .ne off, 3)) (ht : (pc : Int) + off = (tgt : Int)) (h1 : a < 2 ^ 31) (h2 : b < 2 ^ 31)
    (kt : a ≠ b → W p l e R s m args below meth c H locs cells slots Q (F0 m tgt ls rest)) (kf : a = b → W p l e R s m args below meth c H locs cells slots Q (F0 m (pc + 3) ls rest)) : W p l e R s m args below meth c H locs cells slots Q (F0 m pc ls (.int (nI b) :: .int (nI a) :: rest)) :=
  lv_icmp_ne hexec hb hdg ht (fun q => kt (fun z => q ((nI_eq h1 h2).mpr z))) (fun q => kf ((nI_eq h1 h2).mp q))
theorem r_iflt (hexec : p.tables.exec = Jvm.exec) (hb : c.code = cc) {a : Nat} {off : Int} {tgt : Nat} (hdg : decode cc pc = .ok (.ifCond .lt off, 3)) (ht : (pc : Int) + off = (tgt : Int)) (h1 : a < 2 ^ 31)
    (k : W p l e R s m args below meth c H locs cells slots Q (F0 m (pc + 3) ls rest)) : W p l e R s m args below meth c H locs cells slots Q (F0 m pc ls (.int (nI a) :: rest)) :=
  lv_if_lt hexec hb hdg ht (fun q => absurd q (nI_pos h1)) (fun _ => k)
theorem nI_z {a : Nat} (h : a < 2 ^ 31) : nI a = 0 ↔ a = 0 := ⟨fun q => by
  rcases Nat.eq_zero_or_pos a with z | z
  · exact z
  · exact absurd q (nI_ne0 z h), fun z => by rw [z]; exact nI_0⟩
theorem r_ifeq (hexec : p.tables.exec = Jvm.exec) (hb : c.code = cc) {a : Nat} {off : Int} {tgt : Nat} (hdg : decode cc pc = .ok (.ifCond .eq off, 3)) (ht : (pc : Int) + off = (tgt : Int)) (h1 : a < 2 ^ 31)
    (kt : a = 0 → W p l e R s m args below meth c H locs cells slots Q (F0 m tgt ls rest)) (kf : a ≠ 0 → W p l e R s m args below meth c H locs cells slots Q (F0 m (pc + 3) ls rest)) : W p l e R s m args below meth c H locs cells slots Q (F0 m pc ls (.int (nI a) :: rest)) :=
  lv_if_eq hexec hb hdg ht (fun q => kt ((nI_z h1).mp q)) (fun q => kf (fun z => q ((nI_z h1).mpr z)))
theorem r_ifne (hexec : p.tables.exec = Jvm.exec) (hb : c.code = cc) {a : Nat} {off : Int} {tgt : Nat} (hdg : decode cc pc = .ok (.ifCond .ne off, 3)) (ht : (pc : Int) + off = (tgt : Int)) (h1 : a < 2 ^ 31)
    (kt : a ≠ 0 → W p l e R s m args below meth c H locs cells slots Q (F0 m tgt ls rest)) (kf : a = 0 → W p l e R s m args below meth c H locs cells slots Q (F0 m (pc + 3) ls rest)) : W p l e R s m args below meth c H locs cells slots Q (F0 m pc ls (.int (nI a) :: rest)) :=
  lv_if_ne hexec hb hdg ht (fun q => kt (fun z => q ((nI_z h1).mpr z))) (fun q => kf ((nI_z h1).mp q))
theorem bI_z (b : Bool) : bI b = 0 ↔ b = false := by cases b <;> decide +kernel
theorem r_ifeqB (hexec : p.tables.exec = Jvm.exec) (hb : c.code = cc) {b : Bool} {off : Int} {tgt : Nat} (hdg : decode cc pc = .ok (.ifCond .eq off, 3)) (ht : (pc : Int) + off = (tgt : Int))
    (kt : b = false → W p l e R s m args below meth c H locs cells slots Q (F0 m tgt ls rest)) (kf : b = true → W p l e R s m args below meth c H locs cells slots Q (F0 m (pc + 3) ls rest)) : W p l e R s m args below meth c H locs cells slots Q (F0 m pc ls (.int (bI b) :: rest)) :=
  lv_if_eq hexec hb hdg ht (fun q => kt ((bI_z b).mp q)) (fun q => kf (by cases b; exact absurd ((bI_z false).mpr rfl) q; rfl))
theorem r_ifneB (hexec : p.tables.exec = Jvm.exec) (hb : c.code = cc) {b : Bool} {off : Int} {tgt : Nat} (hdg : decode cc pc = .ok (.ifCond .ne off, 3)) (ht : (pc : Int) + off = (tgt : Int))
    (kt : b = true → W p l e R s m args below meth c H locs cells slots Q (F0 m tgt ls rest)) (kf : b = false → W p l e R s m args below meth c H locs cells slots Q (F0 m (pc + 3) ls rest)) : W p l e R s m args below meth c H locs cells slots Q (F0 m pc ls (.int (bI b) :: rest)) :=
  lv_if_ne hexec hb hdg ht (fun q => kt (by cases b; exact absurd ((bI_z false).mpr rfl) q; rfl)) (fun q => kf ((bI_z b).mp q))
variable {D : va_G} {cl : List vw_C} {A : Nat → Prop} {ad : Nat} {tys : List (ClassId × FieldType)} {ws : va_W} {H0 : Heap}
theorem r_iald (hexec : p.tables.exec = Jvm.exec) (hb : c.code = cc) (hK : va_K D cl tys s) (hP : va_P D cl ws H) (q0 t0 : Nat) {cA : ClassId} {n : Nat} {f : Nat → Int32} (ha : ws[q0]? = some (ad, .inl (cA, n, .inl f))) (ht : tys[t0]? = some (cA, .int)) {a : Nat} (h : a < n) (hn : n < 2 ^ 31) {v : Int32} (hv : f a = v) (hdg : decode cc pc = .ok (.iaload, 1))
    (k : W p l e R s m args below meth c H locs cells slots Q (F0 m (pc + 1) ls (.int v :: rest))) : W p l e R s m args below meth c H locs cells slots Q (F0 m pc ls (.int (nI a) :: .ref ad :: rest)) :=
  va_iald hexec hb hK hP q0 t0 ha ht (vp_in_nI h hn) hdg (by rw [nI_clamp (Nat.lt_trans h hn), hv]; exact k)
theorem r_iast (hexec : p.tables.exec = Jvm.exec) (hb : c.code = cc) (hK : va_K D cl tys s) (hP : va_P D cl ws H) (hD : va_D A ws) (hS : va_S A H0 H locs) (q0 t0 : Nat) {cA : ClassId} {n : Nat} {f : Nat → Int32} (ha : ws[q0]? = some (ad, .inl (cA, n, .inl f))) (ht : tys[t0]? = some (cA, .int)) {a : Nat} {x : Int32} (h : a < n) (hn : n < 2 ^ 31) (hdg : decode cc pc = .ok (.iastore, 1))
    (k : ∀ (H1 : Heap) (locs1 : List Loc), va_P D cl (ws.set q0 (ad, .inl (cA, n, .inl (upd f a x)))) H1 → va_D A (ws.set q0 (ad, .inl (cA, n, .inl (upd f a x)))) → va_S A H0 H1 locs1 → W p l e R s m args below meth c H1 locs1 cells slots Q (F0 m (pc + 1) ls rest)) : W p l e R s m args below meth c H locs cells slots Q (F0 m pc ls (.int x :: .int (nI a) :: .ref ad :: rest)) :=
  va_iast hexec hb hK hP hD hS q0 t0 ha ht (vp_in_nI h hn) hdg (by rw [nI_clamp (Nat.lt_trans h hn)]; exact k)
theorem r_zald (hexec : p.tables.exec = Jvm.exec) (hb : c.code = cc) (hK : va_K D cl tys s) (hP : va_P D cl ws H) (q0 t0 : Nat) {cA : ClassId} {n : Nat} {B : Nat → Bool} (ha : ws[q0]? = some (ad, .inl (cA, n, .inl (bz B)))) (ht : tys[t0]? = some (cA, .boolean)) {a : Nat} (h : a < n) (hn : n < 2 ^ 31) (hdg : decode cc pc = .ok (.baload, 1))
    (k : W p l e R s m args below meth c H locs cells slots Q (F0 m (pc + 1) ls (.int (bI (B a)) :: rest))) : W p l e R s m args below meth c H locs cells slots Q (F0 m pc ls (.int (nI a) :: .ref ad :: rest)) :=
  va_zald hexec hb hK hP q0 t0 ha ht (vp_in_nI h hn) hdg (by rw [nI_clamp (Nat.lt_trans h hn)]; exact k)
theorem bI_nar (b : Bool) : vp_nar .boolean (bI b) = bI b := by cases b <;> decide +kernel
theorem r_zast (hexec : p.tables.exec = Jvm.exec) (hb : c.code = cc) (hK : va_K D cl tys s) (hP : va_P D cl ws H) (hD : va_D A ws) (hS : va_S A H0 H locs) (q0 t0 : Nat) {cA : ClassId} {n : Nat} {B : Nat → Bool} (b : Bool) (ha : ws[q0]? = some (ad, .inl (cA, n, .inl (bz B)))) (ht : tys[t0]? = some (cA, .boolean)) {a : Nat} {x : Int32} (hx : x = bI b) (h : a < n) (hn : n < 2 ^ 31) (hdg : decode cc pc = .ok (.bastore, 1))
    (k : ∀ (H1 : Heap) (locs1 : List Loc), va_P D cl (ws.set q0 (ad, .inl (cA, n, .inl (bz (sB B a b))))) H1 → va_D A (ws.set q0 (ad, .inl (cA, n, .inl (bz (sB B a b))))) → va_S A H0 H1 locs1 → W p l e R s m args below meth c H1 locs1 cells slots Q (F0 m (pc + 1) ls rest)) : W p l e R s m args below meth c H locs cells slots Q (F0 m pc ls (.int x :: .int (nI a) :: .ref ad :: rest)) :=
  va_zast hexec hb hK hP hD hS q0 t0 ha ht (vp_in_nI h hn) hdg (by rw [nI_clamp (Nat.lt_trans h hn), hx, bI_nar, upd_bz]; exact k)
theorem fm_of {α β : Type} {f : β → Option α} : ∀ {is : List β} {w : List α}, is.map f = w.map some → is.filterMap f = w := by
  intro is
  induction is with
  | nil =>
    intro w h
    cases w with
    | nil => rfl
    | cons x w => simp at h
  | cons i is ih =>
    intro w h
    cases w with
    | nil => simp at h
    | cons x w =>
      simp only [List.map_cons, List.cons.injEq] at h
      rw [List.filterMap_cons, h.1]
      simp [ih h.2]
end RWa

section RWf
variable {p : Program} {l : Launch} {e : Env} {R : Room} {s : State} {m : MethodId} {args : Array Value} {below : List Frame} {meth : Method} {c : Code} {H : Heap} {locs : List Loc} {cells slots nL : Nat} {Q : State → Prop}
variable {cc : ByteArray} {pc : Nat} {ls : Array Slot} {rest : List Value} {D : va_G} {A : Nat → Prop} {ad : Nat} {tys : List (ClassId × FieldType)} {ws : va_W} {H0 : Heap}
theorem g_T0 (S : CallFix p m c cc nL s args lw_gd R_T) (hK : va_K D classes tys s) (hP : va_P D classes ws H) (q0 : Nat) {v0 v1 v2 v3 : Value} (he : ws[q0]? = some (ad, .inr (0, [v0, v1, v2, v3]))) (hdg : decode cc pc = .ok (.getfield 14, 3)) (k : W p l e R s m args below meth c H locs cells slots Q (F0 m (pc + 3) ls (v0 :: rest))) : W p l e R s m args below meth c H locs cells slots Q (F0 m pc ls (.ref ad :: rest)) :=
  va_get (ci := 0) (C := R_T) (T := F_T) (N := 4) S.1 S.2.1 S.2.2.2.2 i_T S.2.2.2.1 hK hP q0 he rfl 0 (by decide) (S.2.2.2.2 _ mf_T_14) (fun _ h9 => h9) rfl hdg k
theorem g_T1 (S : CallFix p m c cc nL s args lw_gd R_T) (hK : va_K D classes tys s) (hP : va_P D classes ws H) (q0 : Nat) {v0 v1 v2 v3 : Value} (he : ws[q0]? = some (ad, .inr (0, [v0, v1, v2, v3]))) (hdg : decode cc pc = .ok (.getfield 18, 3)) (k : W p l e R s m args below meth c H locs cells slots Q (F0 m (pc + 3) ls (v1 :: rest))) : W p l e R s m args below meth c H locs cells slots Q (F0 m pc ls (.ref ad :: rest)) :=
  va_get (ci := 0) (C := R_T) (T := F_T) (N := 4) S.1 S.2.1 S.2.2.2.2 i_T S.2.2.2.1 hK hP q0 he rfl 1 (by decide) (S.2.2.2.2 _ mf_T_18) (fun _ h9 => h9) rfl hdg k
theorem g_T2 (S : CallFix p m c cc nL s args lw_gd R_T) (hK : va_K D classes tys s) (hP : va_P D classes ws H) (q0 : Nat) {v0 v1 v2 v3 : Value} (he : ws[q0]? = some (ad, .inr (0, [v0, v1, v2, v3]))) (hdg : decode cc pc = .ok (.getfield 22, 3)) (k : W p l e R s m args below meth c H locs cells slots Q (F0 m (pc + 3) ls (v2 :: rest))) : W p l e R s m args below meth c H locs cells slots Q (F0 m pc ls (.ref ad :: rest)) :=
  va_get (ci := 0) (C := R_T) (T := F_T) (N := 4) S.1 S.2.1 S.2.2.2.2 i_T S.2.2.2.1 hK hP q0 he rfl 2 (by decide) (S.2.2.2.2 _ mf_T_22) (fun _ h9 => h9) rfl hdg k
theorem g_T3 (S : CallFix p m c cc nL s args lw_gd R_T) (hK : va_K D classes tys s) (hP : va_P D classes ws H) (q0 : Nat) {v0 v1 v2 v3 : Value} (he : ws[q0]? = some (ad, .inr (0, [v0, v1, v2, v3]))) (hdg : decode cc pc = .ok (.getfield 26, 3)) (k : W p l e R s m args below meth c H locs cells slots Q (F0 m (pc + 3) ls (v3 :: rest))) : W p l e R s m args below meth c H locs cells slots Q (F0 m pc ls (.ref ad :: rest)) :=
  va_get (ci := 0) (C := R_T) (T := F_T) (N := 4) S.1 S.2.1 S.2.2.2.2 i_T S.2.2.2.1 hK hP q0 he rfl 3 (by decide) (S.2.2.2.2 _ mf_T_26) (fun _ h9 => h9) rfl hdg k
theorem g_O0 (S : CallFix p m c cc nL s args lw_gd R_O) (hK : va_K D classes tys s) (hP : va_P D classes ws H) (q0 : Nat) {v0 : Value} (he : ws[q0]? = some (ad, .inr (1, [v0]))) (hdg : decode cc pc = .ok (.getfield 7, 3)) (k : W p l e R s m args below meth c H locs cells slots Q (F0 m (pc + 3) ls (v0 :: rest))) : W p l e R s m args below meth c H locs cells slots Q (F0 m pc ls (.ref ad :: rest)) :=
  va_get (ci := 1) (C := R_O) (T := F_O) (N := 1) S.1 S.2.1 S.2.2.2.2 i_O S.2.2.2.1 hK hP q0 he rfl 0 (by decide) (S.2.2.2.2 _ mf_O_7) (fun _ h9 => h9) rfl hdg k
theorem g_M0 (S : CallFix p m c cc nL s args lw_gd R_M) (hK : va_K D classes tys s) (hP : va_P D classes ws H) (q0 : Nat) {v0 v1 v2 : Value} (he : ws[q0]? = some (ad, .inr (2, [v0, v1, v2]))) (hdg : decode cc pc = .ok (.getfield 17, 3)) (k : W p l e R s m args below meth c H locs cells slots Q (F0 m (pc + 3) ls (v0 :: rest))) : W p l e R s m args below meth c H locs cells slots Q (F0 m pc ls (.ref ad :: rest)) :=
  va_get (ci := 2) (C := R_M) (T := F_M) (N := 3) S.1 S.2.1 S.2.2.2.2 i_M S.2.2.2.1 hK hP q0 he rfl 0 (by decide) (S.2.2.2.2 _ mf_M_17) (fun _ h9 => h9) rfl hdg k
theorem g_M1 (S : CallFix p m c cc nL s args lw_gd R_M) (hK : va_K D classes tys s) (hP : va_P D classes ws H) (q0 : Nat) {v0 v1 v2 : Value} (he : ws[q0]? = some (ad, .inr (2, [v0, v1, v2]))) (hdg : decode cc pc = .ok (.getfield 7, 3)) (k : W p l e R s m args below meth c H locs cells slots Q (F0 m (pc + 3) ls (v1 :: rest))) : W p l e R s m args below meth c H locs cells slots Q (F0 m pc ls (.ref ad :: rest)) :=
  va_get (ci := 2) (C := R_M) (T := F_M) (N := 3) S.1 S.2.1 S.2.2.2.2 i_M S.2.2.2.1 hK hP q0 he rfl 1 (by decide) (S.2.2.2.2 _ mf_M_7) (fun _ h9 => h9) rfl hdg k
theorem g_M2 (S : CallFix p m c cc nL s args lw_gd R_M) (hK : va_K D classes tys s) (hP : va_P D classes ws H) (q0 : Nat) {v0 v1 v2 : Value} (he : ws[q0]? = some (ad, .inr (2, [v0, v1, v2]))) (hdg : decode cc pc = .ok (.getfield 13, 3)) (k : W p l e R s m args below meth c H locs cells slots Q (F0 m (pc + 3) ls (v2 :: rest))) : W p l e R s m args below meth c H locs cells slots Q (F0 m pc ls (.ref ad :: rest)) :=
  va_get (ci := 2) (C := R_M) (T := F_M) (N := 3) S.1 S.2.1 S.2.2.2.2 i_M S.2.2.2.1 hK hP q0 he rfl 2 (by decide) (S.2.2.2.2 _ mf_M_13) (fun _ h9 => h9) rfl hdg k
theorem p_T2 (S : CallFix p m c cc nL s args lw_gd R_T) (hK : va_K D classes tys s) (hP : va_P D classes ws H) (hD : va_D A ws) (hS : va_S A H0 H locs) (q0 : Nat) {v0 v1 v2 v3 : Value} {x : Int32} (he : ws[q0]? = some (ad, .inr (0, [v0, v1, v2, v3]))) (hdg : decode cc pc = .ok (.putfield 22, 3))
    (k : ∀ (H1 : Heap) (locs1 : List Loc), va_P D classes (ws.set q0 (ad, .inr (0, [v0, v1, .int x, v3]))) H1 → va_D A (ws.set q0 (ad, .inr (0, [v0, v1, .int x, v3]))) → va_S A H0 H1 locs1 → W p l e R s m args below meth c H1 locs1 cells slots Q (F0 m (pc + 3) ls rest)) : W p l e R s m args below meth c H locs cells slots Q (F0 m pc ls (.int x :: .ref ad :: rest)) :=
  va_put (ci := 0) (v := .int x) (ty := .int) (C := R_T) (T := F_T) (N := 4) S.1 S.2.1 S.2.2.2.2 i_T t_T0 t_T_ok n_T S.2.2.2.1 hK hP hD hS q0 he rfl 2 (by decide) (S.2.2.2.2 _ mf_T_22) (fun _ h9 => h9) rfl (by decide +kernel) rfl rfl (Nat.le_of_ble_eq_true rfl) hdg k
theorem p_T3 (S : CallFix p m c cc nL s args lw_gd R_T) (hK : va_K D classes tys s) (hP : va_P D classes ws H) (hD : va_D A ws) (hS : va_S A H0 H locs) (q0 : Nat) {v0 v1 v2 v3 : Value} {x : Int32} (he : ws[q0]? = some (ad, .inr (0, [v0, v1, v2, v3]))) (hdg : decode cc pc = .ok (.putfield 26, 3))
    (k : ∀ (H1 : Heap) (locs1 : List Loc), va_P D classes (ws.set q0 (ad, .inr (0, [v0, v1, v2, .int x]))) H1 → va_D A (ws.set q0 (ad, .inr (0, [v0, v1, v2, .int x]))) → va_S A H0 H1 locs1 → W p l e R s m args below meth c H1 locs1 cells slots Q (F0 m (pc + 3) ls rest)) : W p l e R s m args below meth c H locs cells slots Q (F0 m pc ls (.int x :: .ref ad :: rest)) :=
  va_put (ci := 0) (v := .int x) (ty := .int) (C := R_T) (T := F_T) (N := 4) S.1 S.2.1 S.2.2.2.2 i_T t_T0 t_T_ok n_T S.2.2.2.1 hK hP hD hS q0 he rfl 3 (by decide) (S.2.2.2.2 _ mf_T_26) (fun _ h9 => h9) rfl (by decide +kernel) rfl rfl (Nat.le_of_ble_eq_true rfl) hdg k
theorem p_M0 (S : CallFix p m c cc nL s args lw_gd R_M) (hK : va_K D classes tys s) (hP : va_P D classes ws H) (hD : va_D A ws) (hS : va_S A H0 H locs) (q0 : Nat) {v0 v1 v2 : Value} {x : Int32} (he : ws[q0]? = some (ad, .inr (2, [v0, v1, v2]))) (hdg : decode cc pc = .ok (.putfield 17, 3))
    (k : ∀ (H1 : Heap) (locs1 : List Loc), va_P D classes (ws.set q0 (ad, .inr (2, [.int x, v1, v2]))) H1 → va_D A (ws.set q0 (ad, .inr (2, [.int x, v1, v2]))) → va_S A H0 H1 locs1 → W p l e R s m args below meth c H1 locs1 cells slots Q (F0 m (pc + 3) ls rest)) : W p l e R s m args below meth c H locs cells slots Q (F0 m pc ls (.int x :: .ref ad :: rest)) :=
  va_put (ci := 2) (v := .int x) (ty := .int) (C := R_M) (T := F_M) (N := 3) S.1 S.2.1 S.2.2.2.2 i_M t_M0 t_M_ok n_M S.2.2.2.1 hK hP hD hS q0 he rfl 0 (by decide) (S.2.2.2.2 _ mf_M_17) (fun _ h9 => h9) rfl (by decide +kernel) rfl rfl (Nat.le_of_ble_eq_true rfl) hdg k
theorem p_M1 (S : CallFix p m c cc nL s args lw_gd R_M) (hK : va_K D classes tys s) (hP : va_P D classes ws H) (hD : va_D A ws) (hS : va_S A H0 H locs) (q0 : Nat) {v0 v1 v2 : Value} {x : Int32} (he : ws[q0]? = some (ad, .inr (2, [v0, v1, v2]))) (hdg : decode cc pc = .ok (.putfield 7, 3))
    (k : ∀ (H1 : Heap) (locs1 : List Loc), va_P D classes (ws.set q0 (ad, .inr (2, [v0, .int x, v2]))) H1 → va_D A (ws.set q0 (ad, .inr (2, [v0, .int x, v2]))) → va_S A H0 H1 locs1 → W p l e R s m args below meth c H1 locs1 cells slots Q (F0 m (pc + 3) ls rest)) : W p l e R s m args below meth c H locs cells slots Q (F0 m pc ls (.int x :: .ref ad :: rest)) :=
  va_put (ci := 2) (v := .int x) (ty := .int) (C := R_M) (T := F_M) (N := 3) S.1 S.2.1 S.2.2.2.2 i_M t_M0 t_M_ok n_M S.2.2.2.1 hK hP hD hS q0 he rfl 1 (by decide) (S.2.2.2.2 _ mf_M_7) (fun _ h9 => h9) rfl (by decide +kernel) rfl rfl (Nat.le_of_ble_eq_true rfl) hdg k
end RWf
end
section
/-! CONTRACTS OF TWO KINDS: CpI, CpV (nothing changes), CtI, CtV (the world wc becomes w u); their starts, ends and calls -/
def cP (D : va_G) (wc : va_W) (tc : List (ClassId × FieldType)) (av : List Value) (sz : Nat) : Array Value → State → Prop := va_Pc av (fun U => U.heap.size = sz ∧ va_P D classes wc U.heap ∧ va_K D classes tc U ∧ va_D (fun _ => True) wc)
def cR (D : va_G) (wc : va_W) (tc : List (ClassId × FieldType)) (av : List Value) : Array Value → State → Prop := va_Pc av (fun U => va_P D classes wc U.heap ∧ va_K D classes tc U)
def cB {S : Type} (D : va_G) (A : Nat → Prop) (tu : S → List (ClassId × FieldType)) (w : S → va_W) (u : S) (t : State) : Prop := va_P D classes (w u) t.heap ∧ va_K D classes (tu u) t ∧ va_D A (w u)
def CtI {S : Type} (l : Launch) (y : MethodName) (wd : Cond) (rm : Room) (D : va_G) (wc : va_W) (tc : List (ClassId × FieldType)) (av : List Value) (post : Int32 → S → Prop) (tu : S → List (ClassId × FieldType)) (w : S → va_W) : Prop :=
  ∀ sz, Met l y (wd :: lw_gd) rm (cP D wc tc av sz) (va_Qi post (cB D (va_A wc sz) tu w) (va_A wc sz)) rm.cells rm.slots (va_A wc sz)
def CtV {S : Type} (l : Launch) (y : MethodName) (wd : Cond) (rm : Room) (D : va_G) (wc : va_W) (tc : List (ClassId × FieldType)) (av : List Value) (post : S → Prop) (tu : S → List (ClassId × FieldType)) (w : S → va_W) : Prop :=
  ∀ sz, Met l y (wd :: lw_gd) rm (cP D wc tc av sz) (va_Qv post (cB D (va_A wc sz) tu w) (va_A wc sz)) rm.cells rm.slots (va_A wc sz)
def qI (post : Int32 → Prop) : Array Value → State → Outcome → State → Prop := fun _ st o t => (∃ r, o = .returned (some (.int r)) ∧ post r) ∧ t.heap = st.heap
def qV : Array Value → State → Outcome → State → Prop := fun _ st o t => o = .returned none ∧ t.heap = st.heap
def CpI (l : Launch) (y : MethodName) (wd : Cond) (rm : Room) (D : va_G) (wc : va_W) (tc : List (ClassId × FieldType)) (av : List Value) (post : Int32 → Prop) : Prop :=
  Met l y (wd :: lw_gd) rm (cR D wc tc av) (qI post) 0 0 (fun _ => False)
def CpV (l : Launch) (y : MethodName) (wd : Cond) (rm : Room) (D : va_G) (wc : va_W) (tc : List (ClassId × FieldType)) (av : List Value) : Prop :=
  Met l y (wd :: lw_gd) rm (cR D wc tc av) qV 0 0 (fun _ => False)
theorem cP_blind {D : va_G} {wc : va_W} {tc : List (ClassId × FieldType)} {av : List Value} {sz : Nat} : FrameBlind (cP D wc tc av sz) := fun a U g mk q => by
  obtain ⟨q0, q1, qP, qK, qD⟩ := q
  exact ⟨q0, q1, qP, va_K.moved (u := U) (U := U.calling g mk a) (Vm.Alike.refl U.vm) qK, qD⟩
theorem cR_blind {D : va_G} {wc : va_W} {tc : List (ClassId × FieldType)} {av : List Value} : FrameBlind (cR D wc tc av) := fun a U g mk q => by
  obtain ⟨q0, qP, qK⟩ := q
  exact ⟨q0, qP, va_K.moved (u := U) (U := U.calling g mk a) (Vm.Alike.refl U.vm) qK⟩
section MKa
variable {l : Launch} {S : Type} {y : MethodName} {b : ByteArray} {n : Nat} {ret : Option FieldType} {rm : Room} {D : va_G} {wc : va_W} {tc : List (ClassId × FieldType)} {av : List Value} {tu : S → List (ClassId × FieldType)} {w : S → va_W}
theorem r_metI {post : Int32 → S → Prop} (hy : plainName y.cls = true) (hlen : (lg_sl av).length ≤ n)
    (body : ∀ (p : Program) (e : Env) (s : State) (m : MethodId) (below : List Frame) (meth : Method) (c : Code) (ls : Array Slot) (A : Nat → Prop),
      CallFix p m c b n s av.toArray lw_gd y.cls → meth.sig.returnType = ret → meth.locks = false → meth.name = y.name → va_K D classes tc s → va_P D classes wc s.heap → va_D A wc → (∀ q, s.heap.size ≤ q → A q) → lv_has ls n (lv_args 0 av) →
      W p l e rm s m av.toArray below meth c s.heap [] 0 0 (MQ below (va_Qi post (cB D A tu w) A) av.toArray s rm.cells rm.slots A) (F0 m 0 ls [])) :
    CtI l y (.code y b n ret) rm D wc tc av post tu w := by
  intro sz
  refine Met.ofW (cc := b) (maxL := n) (ret := ret) hy rfl ?_
  intro p e s m args below meth c s₁ B hml hv
  obtain ⟨rfl, hsz, hP, hK, hD0⟩ := hv
  subst hsz
  have hts := atoms_spec B.pre
  have hl := lv_entry av (n := n) hlen
  rw [lg_entry_eq]
  generalize (lg_sl av ++ List.replicate (n - (lg_sl av).length) Slot.unset).toArray = ls at hl ⊢
  exact body p e s m below meth c ls _ ⟨B.exec, B.bytes, hml, findClass_of_methodNamed B.named, fun w hw => hts w (List.mem_cons_of_mem _ hw)⟩ B.returns B.notSynchronized (name_of_methodNamed B.named B.method).1 hK hP (hD0.self (sz := s.heap.size)) (fun q h => Or.inr h) hl
theorem r_metV {post : S → Prop} (hy : plainName y.cls = true) (hlen : (lg_sl av).length ≤ n)
    (body : ∀ (p : Program) (e : Env) (s : State) (m : MethodId) (below : List Frame) (meth : Method) (c : Code) (ls : Array Slot) (A : Nat → Prop),
      CallFix p m c b n s av.toArray lw_gd y.cls → meth.sig.returnType = ret → meth.locks = false → meth.name = y.name → va_K D classes tc s → va_P D classes wc s.heap → va_D A wc → (∀ q, s.heap.size ≤ q → A q) → lv_has ls n (lv_args 0 av) →
      W p l e rm s m av.toArray below meth c s.heap [] 0 0 (MQ below (va_Qv post (cB D A tu w) A) av.toArray s rm.cells rm.slots A) (F0 m 0 ls [])) :
    CtV l y (.code y b n ret) rm D wc tc av post tu w := by
  intro sz
  refine Met.ofW (cc := b) (maxL := n) (ret := ret) hy rfl ?_
  intro p e s m args below meth c s₁ B hml hv
  obtain ⟨rfl, hsz, hP, hK, hD0⟩ := hv
  subst hsz
  have hts := atoms_spec B.pre
  have hl := lv_entry av (n := n) hlen
  rw [lg_entry_eq]
  generalize (lg_sl av ++ List.replicate (n - (lg_sl av).length) Slot.unset).toArray = ls at hl ⊢
  exact body p e s m below meth c ls _ ⟨B.exec, B.bytes, hml, findClass_of_methodNamed B.named, fun w hw => hts w (List.mem_cons_of_mem _ hw)⟩ B.returns B.notSynchronized (name_of_methodNamed B.named B.method).1 hK hP (hD0.self (sz := s.heap.size)) (fun q h => Or.inr h) hl
theorem r_pureI {post : Int32 → Prop} (hy : plainName y.cls = true) (hlen : (lg_sl av).length ≤ n)
    (body : ∀ (p : Program) (e : Env) (s : State) (m : MethodId) (below : List Frame) (meth : Method) (c : Code) (ls : Array Slot),
      CallFix p m c b n s av.toArray lw_gd y.cls → meth.sig.returnType = ret → meth.locks = false → va_K D classes tc s → va_P D classes wc s.heap → lv_has ls n (lv_args 0 av) →
      W p l e rm s m av.toArray below meth c s.heap [] 0 0 (MQ below (qI post) av.toArray s 0 0 (fun _ => False)) (F0 m 0 ls [])) :
    CpI l y (.code y b n ret) rm D wc tc av post := by
  refine Met.ofW (cc := b) (maxL := n) (ret := ret) hy rfl ?_
  intro p e s m args below meth c s₁ B hml hv
  obtain ⟨rfl, hP, hK⟩ := hv
  have hts := atoms_spec B.pre
  have hl := lv_entry av (n := n) hlen
  rw [lg_entry_eq]
  generalize (lg_sl av ++ List.replicate (n - (lg_sl av).length) Slot.unset).toArray = ls at hl ⊢
  exact body p e s m below meth c ls ⟨B.exec, B.bytes, hml, findClass_of_methodNamed B.named, fun w hw => hts w (List.mem_cons_of_mem _ hw)⟩ B.returns B.notSynchronized hK hP hl
theorem r_pureV (hy : plainName y.cls = true) (hlen : (lg_sl av).length ≤ n)
    (body : ∀ (p : Program) (e : Env) (s : State) (m : MethodId) (below : List Frame) (meth : Method) (c : Code) (ls : Array Slot),
      CallFix p m c b n s av.toArray lw_gd y.cls → meth.sig.returnType = ret → meth.locks = false → va_K D classes tc s → va_P D classes wc s.heap → lv_has ls n (lv_args 0 av) →
      W p l e rm s m av.toArray below meth c s.heap [] 0 0 (MQ below qV av.toArray s 0 0 (fun _ => False)) (F0 m 0 ls [])) :
    CpV l y (.code y b n ret) rm D wc tc av := by
  refine Met.ofW (cc := b) (maxL := n) (ret := ret) hy rfl ?_
  intro p e s m args below meth c s₁ B hml hv
  obtain ⟨rfl, hP, hK⟩ := hv
  have hts := atoms_spec B.pre
  have hl := lv_entry av (n := n) hlen
  rw [lg_entry_eq]
  generalize (lg_sl av ++ List.replicate (n - (lg_sl av).length) Slot.unset).toArray = ls at hl ⊢
  exact body p e s m below meth c ls ⟨B.exec, B.bytes, hml, findClass_of_methodNamed B.named, fun w hw => hts w (List.mem_cons_of_mem _ hw)⟩ B.returns B.notSynchronized hK hP hl
end MKa
section MKb
variable {p : Program} {l : Launch} {e : Env} {R : Room} {s : State} {m : MethodId} {args : Array Value} {below : List Frame} {meth : Method} {c : Code} {H : Heap} {locs : List Loc} {cells slots nL : Nat} {Q : State → Prop}
variable {cc : ByteArray} {pc : Nat} {ls : Array Slot} {rest st0 : List Value} {D : va_G} {A : Nat → Prop} {own : String} {S : Type} {tu : S → List (ClassId × FieldType)} {w : S → va_W}
/-- ends -/
theorem e_i {post : Int32 → S → Prop} (cx : CallFix p m c cc nL s args lw_gd own) (hr : meth.sig.returnType = some .int) (hlocks : meth.locks = false) (u : S) {v : Int32} (hp : post v u) (hK : va_K D classes (tu u) s) (hP : va_P D classes (w u) H) (hD : va_D A (w u)) (hS : va_S A s.heap H locs) (hdg : decode cc pc = .ok (.ireturn, 1)) :
    W p l e R s m args below meth c H locs cells slots (MQ below (va_Qi post (cB D A tu w) A) args s cells slots A) (F0 m pc ls [.int v]) :=
  W.iret cx.1 cx.2.1 hr (fun t ht hW => ⟨⟨v, u, rfl, hp, by rw [ht]; exact hP, va_K.moved hW.alike hK, hD⟩, hS.F ht⟩) hS.2.2 hdg hlocks
theorem e_z {post : Int32 → S → Prop} (cx : CallFix p m c cc nL s args lw_gd own) (hr : meth.sig.returnType = some .boolean) (hlocks : meth.locks = false) (u : S) {v : Int32} (hv : narrow .boolean (.int v) = .int v) (hp : post v u) (hK : va_K D classes (tu u) s) (hP : va_P D classes (w u) H) (hD : va_D A (w u)) (hS : va_S A s.heap H locs) (hdg : decode cc pc = .ok (.ireturn, 1)) :
    W p l e R s m args below meth c H locs cells slots (MQ below (va_Qi post (cB D A tu w) A) args s cells slots A) (F0 m pc ls [.int v]) :=
  W.zret cx.1 cx.2.1 hr hv (fun t ht hW => ⟨⟨v, u, rfl, hp, by rw [ht]; exact hP, va_K.moved hW.alike hK, hD⟩, hS.F ht⟩) hS.2.2 hdg hlocks
theorem e_v {post : S → Prop} (cx : CallFix p m c cc nL s args lw_gd own) (hr : meth.sig.returnType = none) (hlocks : meth.locks = false) (u : S) (hp : post u) (hK : va_K D classes (tu u) s) (hP : va_P D classes (w u) H) (hD : va_D A (w u)) (hS : va_S A s.heap H locs) (hdg : decode cc pc = .ok (.return_, 1)) :
    W p l e R s m args below meth c H locs cells slots (MQ below (va_Qv post (cB D A tu w) A) args s cells slots A) (F0 m pc ls []) :=
  W.vret cx.1 cx.2.1 hr (fun t ht hW => ⟨⟨u, rfl, hp, by rw [ht]; exact hP, va_K.moved hW.alike hK, hD⟩, hS.F ht⟩) hS.2.2 hdg hlocks
theorem e_pi {post : Int32 → Prop} (cx : CallFix p m c cc nL s args lw_gd own) (hr : meth.sig.returnType = some .int) (hlocks : meth.locks = false) {v : Int32} (hp : post v) (hdg : decode cc pc = .ok (.ireturn, 1)) :
    W p l e R s m args below meth c s.heap [] cells slots (MQ below (qI post) args s cells slots (fun _ => False)) (F0 m pc ls [.int v]) :=
  W.iret cx.1 cx.2.1 hr (fun t ht _ => ⟨⟨v, rfl, hp⟩, ht⟩) (fun q hq => by cases hq) hdg hlocks
theorem e_pz {post : Int32 → Prop} (cx : CallFix p m c cc nL s args lw_gd own) (hr : meth.sig.returnType = some .boolean) (hlocks : meth.locks = false) {v : Int32} (hv : narrow .boolean (.int v) = .int v) (hp : post v) (hdg : decode cc pc = .ok (.ireturn, 1)) :
    W p l e R s m args below meth c s.heap [] cells slots (MQ below (qI post) args s cells slots (fun _ => False)) (F0 m pc ls [.int v]) :=
  W.zret cx.1 cx.2.1 hr hv (fun t ht _ => ⟨⟨v, rfl, hp⟩, ht⟩) (fun q hq => by cases hq) hdg hlocks
theorem e_pv (cx : CallFix p m c cc nL s args lw_gd own) (hr : meth.sig.returnType = none) (hlocks : meth.locks = false) (hdg : decode cc pc = .ok (.return_, 1)) :
    W p l e R s m args below meth c s.heap [] cells slots (MQ below qV args s cells slots (fun _ => False)) (F0 m pc ls []) :=
  W.vret cx.1 cx.2.1 hr (fun t ht _ => ⟨rfl, ht⟩) (fun q hq => by cases hq) hdg hlocks
variable {y : MethodName} {b : ByteArray} {n nA i : Nat} {ret : Option FieldType} {rm : Room} {wc wr ws : va_W} {tc tys : List (ClassId × FieldType)} {as : List Value} {o ci : Nat} {qc : vw_C} {fs : List Value}
/-- what a callee's name must be -/
abbrev nOk (y : MethodName) (n : Nat) : Prop := y.cls ≠ "java/lang/invoke/MethodHandle" ∧ y.cls ≠ "java/lang/invoke/VarHandle" ∧ (parseMethodDescriptor y.desc).map (fun d => d.parameters.length) = some n
theorem r_callVi {post : Int32 → S → Prop} (hM : CtI l y (.code y b n ret) rm D wc tc (.ref o :: as) post tu w) (cx : CallFix p m c cc nL s args lw_gd own) (hg : GoodIn lw_gd (wsV own i y.cls y (.code y b n ret :: lw_gd))) (hd : nOk y nA) (hn : as.length = nA)
    (hR : rm.frames + 1 ≤ R.frames ∧ 8 + (n + 11) + rm.locals ≤ R.locals) (hR2 : cells + rm.cells ≤ R.cells ∧ slots + rm.slots ≤ R.slots)
    (hK : va_K D classes tys s) (hP : va_P D classes ws H) (hD : va_D A ws) (hS : va_S A s.heap H locs) (hA : ∀ q, s.heap.size ≤ q → A q)
    (isC isR isT : List Nat) (hC : isC.map (fun i => ws[i]?) = wc.map some) (hRr : isR.map (fun i => ws[i]?) = wr.map some) (hTt : isT.filterMap (fun i => tys[i]?) = tc) (hnd : va_nd isR = true) (hndC : va_nd isC = true) (hdis : ∀ i ∈ isR, i ∉ isC)
    (hci : classes[ci]? = some qc) (hq : qc.1 = y.cls) (he : wc[0]? = some (o, .inr (ci, fs))) (hls : ls.size = nL) (hst : st0 = as.reverse ++ .ref o :: rest) (hrm : (rest.map fun v => v.category).sum ≤ 8) (hdg : decode cc pc = .ok (.invokevirtual i, 3))
    (kk : ∀ (r : Int32) (u : S) (H1 : Heap) (locs1 : List Loc), post r u → va_K D classes (tu u) s → va_P D classes (wr ++ w u) H1 → va_D A (wr ++ w u) → va_S A s.heap H1 locs1 → W p l e R s m args below meth c H1 locs1 (cells + rm.cells) (slots + rm.slots) Q (F0 m (pc + 3) ls (.int r :: rest))) :
    W p l e R s m args below meth c H locs cells slots Q (F0 m pc ls st0) := by
  have hPc := hP.sub isC (fm_of hC)
  have hDc := hD.sub isC hndC hC
  have hKc := hK.sub isT hTt
  have hFc := va_free (wc := wc) hD hS hA isC hC
  refine va_calli (va_runV (As := as) (rest := rest) cx (hM H.size) (cwV nA cx.2.2.2.2 hg rfl rfl rfl ⟨rfl, hd⟩ hR) ⟨cP_blind, hq ▸ va_recv hKc hPc hci he, fun U hU hW => ⟨rfl, by rw [hU], by rw [hU]; exact hPc, va_K.moved hW.alike hKc, hDc.weaken (fun _ _ _ _ => trivial)⟩⟩ rfl hn hls hst (lv_room hrm) hdg hR2) hS (fun q _ h => hFc q h) hFc (fun r u t H1 locs1 ht hvm hw hB hz1 hk1 hS1 => ?_)
  obtain ⟨hP1, hK1, hD1⟩ := hB
  rw [ht] at hP1
  obtain ⟨hP2, hD2⟩ := va_join (wr := wr) (w1 := w u) hP hD isC isR hC hRr hnd hdis hk1 hFc hP1 hD1
  exact kk r u H1 locs1 hw (va_K.moved hvm.symm hK1) hP2 hD2 hS1
theorem r_callVv {post : S → Prop} (hM : CtV l y (.code y b n ret) rm D wc tc (.ref o :: as) post tu w) (cx : CallFix p m c cc nL s args lw_gd own) (hg : GoodIn lw_gd (wsV own i y.cls y (.code y b n ret :: lw_gd))) (hd : nOk y nA) (hn : as.length = nA)
    (hR : rm.frames + 1 ≤ R.frames ∧ 8 + (n + 11) + rm.locals ≤ R.locals) (hR2 : cells + rm.cells ≤ R.cells ∧ slots + rm.slots ≤ R.slots)
    (hK : va_K D classes tys s) (hP : va_P D classes ws H) (hD : va_D A ws) (hS : va_S A s.heap H locs) (hA : ∀ q, s.heap.size ≤ q → A q)
    (isC isR isT : List Nat) (hC : isC.map (fun i => ws[i]?) = wc.map some) (hRr : isR.map (fun i => ws[i]?) = wr.map some) (hTt : isT.filterMap (fun i => tys[i]?) = tc) (hnd : va_nd isR = true) (hndC : va_nd isC = true) (hdis : ∀ i ∈ isR, i ∉ isC)
    (hci : classes[ci]? = some qc) (hq : qc.1 = y.cls) (he : wc[0]? = some (o, .inr (ci, fs))) (hls : ls.size = nL) (hst : st0 = as.reverse ++ .ref o :: rest) (hrm : (rest.map fun v => v.category).sum ≤ 8) (hdg : decode cc pc = .ok (.invokevirtual i, 3))
    (kk : ∀ (u : S) (H1 : Heap) (locs1 : List Loc), post u → va_K D classes (tu u) s → va_P D classes (wr ++ w u) H1 → va_D A (wr ++ w u) → va_S A s.heap H1 locs1 → W p l e R s m args below meth c H1 locs1 (cells + rm.cells) (slots + rm.slots) Q (F0 m (pc + 3) ls rest)) :
    W p l e R s m args below meth c H locs cells slots Q (F0 m pc ls st0) := by
  have hPc := hP.sub isC (fm_of hC)
  have hDc := hD.sub isC hndC hC
  have hKc := hK.sub isT hTt
  have hFc := va_free (wc := wc) hD hS hA isC hC
  refine va_callv (va_runV (As := as) (rest := rest) cx (hM H.size) (cwV nA cx.2.2.2.2 hg rfl rfl rfl ⟨rfl, hd⟩ hR) ⟨cP_blind, hq ▸ va_recv hKc hPc hci he, fun U hU hW => ⟨rfl, by rw [hU], by rw [hU]; exact hPc, va_K.moved hW.alike hKc, hDc.weaken (fun _ _ _ _ => trivial)⟩⟩ rfl hn hls hst (lv_room hrm) hdg hR2) hS (fun q _ h => hFc q h) hFc (fun u t H1 locs1 ht hvm hw hB hz1 hk1 hS1 => ?_)
  obtain ⟨hP1, hK1, hD1⟩ := hB
  rw [ht] at hP1
  obtain ⟨hP2, hD2⟩ := va_join (wr := wr) (w1 := w u) hP hD isC isR hC hRr hnd hdis hk1 hFc hP1 hD1
  exact kk u H1 locs1 hw (va_K.moved hvm.symm hK1) hP2 hD2 hS1
theorem r_callIv {post : S → Prop} (hM : CtV l y (.code y b n none) rm D wc tc (.ref o :: as) post tu w) (cx : CallFix p m c cc nL s args lw_gd own) (hg : Cond.code y b n none ∈ lw_gd) (hl : Cond.methodLink own i y ∈ lw_gd) (hin : Cond.instanceMethod y ∈ lw_gd) (hini : Cond.initialized y.cls ∈ lw_gd) (hy1 : y.name = "<init>") (hd : nOk y nA) (hn : as.length = nA)
    (hR : rm.frames + 1 ≤ R.frames ∧ 8 + (n + 11) + rm.locals ≤ R.locals) (hR2 : cells + rm.cells ≤ R.cells ∧ slots + rm.slots ≤ R.slots)
    (hK : va_K D classes tys s) (hP : va_P D classes ws H) (hD : va_D A ws) (hS : va_S A s.heap H locs) (hA : ∀ q, s.heap.size ≤ q → A q)
    (isC isR isT : List Nat) (hC : isC.map (fun i => ws[i]?) = wc.map some) (hRr : isR.map (fun i => ws[i]?) = wr.map some) (hTt : isT.filterMap (fun i => tys[i]?) = tc) (hnd : va_nd isR = true) (hndC : va_nd isC = true) (hdis : ∀ i ∈ isR, i ∉ isC)
    (hls : ls.size = nL) (hst : st0 = as.reverse ++ .ref o :: rest) (hrm : (rest.map fun v => v.category).sum ≤ 8) (hdg : decode cc pc = .ok (.invokespecial i, 3))
    (kk : ∀ (u : S) (H1 : Heap) (locs1 : List Loc), post u → va_K D classes (tu u) s → va_P D classes (wr ++ w u) H1 → va_D A (wr ++ w u) → va_S A s.heap H1 locs1 → W p l e R s m args below meth c H1 locs1 (cells + rm.cells) (slots + rm.slots) Q (F0 m (pc + 3) ls rest)) :
    W p l e R s m args below meth c H locs cells slots Q (F0 m pc ls st0) := by
  have hPc := hP.sub isC (fm_of hC)
  have hDc := hD.sub isC hndC hC
  have hKc := hK.sub isT hTt
  have hFc := va_free (wc := wc) hD hS hA isC hC
  refine va_callv (va_runI (As := as) (rest := rest) cx (hM H.size) (cwI nA cx.2.2.2.2 (gd_call hg) rfl rfl rfl (cx.2.2.2.2 _ hini) (cx.2.2.2.2 _ hl) (cx.2.2.2.2 _ hin) hy1 hd hR) ⟨cP_blind, fun U hU hW => ⟨rfl, by rw [hU], by rw [hU]; exact hPc, va_K.moved hW.alike hKc, hDc.weaken (fun _ _ _ _ => trivial)⟩⟩ rfl hn hls hst (lv_room hrm) hdg hR2) hS (fun q _ h => hFc q h) hFc (fun u t H1 locs1 ht hvm hw hB hz1 hk1 hS1 => ?_)
  obtain ⟨hP1, hK1, hD1⟩ := hB
  rw [ht] at hP1
  obtain ⟨hP2, hD2⟩ := va_join (wr := wr) (w1 := w u) hP hD isC isR hC hRr hnd hdis hk1 hFc hP1 hD1
  exact kk u H1 locs1 hw (va_K.moved hvm.symm hK1) hP2 hD2 hS1
theorem nilL {L : List Loc} (h : ∀ q ∈ L, False) : L = [] := by
  cases L with
  | nil => rfl
  | cons x L => exact (h x List.mem_cons_self).elim
/-- a call that changes nothing -/
theorem r_callPi {post : Int32 → Prop} (hM : CpI l y (.code y b n ret) rm D wc tc (.ref o :: as) post) (cx : CallFix p m c cc nL s args lw_gd own) (hg : GoodIn lw_gd (wsV own i y.cls y (.code y b n ret :: lw_gd))) (hd : nOk y nA) (hn : as.length = nA) (hz : rm.cells = 0 ∧ rm.slots = 0)
    (hR : rm.frames + 1 ≤ R.frames ∧ 8 + (n + 11) + rm.locals ≤ R.locals) (hR2 : cells ≤ R.cells ∧ slots ≤ R.slots)
    (hK : va_K D classes tys s) (hP : va_P D classes ws H)
    (isC isT : List Nat) (hC : isC.map (fun i => ws[i]?) = wc.map some) (hTt : isT.filterMap (fun i => tys[i]?) = tc)
    (hci : classes[ci]? = some qc) (hq : qc.1 = y.cls) (he : wc[0]? = some (o, .inr (ci, fs))) (hls : ls.size = nL) (hst : st0 = as.reverse ++ .ref o :: rest) (hrm : (rest.map fun v => v.category).sum ≤ 8) (hdg : decode cc pc = .ok (.invokevirtual i, 3))
    (kk : ∀ r : Int32, post r → W p l e R s m args below meth c H locs cells slots Q (F0 m (pc + 3) ls (.int r :: rest))) :
    W p l e R s m args below meth c H locs cells slots Q (F0 m pc ls st0) := by
  have hPc := hP.sub isC (fm_of hC)
  have hKc := hK.sub isT hTt
  intro T hT X
  obtain ⟨v, st₀, t, T', L, h0, X', hL, e1, e2, ⟨⟨r, hv, hp⟩, hh⟩, st⟩ := va_runV (As := as) (rest := rest) (g := F0 m pc ls st0) cx hM (cwV nA cx.2.2.2.2 hg rfl hz.1 hz.2 ⟨rfl, hd⟩ hR) ⟨cR_blind, hq ▸ va_recv hKc hPc hci he, fun U hU hW => ⟨rfl, by rw [hU]; exact hPc, va_K.moved hW.alike hKc⟩⟩ rfl hn hls hst (lv_room hrm) hdg hR2 T hT X
  cases hv
  have hLn := nilL hL
  subst hLn
  rw [List.append_nil] at X'
  obtain ⟨t2, a1, b1⟩ := kk r hp T' (by rw [e1, hh, h0]) X'
  exact ⟨t2, st t2 a1, b1⟩
theorem r_callPv (hM : CpV l y (.code y b n ret) rm D wc tc (.ref o :: as)) (cx : CallFix p m c cc nL s args lw_gd own) (hg : GoodIn lw_gd (wsV own i y.cls y (.code y b n ret :: lw_gd))) (hd : nOk y nA) (hn : as.length = nA) (hz : rm.cells = 0 ∧ rm.slots = 0)
    (hR : rm.frames + 1 ≤ R.frames ∧ 8 + (n + 11) + rm.locals ≤ R.locals) (hR2 : cells ≤ R.cells ∧ slots ≤ R.slots)
    (hK : va_K D classes tys s) (hP : va_P D classes ws H)
    (isC isT : List Nat) (hC : isC.map (fun i => ws[i]?) = wc.map some) (hTt : isT.filterMap (fun i => tys[i]?) = tc)
    (hci : classes[ci]? = some qc) (hq : qc.1 = y.cls) (he : wc[0]? = some (o, .inr (ci, fs))) (hls : ls.size = nL) (hst : st0 = as.reverse ++ .ref o :: rest) (hrm : (rest.map fun v => v.category).sum ≤ 8) (hdg : decode cc pc = .ok (.invokevirtual i, 3))
    (kk : W p l e R s m args below meth c H locs cells slots Q (F0 m (pc + 3) ls rest)) :
    W p l e R s m args below meth c H locs cells slots Q (F0 m pc ls st0) := by
  have hPc := hP.sub isC (fm_of hC)
  have hKc := hK.sub isT hTt
  intro T hT X
  obtain ⟨v, st₀, t, T', L, h0, X', hL, e1, e2, ⟨hv, hh⟩, st⟩ := va_runV (As := as) (rest := rest) (g := F0 m pc ls st0) cx hM (cwV nA cx.2.2.2.2 hg rfl hz.1 hz.2 ⟨rfl, hd⟩ hR) ⟨cR_blind, hq ▸ va_recv hKc hPc hci he, fun U hU hW => ⟨rfl, by rw [hU]; exact hPc, va_K.moved hW.alike hKc⟩⟩ rfl hn hls hst (lv_room hrm) hdg hR2 T hT X
  cases hv
  have hLn := nilL hL
  subst hLn
  rw [List.append_nil] at X'
  obtain ⟨t2, a1, b1⟩ := kk T' (by rw [e1, hh, h0]) X'
  exact ⟨t2, st t2 a1, b1⟩
/-- a static one, void, with no world -/
theorem r_callSv (hM : CpV l y (.code y b n ret) rm D [] [] as) (cx : CallFix p m c cc nL s args lw_gd own) (hg : GoodIn lw_gd (wsS own i y (.code y b n ret :: lw_gd))) (hown : y.cls = own) (hd : nOk y nA) (hn : as.length = nA) (hz : rm.cells = 0 ∧ rm.slots = 0)
    (hR : rm.frames + 1 ≤ R.frames ∧ 8 + (n + 11) + rm.locals ≤ R.locals) (hR2 : cells ≤ R.cells ∧ slots ≤ R.slots) (hK : va_K D classes tys s)
    (hls : ls.size = nL) (hst : st0 = as.reverse ++ rest) (hrm : (rest.map fun v => v.category).sum ≤ 8) (hdg : decode cc pc = .ok (.invokestatic i, 3))
    (kk : W p l e R s m args below meth c H locs cells slots Q (F0 m (pc + 3) ls rest)) :
    W p l e R s m args below meth c H locs cells slots Q (F0 m pc ls st0) := by
  have hKc := hK.sub (tys' := []) [] rfl
  intro T hT X
  obtain ⟨v, st₀, t, T', L, h0, X', hL, e1, e2, ⟨hv, hh⟩, st⟩ := va_runS (As := as) (rest := rest) (g := F0 m pc ls st0) cx hM (cwS nA cx.2.2.2.2 hg rfl hz.1 hz.2 ⟨hown, hd⟩ hR) ⟨cR_blind, fun U hU hW => ⟨rfl, fun k q h => by simp at h, va_K.moved hW.alike hKc⟩⟩ rfl hn hls hst (lv_room hrm) hdg hR2 T hT X
  cases hv
  have hLn := nilL hL
  subst hLn
  rw [List.append_nil] at X'
  obtain ⟨t2, a1, b1⟩ := kk T' (by rw [e1, hh, h0]) X'
  exact ⟨t2, st t2 a1, b1⟩
end MKb
end
section
/-! THROW AND CATCH: rows of our own over the library's Stand -/
def n_IAE : String := "java/lang/IllegalArgumentException"
def n_IOOBE : String := "java/lang/IndexOutOfBoundsException"
def lw_fc : List Cond := [.castable "java/lang/IllegalArgumentException" "java/lang/IllegalArgumentException", .castable "java/lang/IndexOutOfBoundsException" "java/lang/IndexOutOfBoundsException", .declares ⟨"java/lang/RuntimeException", "<init>", "()V"⟩, .declares ⟨"java/lang/Exception", "<init>", "()V"⟩, .declares ⟨"java/lang/Throwable", "<init>", "()V"⟩]
theorem fc_in : ∀ w ∈ lw_fc, w ∈ lw_tbl ∧ w.faceAtom = true := by decide +kernel
def lw_zs : List Cond := [.laysStatic "java/lang/Throwable" "UNASSIGNED_STACK" "[Ljava/lang/StackTraceElement;", .laysStatic "java/lang/Throwable" "SUPPRESSED_SENTINEL" "Ljava/util/List;", .isRef (.static "java/lang/Throwable" "UNASSIGNED_STACK" "[Ljava/lang/StackTraceElement;"), .isRef (.static "java/lang/Throwable" "SUPPRESSED_SENTINEL" "Ljava/util/List;")]
/-- a static of the JDK's, a reference or null, in the heap H -/
def st_ok (C n d : String) (U : State) (H : Heap) : Prop := ∃ (c i a : Nat) (k : Class) (f : Field) (cell : Cell), U.vm.findClass C = some c ∧ U.fieldFound? C n d = some (c, k, i, f) ∧ f.isStatic = true ∧ k.statics = some a ∧ H[a]? = some cell ∧ cell.vm.isStatics = true ∧ cell.cls = c ∧ f.slot < cell.slots.size ∧ k.staticTypes[f.slot]? = some f.type ∧ (cell.slots[f.slot]? = some .null ∨ ∃ t : Nat, cell.slots[f.slot]? = some (.ref t))
theorem st_ok.moved {C n d : String} {u U : State} {H : Heap} (hvm : u.vm.Alike U.vm) (h : st_ok C n d u H) : st_ok C n d U H := by
  obtain ⟨c, i, a, k, f, cell, h1, h2, h3, h4, h5, h6, h7, h8, h9, h10⟩ := h
  obtain ⟨k', hi', he⟩ := State.fieldFound?_setVm hvm h2
  exact ⟨c, i, a, k', f, cell, by rw [hvm.findClass]; exact h1, hi', h3, by rw [he]; exact h4, h5, h6, h7, h8, by rw [he]; exact h9, h10⟩
theorem st_ok.kept {C n d : String} {U : State} {H H1 : Heap} (h : st_ok C n d U H) (hq : ∀ a : Nat, a < H.size → H1[a]? = H[a]?) : st_ok C n d U H1 := by
  obtain ⟨c, i, a, k, f, cell, h1, h2, h3, h4, h5, h6⟩ := h
  exact ⟨c, i, a, k, f, cell, h1, h2, h3, h4, by rw [hq a (Array.getElem?_eq_some_iff.mp h5).1]; exact h5, h6⟩
theorem st_ok.of {C n d : String} {args : Array Value} {s : State} (h1 : (Cond.laysStatic C n d).before args s = true) (h2 : (Cond.isRef (.static C n d)).before args s = true) : st_ok C n d s s.heap := by
  obtain ⟨c, k, i, f, a, cell, hc, hi, hst, ha, hcell, hs, hcls, hlt, hty⟩ := Cond.laysStatic_spec h1
  refine ⟨c, i, a, k, f, cell, hc, hi, hst, ha, hcell, hs, hcls, hlt, hty, ?_⟩
  obtain ⟨u, hu⟩ := Cond.staticRefV hi hst ha hcell hs h2
  obtain ⟨v, hv⟩ := u
  cases v <;> simp [Value.isRef] at hv
  · exact Or.inl hu
  · exact Or.inr ⟨_, hu⟩
theorem st_ok.lays {C n d : String} {args : Array Value} {s : State} (h : st_ok C n d s s.heap) : (Cond.laysStatic C n d).before args s = true := by
  obtain ⟨c, i, a, k, f, cell, h1, h2, h3, h4, h5, h6, h7, h8, h9, h10⟩ := h
  exact Cond.laysStatic_of h1 h2 h3 h4 h5 h6 h7 h8 h9
theorem st_ok.ref {C n d : String} {args : Array Value} {s : State} (h : st_ok C n d s s.heap) : (Cond.isRef (.static C n d)).before args s = true := by
  obtain ⟨c, i, a, k, f, cell, h1, h2, h3, h4, h5, h6, h7, h8, h9, h10⟩ := h
  have he : (Term.static C n d).eval args s none [] s = cell.slots[f.slot]? := by
    simp [Term.eval, State.fieldNamed?, h2, h3, h4, h5, h6]
  rcases h10 with h10 | ⟨t, h10⟩
  · simp [Cond.before, Cond.holds, Cond.value, he, h10]
  · simp [Cond.before, Cond.holds, Cond.value, he, h10]
/-- what the making of an exception asks of the state beside the kept words -/
def tS (U : State) (H : Heap) : Prop := st_ok "java/lang/Throwable" "UNASSIGNED_STACK" "[Ljava/lang/StackTraceElement;" U H ∧ st_ok "java/lang/Throwable" "SUPPRESSED_SENTINEL" "Ljava/util/List;" U H ∧ ∀ w ∈ lw_fc, w.before #[] U = true
theorem tS.moved {u U : State} {H : Heap} (hvm : u.vm.Alike U.vm) (h : tS u H) : tS U H := by
  refine ⟨h.1.moved hvm, h.2.1.moved hvm, fun w hw => ?_⟩
  have h1 := Cond.faceAtom_setVm (args := #[]) (s := u) hvm w (fc_in w hw).2 (h.2.2 w hw)
  have hf := (fc_in w hw).2
  cases w <;> simp [Cond.faceAtom] at hf <;> exact h1
theorem tS.kept {U : State} {H H1 : Heap} (h : tS U H) (hq : ∀ a : Nat, a < H.size → H1[a]? = H[a]?) : tS U H1 := ⟨h.1.kept hq, h.2.1.kept hq, h.2.2⟩
/-- an argument's list doesn't matter to these -/
theorem fc_args {w : Cond} (hw : w ∈ lw_fc) {a b : Array Value} {s : State} (h : w.before a s = true) : w.before b s = true := by
  simp only [lw_fc, List.mem_cons, List.not_mem_nil, or_false] at hw
  rcases hw with rfl | rfl | rfl | rfl | rfl <;> exact h
theorem tS.of {args : Array Value} {s : State} (hts : ∀ w ∈ lw_tbl, w.before args s = true) (hz : ∀ w ∈ lw_zs, w.before args s = true) : tS s s.heap := by
  refine ⟨st_ok.of (args := args) (hz _ ?_) (hz _ ?_), st_ok.of (args := args) (hz _ ?_) (hz _ ?_), fun w hw => fc_args hw (hts w (fc_in w hw).1)⟩
  · exact List.mem_of_getElem? (i := 0) rfl
  · exact List.mem_of_getElem? (i := 2) rfl
  · exact List.mem_of_getElem? (i := 1) rfl
  · exact List.mem_of_getElem? (i := 3) rfl
def ex_ns : List String := ["java/lang/RuntimeException", "java/lang/Exception"]
theorem oa_1 : ∀ a ∈ Bundle.ownAtoms0 "StartTable" 38 "java/lang/IllegalArgumentException" ex_ns, a ∈ lw_zs ∨ a ∈ lw_fc ∨ (a ∈ lw_tbl ∧ goodWord a = true) := by decide +kernel
theorem oa_2 : ∀ a ∈ Bundle.ownAtoms0 "StartTable" 41 "java/lang/IndexOutOfBoundsException" ex_ns, a ∈ lw_zs ∨ a ∈ lw_fc ∨ (a ∈ lw_tbl ∧ goodWord a = true) := by decide +kernel
theorem oa_all {args : Array Value} {s : State} {L : List Cond} (h : ∀ a ∈ L, a ∈ lw_zs ∨ a ∈ lw_fc ∨ (a ∈ lw_tbl ∧ goodWord a = true)) (hT : ∀ w ∈ lw_gd, w.before args s = true) (hS : tS s s.heap) : ∀ a ∈ L, a.before args s = true := by
  intro a ha
  rcases h a ha with z | z | z
  · simp only [lw_zs, List.mem_cons, List.not_mem_nil, or_false] at z
    rcases z with rfl | rfl | rfl | rfl
    · exact hS.1.lays
    · exact hS.2.1.lays
    · exact hS.1.ref
    · exact hS.2.1.ref
  · exact fc_args z (hS.2.2 a z)
  · exact hT a (gd_of z.1 z.2)
/-- the thrown object, in the state t -/
def tx_Q (cls : String) (x : Nat) (t : State) : Prop := ∃ ce : Cell, t.heap[x]? = some ce ∧ t.vm.findClass cls = some ce.cls ∧ ce.vm = .none
def tx_End (first : State) (o : Outcome) (t : State) (k n : Nat) : Prop := (∃ x, o = .threw x) ∧ first.WarmedH t.vm ∧ first.sameButNew ({ t with vm := first.vm } : State) [] k n
/-- the contract of a method that throws (and has written nothing) -/
def MetT (l : Launch) (y : MethodName) (ws : List Cond) (rm : Room) (Pc : Array Value → State → Prop) (cls : String) : Prop :=
  MetFree l y (headSpec ws rm) Pc (fun _ _ _ _ _ => True) (fun _ st o t => (∃ x, o = .threw x ∧ tx_Q cls x t) ∧ tx_End st o t rm.cells rm.slots)
def MQT (below : List Frame) (cls : String) (s : State) (mc ms : Nat) : State → Prop := fun t =>
  ∃ o, t.status = .running ∧ Ended t below o ∧ (∃ x, o = .threw x ∧ tx_Q cls x t) ∧ tx_End s o t mc ms
def cT (D : va_G) (wc : va_W) (tc : List (ClassId × FieldType)) (av : List Value) : Array Value → State → Prop := va_Pc av (fun U => va_P D classes wc U.heap ∧ va_K D classes tc U ∧ tS U U.heap)
def CtT (l : Launch) (y : MethodName) (wd : Cond) (rm : Room) (D : va_G) (wc : va_W) (tc : List (ClassId × FieldType)) (av : List Value) (cls : String) : Prop := MetT l y (wd :: lw_gd) rm (cT D wc tc av) cls
theorem cT_blind {D : va_G} {wc : va_W} {tc : List (ClassId × FieldType)} {av : List Value} : FrameBlind (cT D wc tc av) := fun a U g mk q => by
  obtain ⟨q0, qP, qK, qS⟩ := q
  exact ⟨q0, qP, va_K.moved (u := U) (U := U.calling g mk a) (Vm.Alike.refl U.vm) qK, tS.moved (u := U) (U := U.calling g mk a) (Vm.Alike.refl U.vm) qS⟩
theorem r_thrower {l : Launch} {y : MethodName} {b : ByteArray} {n : Nat} {ret : Option FieldType} {rm : Room} {D : va_G} {wc : va_W} {tc : List (ClassId × FieldType)} {av : List Value} {cls : String} (hy : plainName y.cls = true) (hlen : (lg_sl av).length ≤ n)
    (body : ∀ (p : Program) (e : Env) (s : State) (m : MethodId) (below : List Frame) (meth : Method) (c : Code) (ls : Array Slot),
      CallFix p m c b n s av.toArray lw_gd y.cls → meth.locks = false → c.exceptionTable.toList = [] → va_K D classes tc s → va_P D classes wc s.heap → tS s s.heap → lv_has ls n (lv_args 0 av) →
      W p l e rm s m av.toArray below meth c s.heap [] 0 0 (MQT below cls s rm.cells rm.slots) (F0 m 0 ls [])) :
    CtT l y (.code y b n ret) rm D wc tc av cls := by
  unfold CtT MetT
  refine MetFree.of_bodyS (code := b) (maxLocals := n) (ret := ret) hy ?_ ?_
  · intro args s m h hn
    obtain ⟨meth, c, h1, h2, h3, h4, h5, h6, -, -⟩ := Cond.code_spec hn (atoms_spec (ws := .code y b n ret :: lw_gd) h _ List.mem_cons_self)
    exact ⟨meth, c, h1, h2, h3, h4, h5, h6⟩
  · intro p e s m args below meth c s₁ B hml hP _
    obtain ⟨rfl, hP, hK, hS⟩ := hP
    have hts := atoms_spec (ws := .code y b n ret :: lw_gd) B.pre
    have hh0 : s₁.heap = s.heap := by rw [B.state]; rfl
    have hx0 : c.exceptionTable.toList = [] := by
      have h9 := B.noHandlers (hts _ List.mem_cons_self)
      have h0 : c.exceptionTable.size = 0 := by simpa [Array.isEmpty] using h9
      exact List.eq_nil_of_length_eq_zero (by simpa using h0)
    have hl := lv_entry av (n := n) hlen
    have K : W p l e rm s m av.toArray below meth c s₁.heap [] 0 0 (MQT below cls s rm.cells rm.slots) (entryFrame m av.toArray n) := by
      rw [hh0, lg_entry_eq]
      generalize (lg_sl av ++ List.replicate (n - (lg_sl av).length) Slot.unset).toArray = ls at hl ⊢
      exact body p e s m below meth c ls ⟨B.exec, B.bytes, hml, findClass_of_methodNamed B.named, fun w hw => hts w (List.mem_cons_of_mem _ hw)⟩ B.notSynchronized hx0 hK hP hS hl
    obtain ⟨t, a1, o, b1, b2, b3, b4⟩ := K s₁ rfl (Stand.of_body B)
    exact ⟨t, o, a1, b1, b2, b3, b4⟩
section TXa
variable {p : Program} {l : Launch} {e : Env} {R : Room} {s : State} {m : MethodId} {args : Array Value} {below : List Frame} {meth : Method} {c : Code} {H : Heap} {locs : List Loc} {cells slots nL : Nat} {Q : State → Prop}
variable {cc : ByteArray} {pc : Nat} {ls : Array Slot} {rest st0 : List Value} {D : va_G} {own : String}
set_option maxHeartbeats 1000000 in
/-- new X; dup; invokespecial X.<init>; athrow -/
theorem tx_throw {cls : String} {ix ic : Nat} (htr : l.stackTraces = false) (cx : CallFix p m c cc nL s args lw_gd "StartTable") (hlocks : meth.locks = false) (hex : c.exceptionTable.toList = []) (hS : tS s s.heap)
    (hoa : ∀ a ∈ Bundle.ownAtoms0 "StartTable" ic cls ex_ns, a ∈ lw_zs ∨ a ∈ lw_fc ∨ (a ∈ lw_tbl ∧ goodWord a = true)) (hfit : Bundle.fit cls = true) (hcl : Cond.classLink "StartTable" ix cls ∈ lw_gd) (hins : Cond.instantiable cls 6 ∈ lw_gd) (hini : Cond.initialized cls ∈ lw_gd) (hls : ls.size = nL)
    (hR : 5 < R.frames ∧ 82 ≤ R.locals ∧ 1 ≤ R.cells ∧ 6 ≤ R.slots)
    (d0 : decode cc pc = .ok (.new ix, 3)) (d3 : decode cc (pc + 3) = .ok (.dup, 1)) (d4 : decode cc (pc + 3 + 1) = .ok (.invokespecial ic, 3)) (d7 : decode cc (pc + 3 + 1 + 3) = .ok (.athrow, 1)) :
    W p l e R s m args below meth c s.heap [] 0 0 (MQT below cls s 1 6) (F0 m pc ls []) := by
  obtain ⟨hx, hb, hml, hown, hT⟩ := cx
  refine W.newc hx hb hown (hT _ hcl) (hT _ hins) (hT _ hini) rfl d0 (by omega) (by omega) fun cC kC hfc hk hkind hsz => ?_
  refine W.eq (g2 := F0 m (pc + 3) ls [.ref s.heap.size]) rfl ?_
  refine lv_dup hx hb d3 rfl ?_
  intro T hT2 X
  have hcell : T.heap[s.heap.size]? = some (freshCell cC kC) := by rw [hT2]; simp
  have htr2 : e.platform.stackTraces = false := (congrArg Platform.stackTraces X.admits.2.2.2.2.1).trans htr
  obtain ⟨U, hst, hrun, hend, hW, hsame, ce, hce, hoc⟩ := X.ctorThrow0 hx htr2 (names := ex_ns) hown hfit (by decide +kernel) (oa_all hoa hT hS) (fun x h => by cases h) hfc hk hcell (Nat.le_refl _) (g := F0 m (pc + 3 + 1) ls [.ref s.heap.size, .ref s.heap.size]) rfl (hls.trans hml.symm) rfl rfl (rest := []) rfl (by rw [hb]; exact d4) (by rw [hb]; exact d7) (by rw [hex]; intro x h; cases h) (by show 2 + 3 < R.frames; omega) (by show 2 * 0 + 1 + (13 * 3 + 41) ≤ R.locals; omega) hlocks
  exact ⟨U, hst, .threw _, hrun, hend, ⟨_, rfl, ce, hce, by rw [hW.alike.findClass]; exact hoc.cls, hoc.vm⟩, ⟨_, rfl⟩, hW, hsame⟩
variable {y : MethodName} {b : ByteArray} {n nA i : Nat} {ret : Option FieldType} {rm : Room} {wc ws : va_W} {tc tys : List (ClassId × FieldType)} {as : List Value} {o ci : Nat} {qc : vw_C} {fs : List Value} {cls : String}
/-- the call of a thrower, up to the note in the caller's frame -/
theorem tx_back {T : State} {g : JFrame} {ig : Instr} {len : Nat} {mk : MethodId} {a : Array Value} {Pc : Array Value → State → Prop} (X : Stand p l e R s m args below meth c T locs cells slots) (hg : g.method = m) (hsize : g.locals.size = c.maxLocals) (hdg : decode c.code g.pc = .ok (ig, len)) (hM : MetT l y (.code y b n ret :: lw_gd) rm Pc cls) (hbl : FrameBlind Pc)
    (hT : ∀ w ∈ lw_gd, w.before args s = true) (hc : Cond.code y b n ret ∈ lw_gd) (hini : Cond.initialized y.cls ∈ lw_gd) (hR : rm.frames + 1 ≤ R.frames ∧ 8 + (n + 11) + rm.locals ≤ R.locals) (hR2 : cells + rm.cells ≤ R.cells ∧ slots + rm.slots ≤ R.slots)
    (hW : 2 * g.monitorRoom + (g.stack.map fun v => v.category).sum ≤ 8) (hn : T.methodNamed? y = some mk) (hP : Pc a T) :
    ∃ (x : Nat) (T' : State), Stand p l e R s m args below meth c T' locs (cells + rm.cells) (slots + rm.slots) ∧ tx_Q cls x T' ∧ (∀ q : Nat, q < T.heap.size → T'.heap[q]? = T.heap[q]?) ∧ T.heap.size ≤ T'.heap.size ∧
      Steps p.tables e below (doInvoke e (T.setTop g) [] mk a).1 ((T'.setTop g).pushFrame (.throwing x)) := by
  have hws : ∀ w ∈ (Cond.code y b n ret :: lw_gd), ∀ (a' : Array Value) (U : State), s.WarmedH U.vm → w.before a' U = true := pay_in hT (gd_call hc)
  have h1 := hws _ List.mem_cons_self a T X.warmed
  obtain ⟨methY, cY, hmY, hcY, -, hlY, -, -, -, -⟩ := Cond.code_spec hn h1
  obtain ⟨kY, hkY, -⟩ := className_of_methodNamed hn
  have hinitY : kY.init = .initialized := Cond.initialized_spec (findClass_of_methodNamed hn) hkY (hws _ (List.mem_cons_of_mem _ hini) a T X.warmed)
  have h : At T g.method c below := by rw [hg]; exact X.here
  have happ : (headSpec (Cond.code y b n ret :: lw_gd) rm).appliesLoose y e.platform (T.calling g mk a) = true :=
    Spec.appliesLoose_calling (g := g) h hdg hn hkY hinitY (X.room_calling (g := g) (R' := rm) hsize hmY hcY hR.1 (by rw [hlY]; omega) hR2.1 hR2.2) (atoms_intro fun w hw => hws w hw a T X.warmed)
  obtain ⟨mid, hmid⟩ := h.above
  have hfr : (T.setTop g).frames = (.java g :: mid) ++ below := by rw [State.frames_setTop' g h.top, hmid]; rfl
  obtain ⟨o, s₂, hsteps, -, hend, ⟨x, ho, hq⟩, -, hW₂, hsame⟩ := Steps.callFree hM p X.admits X.cas X.clock (acts := []) hfr happ (hbl a T g mk hP) trivial
  subst ho
  rw [State.frames_setTop' g h.top, X.tail] at hend
  obtain ⟨T', X', hWT, hsT, ht⟩ := X.outOfThrown (g := g) hg (mk := mk) (a := a) hend hW₂ hsame
  have hheap : s₂.heap = T'.heap := by rw [ht]; exact Stand.throwing_heap T' g x
  have hvm : s₂.vm = T'.vm := by rw [ht]; exact Stand.throwing_vm T' g x
  rw [List.append_nil] at X'
  refine ⟨x, T', X', ?_, ?_, hsT.2.1, by rw [← ht]; exact hsteps⟩
  · obtain ⟨ce, z1, z2, z3⟩ := hq
    exact ⟨ce, by rw [← hheap]; exact z1, by rw [← hvm]; exact z2, z3⟩
  · intro q hq
    obtain ⟨c', z1, z2, z3, z4⟩ := hsT.2.2.2.2.2 q _ (Array.getElem?_eq_getElem hq)
    have z1 : T'.heap[q]? = some c' := z1
    rw [z1, Array.getElem?_eq_getElem hq, z2]
    have : c'.slots = T.heap[q].slots := by
      apply Array.ext_getElem?
      intro i
      exact z4 i (fun h => by cases h)
    rw [this]
/-- invokevirtual of a thrower: the note in the caller's frame -/
theorem tx_runV (hM : CtT l y (.code y b n ret) rm D wc tc (.ref o :: as) cls) (cx : CallFix p m c cc nL s args lw_gd own) (hg : GoodIn lw_gd (wsV own i y.cls y (.code y b n ret :: lw_gd))) (hd : nOk y nA) (hn : as.length = nA)
    (hR : rm.frames + 1 ≤ R.frames ∧ 8 + (n + 11) + rm.locals ≤ R.locals) (hR2 : cells + rm.cells ≤ R.cells ∧ slots + rm.slots ≤ R.slots)
    (hKc : va_K D classes tc s) (hPc : va_P D classes wc H) (hS : tS s H) (hci : classes[ci]? = some qc) (hq : qc.1 = y.cls) (he : wc[0]? = some (o, .inr (ci, fs))) (hls : ls.size = nL) (hst : st0 = as.reverse ++ .ref o :: rest) (hrm : (rest.map fun v => v.category).sum ≤ 8) (hdg : decode cc pc = .ok (.invokevirtual i, 3)) :
    ∀ T : State, T.heap = H → Stand p l e R s m args below meth c T locs cells slots → ∃ (x : Nat) (T' : State), Stand p l e R s m args below meth c T' locs (cells + rm.cells) (slots + rm.slots) ∧ tx_Q cls x T' ∧ (∀ q : Nat, q < H.size → T'.heap[q]? = H[q]?) ∧ H.size ≤ T'.heap.size ∧
      Steps p.tables e below (T.setTop (F0 m pc ls st0)) ((T'.setTop (F0 m pc ls rest)).pushFrame (.throwing x)) := by
  intro T hT X
  have gw : ∀ w ∈ wsV own i y.cls y (.code y b n ret :: lw_gd), w ∈ lw_gd := fun w h => (hg w h).1
  have hT9 := cx.2.2.2.2
  have hlink := hT9 _ (gw (.methodLink own i y) (by simp [wsV]))
  have hinst := hT9 _ (gw (.instanceMethod y) (by simp [wsV]))
  have hsel := hT9 _ (gw (.selects y.cls y y) (by simp [wsV]))
  have hini := gw (.initialized y.cls) (by simp [wsV])
  have hc := gw (.code y b n ret) (by simp [wsV])
  have hcode := hT9 _ hc
  obtain ⟨cellB, hcB, hoB, hclB⟩ : ∃ cell : Cell, H[o]? = some cell ∧ cell.vm.isStatics = false ∧ s.vm.findClass y.cls = some cell.cls := hq ▸ va_recv hKc hPc hci he
  obtain ⟨mk, methM, hnamed, hmethM, hstM, habM⟩ := Cond.instanceMethod_spec hinst
  obtain ⟨methM', cM, hmethM', -, -, -, -, -, -, hsigM⟩ := Cond.code_spec hnamed hcode
  cases hmethM.symm.trans hmethM'
  obtain ⟨c2, r2, m2, q1, q2, q3, q4, kP, hkP, hkPi⟩ := Cond.selects_spec hsel
  cases hclB.symm.trans q1
  cases (State.methodFound?_of_named hnamed ⟨hd.1, hd.2.1⟩).symm.trans q2
  cases hnamed.symm.trans q3
  have hselP : selectMethod e.platform s.vm cellB.cls mk = .method mk := by rw [Launch.admits_selectMethod X.admits]; exact q4
  have hlen : as.length = methM.sig.parameters.length := by
    have h2 := hd.2.2
    rw [hsigM] at h2
    exact hn.trans (Option.some.inj h2).symm
  have hb := cx.2.1
  obtain ⟨vm₁, X₁, hstep₁⟩ := X.invokevirtual cx.1 cx.2.2.2.1 hlink hnamed hmethM hstM hkP hkPi ⟨hd.1, hd.2.1⟩ (a := o) (cell := cellB) (by rw [hT]; exact hcB)
    (fun z h => by rw [h] at hoB; cases hoB) hselP hmethM habM hkP hkPi (g := F0 m pc ls st0) rfl (argsL := as) (rest := rest) hlen hst (by rw [hb]; exact hdg)
  obtain ⟨x, T', X', hq2, hk, hz, hsteps⟩ := tx_back X₁ (g := F0 m pc ls rest) rfl (hls.trans cx.2.2.1.symm) (by rw [hb]; exact hdg) hM cT_blind hT9 hc hini hR hR2 (lv_room hrm) (X₁.named hnamed) (a := (.ref o :: as).toArray) ⟨rfl, by show va_P D classes wc T.heap; rw [hT]; exact hPc, va_K.moved X₁.warmed.alike hKc, by show tS _ T.heap; rw [hT]; exact hS.moved X₁.warmed.alike⟩
  exact ⟨x, T', X', hq2, fun q hq9 => by rw [← hT] at hq9 ⊢; exact hk q hq9, by rw [← hT]; exact hz, hstep₁ _ fun acts => by rw [doInvoke_state]; exact hsteps⟩
/-- invokestatic of a thrower -/
theorem tx_runS (hM : CtT l y (.code y b n ret) rm D [] [] as cls) (cx : CallFix p m c cc nL s args lw_gd own) (hg : GoodIn lw_gd (wsS own i y (.code y b n ret :: lw_gd))) (hown : y.cls = own) (hd : nOk y nA) (hn : as.length = nA)
    (hR : rm.frames + 1 ≤ R.frames ∧ 8 + (n + 11) + rm.locals ≤ R.locals) (hR2 : cells + rm.cells ≤ R.cells ∧ slots + rm.slots ≤ R.slots)
    (hK : va_K D classes tys s) (hS : tS s H) (hls : ls.size = nL) (hst : st0 = as.reverse ++ rest) (hrm : (rest.map fun v => v.category).sum ≤ 8) (hdg : decode cc pc = .ok (.invokestatic i, 3)) :
    ∀ T : State, T.heap = H → Stand p l e R s m args below meth c T locs cells slots → ∃ (x : Nat) (T' : State), Stand p l e R s m args below meth c T' locs (cells + rm.cells) (slots + rm.slots) ∧ tx_Q cls x T' ∧ (∀ q : Nat, q < H.size → T'.heap[q]? = H[q]?) ∧ H.size ≤ T'.heap.size ∧
      Steps p.tables e below (T.setTop (F0 m pc ls st0)) ((T'.setTop (F0 m pc ls rest)).pushFrame (.throwing x)) := by
  intro T hT X
  have gw : ∀ w ∈ wsS own i y (.code y b n ret :: lw_gd), w ∈ lw_gd := fun w h => (hg w h).1
  have hT9 := cx.2.2.2.2
  have hlink := hT9 _ (gw (.methodLink own i y) (by simp [wsS]))
  have hstat := hT9 _ (gw (.static y) (by simp [wsS]))
  have hini : Cond.initialized y.cls ∈ lw_gd := by rw [hown]; exact gw (.initialized own) (by simp [wsS])
  have hc := gw (.code y b n ret) (by simp [wsS])
  have hcode := hT9 _ hc
  obtain ⟨mk, hnamed⟩ := Cond.code_named hcode
  obtain ⟨methM, cM, hmethM, -, -, -, -, -, -, hsigM⟩ := Cond.code_spec hnamed hcode
  have hstatic : methM.isStatic = true := Cond.static_spec hnamed hmethM hstat
  obtain ⟨kP, hkP, -⟩ := className_of_methodNamed hnamed
  have hinitP : kP.init = .initialized := Cond.initialized_spec (findClass_of_methodNamed hnamed) hkP (hT9 _ hini)
  have hlen : as.length = methM.sig.parameters.length := by
    have h2 := hd.2.2
    rw [hsigM] at h2
    exact hn.trans (Option.some.inj h2).symm
  have hb := cx.2.1
  obtain ⟨vm₁, X₁, hstep₁⟩ := X.invokestatic cx.1 cx.2.2.2.1 hlink hnamed hmethM hstatic hkP hinitP ⟨hd.1, hd.2.1⟩ (g := F0 m pc ls st0) rfl (argsL := as) (rest := rest) hlen hst (by rw [hb]; exact hdg)
  obtain ⟨x, T', X', hq2, hk, hz, hsteps⟩ := tx_back X₁ (g := F0 m pc ls rest) rfl (hls.trans cx.2.2.1.symm) (by rw [hb]; exact hdg) hM cT_blind hT9 hc hini hR hR2 (lv_room hrm) (X₁.named hnamed) (a := as.toArray) ⟨rfl, fun k q h => by simp at h, va_K.moved X₁.warmed.alike (hK.sub (tys' := []) [] rfl), by show tS _ T.heap; rw [hT]; exact hS.moved X₁.warmed.alike⟩
  exact ⟨x, T', X', hq2, fun q hq9 => by rw [← hT] at hq9 ⊢; exact hk q hq9, by rw [← hT]; exact hz, hstep₁ _ fun acts => by rw [doInvoke_state]; exact hsteps⟩
/-- out of a method with no handlers -/
theorem tx_out (hlocks : meth.locks = false) (hex : c.exceptionTable.toList = []) {mc ms : Nat}
    (hrun : ∀ T : State, T.heap = s.heap → Stand p l e R s m args below meth c T [] 0 0 → ∃ (x : Nat) (T' : State), Stand p l e R s m args below meth c T' [] mc ms ∧ tx_Q cls x T' ∧ (∀ q : Nat, q < s.heap.size → T'.heap[q]? = s.heap[q]?) ∧ s.heap.size ≤ T'.heap.size ∧
      Steps p.tables e below (T.setTop (F0 m pc ls st0)) ((T'.setTop (F0 m pc ls rest)).pushFrame (.throwing x))) :
    W p l e R s m args below meth c s.heap [] 0 0 (MQT below cls s mc ms) (F0 m pc ls st0) := by
  intro T hT X
  obtain ⟨x, T', X', hq, -, -, hsteps⟩ := hrun T hT X
  obtain ⟨h1, h2, h3, h4, h5⟩ := X'.leaveThrown x (g := F0 m pc ls rest) rfl rfl rfl (by rw [hex]; intro z h; cases h) hlocks
  exact ⟨_, hsteps.trans h1, .threw x, h2, h3, ⟨x, rfl, hq⟩, ⟨x, rfl⟩, h4, h5⟩
end TXa
end
section
/-! INTO A HANDLER, the entry of what it catches resolved or not -/
section TXb
theorem tx_go {E : CtlPost} {e : Env} {d : Bool} {acts : List Action} {s : State} {f : JFrame} {a : Addr} {Q : Handler → Pre} {x : ExceptionTableEntry} {t : List ExceptionTableEntry} {cC : ClassId} {vm' : Vm} {cell : Cell}
    (hx : covers x f.pc = true) (h0 : x.catchType ≠ 0) (hg : (Jvm.resolveClass f.method.cls x.catchType).Gives e.toSetting s.vm (.ok cC) vm') (hsz : vm'.classes.size ≤ s.vm.classes.size)
    (hcell : s.heap[a]? = some cell) (hobj : ∀ k, cell.vm ≠ .statics k) (hk : ∃ k, vm'.classes[cell.cls]? = some k) (hc : ∃ k, vm'.classes[cC]? = some k) (hfit : vm'.assignable cell.cls cC = true) :
    wp (findHandler.go f a (x :: t)) Q E e d acts s ↔ Q (.found x.handlerPc) d acts (s.setVm vm') := by
  simp only [covers] at hx
  obtain ⟨ha, ht⟩ := hg.op (op := VmOp.resolveClass f.method.cls x.catchType) rfl
  simp [findHandler.go, hx, h0, ha, ht, hsz, hcell, hobj, hk, hc, hfit, VmOp.dirties, VmOp.acts]
theorem tx_step {e : Env} {s : State} {a : Addr} {f : JFrame} {r : List Frame} {pc : Nat} {vm' : Vm} (hfind : ∀ (Q : Handler → Pre) (E : CtlPost) (d : Bool) (acts : List Action), wp (findHandler f a) Q E e d acts s ↔ Q (.found pc) d acts (s.setVm vm')) :
    (stepThrowing e s a (.java f :: r)).Is ((s.setVm vm').setFrames (.java { f with pc := pc, stack := [.ref a] } :: r)) [] := by
  simp only [stepThrowing, searchFrame, vmDo]
  generalize hr : Sem.go _ e false [] s = res
  obtain ⟨as, rfl, ha⟩ := Sem.eq_ok_of hr (a := Handler.found pc) (s' := s.setVm vm') (acts' := []) (by simp [hfind _ _ _ _])
  exact ⟨rfl, ha⟩
theorem tx_caught {tb : Tables} {e : Env} {s target : State} {g : JFrame} {c : Code} {below : List Frame} {a : Addr} {vm' : Vm} (h : At s g.method c below) {pc : Nat}
    (hfind : ∀ (Q : Handler → Pre) (E : CtlPost) (d : Bool) (acts : List Action), wp (findHandler g a) Q E e d acts ((s.setTop g).pushFrame (.throwing a)) ↔ Q (.found pc) d acts (((s.setTop g).pushFrame (.throwing a)).setVm vm'))
    (hrest : Steps tb e below ((s.setVm vm').setTop { g with pc := pc, stack := [.ref a] }) target) :
    Steps tb e below ((s.setTop g).pushFrame (.throwing a)) target := by
  obtain ⟨hgo, hw⟩ := h.throwing a
  refine Steps.head hgo hw ?_
  rw [stepThread_throwing (frames_entered h.top _), (tx_step (s := (s.setTop g).pushFrame (.throwing a)) hfind).1]
  obtain ⟨g₀, hg⟩ := Option.isSome_iff_exists.mp h.top
  obtain ⟨r, hr⟩ := State.topJava?_eq_some.mp hg
  have hr2 : (s.setVm vm').frames = .java g₀ :: r := hr
  have e1 : (((s.setTop g).pushFrame (.throwing a)).setVm vm').setFrames (.java { g with pc := pc, stack := [.ref a] } :: s.frames.tail) = (s.setVm vm').setTop { g with pc := pc, stack := [.ref a] } := by
    rw [State.setTop_of_frames _ hr2, State.setTop_of_frames _ hr, State.pushFrame, State.setFrames_setFrames, hr]
    show (((s.setFrames _).setFrames _).setVm vm') = _
    rw [State.setFrames_setFrames]
    rfl
  rw [e1]
  exact hrest
variable {p : Program} {l : Launch} {e : Env} {R : Room} {s : State} {m : MethodId} {args : Array Value} {below : List Frame} {meth : Method} {c : Code} {H : Heap} {locs : List Loc} {cells slots nL : Nat} {Q : State → Prop}
variable {cc : ByteArray} {pc : Nat} {ls : Array Slot} {rest st0 : List Value} {D : va_G} {own : String}
/-- the call threw inside the range of a handler that fits: on, at the handler -/
theorem tx_catch {cls : String} {mc ms hs he hp ix : Nat} (cx : CallFix p m c cc nL s args lw_gd own) (hex : c.exceptionTable.toList.map (fun h => (h.startPc, h.endPc, h.handlerPc, h.catchType)) = [(hs, he, hp, ix)]) (hr1 : hs ≤ pc) (hr2 : pc < he) (hix : ix ≠ 0) (hcl : Cond.classLink own ix cls ∈ lw_gd) (hct : (Cond.castable cls cls).before #[] s = true)
    (hrun : ∀ T : State, T.heap = H → Stand p l e R s m args below meth c T locs cells slots → ∃ (x : Nat) (T' : State), Stand p l e R s m args below meth c T' locs (cells + mc) (slots + ms) ∧ tx_Q cls x T' ∧ (∀ q : Nat, q < H.size → T'.heap[q]? = H[q]?) ∧ H.size ≤ T'.heap.size ∧
      Steps p.tables e below (T.setTop (F0 m pc ls st0)) ((T'.setTop (F0 m pc ls rest)).pushFrame (.throwing x)))
    (kk : ∀ (x : Nat) (H1 : Heap), (∀ q : Nat, q < H.size → H1[q]? = H[q]?) → H.size ≤ H1.size → W p l e R s m args below meth c H1 locs (cells + mc) (slots + ms) Q (F0 m hp ls [.ref x])) :
    W p l e R s m args below meth c H locs cells slots Q (F0 m pc ls st0) := by
  intro T hT X
  obtain ⟨x, T', X', ⟨ce, hce, hfc, hvm⟩, hk, hz, hsteps⟩ := hrun T hT X
  have hpl : e.platform.magicAccessors = ({} : Platform).magicAccessors := by rw [X.admits.platform]
  obtain ⟨cC, hfcc, hlk⟩ := Cond.classLink_spec cx.2.2.2.1 (cx.2.2.2.2 _ hcl) e.platform hpl
  obtain ⟨hg₁, hwarm₁, hready₁⟩ := State.classEntry (e := e) X'.warmed hlk
  have hcls : ce.cls = cC := by
    rw [X'.warmed.alike.findClass, hfcc] at hfc
    exact (Option.some.inj hfc).symm
  obtain ⟨c3, c4, hc3, hc4, hasg⟩ := Cond.castable_spec hct
  have e3 : c3 = cC := Option.some.inj (hc3.symm.trans hfcc)
  have e4 : c4 = cC := Option.some.inj (hc4.symm.trans hfcc)
  subst e3
  subst e4
  generalize T'.vm.noted m.cls ix (.cls c4) = vm₁ at hg₁ hwarm₁ hready₁
  have hal : T'.vm.Alike vm₁ := X'.warmed.alike.symm.trans hwarm₁.alike
  obtain ⟨ent, hent⟩ : ∃ z, c.exceptionTable.toList = [z] := by
    cases h9 : c.exceptionTable.toList with
    | nil => rw [h9] at hex; simp at hex
    | cons z t =>
      cases t with
      | nil => exact ⟨z, rfl⟩
      | cons z2 t => rw [h9] at hex; simp at hex
  rw [hent] at hex
  simp only [List.map_cons, List.map_nil, List.cons.injEq, Prod.mk.injEq, and_true] at hex
  obtain ⟨x1, x2, x3, x4⟩ := hex
  have hkC : ∃ k, vm₁.classes[c4]? = some k := by
    obtain ⟨k, hk9⟩ := Vm.classAt_of_findClass hfcc
    obtain ⟨k', h9, -⟩ := hwarm₁.alike.2.2 _ _ hk9
    exact ⟨k', h9⟩
  have hfind : ∀ (Q : Handler → Pre) (E : CtlPost) (d : Bool) (acts : List Action), wp (findHandler (F0 m pc ls rest) x) Q E e d acts ((T'.setTop (F0 m pc ls rest)).pushFrame (.throwing x)) ↔ Q (.found hp) d acts (((T'.setTop (F0 m pc ls rest)).pushFrame (.throwing x)).setVm vm₁) := by
    intro Q E d acts
    have hvm9 := Stand.throwing_vm T' (F0 m pc ls rest) x
    have hhp9 := Stand.throwing_heap T' (F0 m pc ls rest) x
    rw [Jvm.W.findHandler_eq (meth := meth) (code := c) (by rw [hvm9]; exact X'.method') X'.code, hent]
    rw [tx_go (x := ent) (cC := c4) (vm' := vm₁) (cell := ce) (by simp [covers, x1, x2, hr1, hr2]) (by rw [x4]; exact hix) (by rw [hvm9, x4]; exact hg₁) (by rw [hvm9]; exact hal.size_le) (by rw [hhp9]; exact hce) (fun k => by rw [hvm]; intro h; cases h) (by rw [hcls]; exact hkC) hkC (by rw [hcls, hwarm₁.alike.assignable]; exact hasg), x3]
  obtain ⟨t2, a1, b1⟩ := kk x T'.heap hk hz (T'.setVm vm₁) rfl (X'.noted hwarm₁)
  exact ⟨t2, hsteps.trans (tx_caught (g := F0 m pc ls rest) X'.here hfind a1), b1⟩
end TXb
end
section
/-! WORLDS, LOOPS -/
abbrev wT (h0 h1 h2 h3 : Nat) (c1 c2 : ClassId) (N P : Int32) (st sz : Nat → Int32) : va_W := [(h0, .inr (0, [.ref h1, .ref h3, .int N, .int P])), (h1, .inr (1, [.ref h2])), (h2, .inl (c1, 512, .inl st)), (h3, .inl (c2, 16384, .inl sz))]
abbrev tT (c1 c2 : ClassId) : List (ClassId × FieldType) := [(c1, .int), (c2, .int)]
abbrev wO (h1 h2 : Nat) (c1 : ClassId) (st : Nat → Int32) : va_W := [(h1, .inr (1, [.ref h2])), (h2, .inl (c1, 512, .inl st))]
abbrev tO (c1 : ClassId) : List (ClassId × FieldType) := [(c1, .int)]
abbrev wH (h0 h1 h3 : Nat) (N P : Int32) : va_W := [(h0, .inr (0, [.ref h1, .ref h3, .int N, .int P]))]
abbrev wM (g0 g1 : Nat) (c3 : ClassId) (th N : Int32) (B : Nat → Bool) : va_W := [(g0, .inr (2, [.int th, .int N, .ref g1])), (g1, .inl (c3, 16385, .inl (bz B)))]
abbrev tM (c3 : ClassId) : List (ClassId × FieldType) := [(c3, .boolean)]
abbrev wG (g0 g1 : Nat) (th N : Int32) : va_W := [(g0, .inr (2, [.int th, .int N, .ref g1]))]
theorem inc1 (a : Nat) : nI a + Int32.ofInt 1 = nI (a + 1) := by rw [show Int32.ofInt 1 = nI 1 from by decide +kernel, nI_add]
theorem dec1 (a : Nat) : nI (a + 1) + Int32.ofInt (-1) = nI a := by rw [show Int32.ofInt (-1) = -1 from by decide +kernel]; exact pk_m1 a
theorem nar0 : narrow .boolean (.int (nI 0)) = .int (nI 0) := by decide +kernel
theorem nar1 : narrow .boolean (.int (nI 1)) = .int (nI 1) := by decide +kernel
section LPs
variable {p : Program} {l : Launch} {e : Env} {R : Room} {s : State} {m : MethodId} {args : Array Value} {below : List Frame} {meth : Method} {c : Code} {H : Heap} {locs : List Loc} {cells slots : Nat} {Q : State → Prop} {pc : Nat} {ls : Array Slot}
theorem r_loopP {α : Type} (I : α → Array Slot → Prop) (μ : α → Nat) (body : ∀ (a : α) (ls : Array Slot), I a ls → (∀ (a' : α) (ls' : Array Slot), μ a' < μ a → I a' ls' → W p l e R s m args below meth c H locs cells slots Q (F0 m pc ls' [])) → W p l e R s m args below meth c H locs cells slots Q (F0 m pc ls [])) (a0 : α) (h0 : I a0 ls) :
    W p l e R s m args below meth c H locs cells slots Q (F0 m pc ls []) := by
  have key : ∀ (n : Nat) (a : α) (ls : Array Slot), μ a < n → I a ls → W p l e R s m args below meth c H locs cells slots Q (F0 m pc ls []) := by
    intro n
    induction n with
    | zero => intro a ls h; exact absurd h (Nat.not_lt_zero _)
    | succ n ih => intro a ls h hI; exact body a ls hI (fun a' ls' h' hI' => ih a' ls' (by omega) hI')
  exact key (μ a0 + 1) a0 ls (Nat.lt_succ_self _) h0
theorem r_loopW {α : Type} (I : α → Heap → List Loc → Array Slot → Prop) (μ : α → Nat) (body : ∀ (a : α) (H : Heap) (locs : List Loc) (ls : Array Slot), I a H locs ls → (∀ (a' : α) (H' : Heap) (locs' : List Loc) (ls' : Array Slot), μ a' < μ a → I a' H' locs' ls' → W p l e R s m args below meth c H' locs' cells slots Q (F0 m pc ls' [])) → W p l e R s m args below meth c H locs cells slots Q (F0 m pc ls [])) (a0 : α) (h0 : I a0 H locs ls) :
    W p l e R s m args below meth c H locs cells slots Q (F0 m pc ls []) := by
  have key : ∀ (n : Nat) (a : α) (H : Heap) (locs : List Loc) (ls : Array Slot), μ a < n → I a H locs ls → W p l e R s m args below meth c H locs cells slots Q (F0 m pc ls []) := by
    intro n
    induction n with
    | zero => intro a H locs ls h; exact absurd h (Nat.not_lt_zero _)
    | succ n ih => intro a H locs ls h hI; exact body a H locs ls hI (fun a' H' locs' ls' h' hI' => ih a' H' locs' ls' (by omega) hI')
  exact key (μ a0 + 1) a0 H locs ls (Nat.lt_succ_self _) h0
end LPs
end
section
abbrev rmL (k : Nat) : Room := { frames := k, cells := 0, slots := 0, locals := 25 * k }
/-- starts while set is under way: cards below k are written -/
def stK (st : Nat → Int32) (a k : Nat) : Nat → Int32 := fun j => if a ≤ 32 * j ∧ j < k then nI a else st j
theorem stK_0 (st : Nat → Int32) (a : Nat) : stK st a ((a + 31) / 32) = st := by
  funext j
  simp only [stK]
  rw [if_neg (by omega)]
theorem stK_s {st : Nat → Int32} {a k : Nat} (h : a ≤ 32 * k) : upd (stK st a k) k (nI a) = stK st a (k + 1) := by
  funext j
  by_cases hj : j = k
  · subst hj
    rw [upd_at]
    simp only [stK]
    rw [if_pos ⟨h, by omega⟩]
  · rw [upd_ne hj]
    simp only [stK]
    by_cases h1 : a ≤ 32 * j ∧ j < k
    · rw [if_pos h1, if_pos ⟨h1.1, by omega⟩]
    · rw [if_neg h1, if_neg (by omega)]
theorem stK_e {st : Nat → Int32} {a e k : Nat} (h1 : e ≤ 32 * k) (h2 : k = (a + 31) / 32 ∨ 32 * k < e + 32) : stK st a k = stS st a e := by
  funext j
  simp only [stK, stS]
  by_cases h : a ≤ 32 * j ∧ j < k
  · rw [if_pos h, if_pos ⟨h.1, by omega⟩]
  · rw [if_neg h, if_neg (by omega)]
set_option maxHeartbeats 4000000 in
set_option maxRecDepth 100000 in
theorem ct_O_start (l : Launch) (D : va_G) {h1 h2 : Nat} {c1 : ClassId} {st : Nat → Int32} {k : Nat} (hk : k < 512) : CpI l y_O_start c_O_start (rmL 0) D (wO h1 h2 c1 st) (tO c1) [.ref h1, .int (nI k)] (fun r => r = st k) := by
  refine r_pureI (by decide) (Nat.le_of_ble_eq_true rfl) ?_
  intro p e s m below meth c ls cx hr hlocks hK hP hl
  have hx := cx.1
  have hb := cx.2.1
  have hl : lv_has ls 2 [(0, .ref h1), (1, .int (nI k))] := hl
  refine lv_aload_n hx hb d_O_start_0 rfl (lv_at hl 0 rfl) ?_
  refine g_O0 cx hK hP 0 rfl d_O_start_1 ?_
  refine lv_iload_n hx hb d_O_start_4 rfl (lv_at hl 1 rfl) ?_
  refine r_iald hx hb hK hP 1 0 rfl rfl (show k < 512 by omega) (by omega) (rfl) d_O_start_5 ?_
  exact e_pi cx hr hlocks rfl d_O_start_6
set_option maxHeartbeats 4000000 in
set_option maxRecDepth 100000 in
theorem ct_O_set (l : Launch) (D : va_G) {h1 h2 : Nat} {c1 : ClassId} {st : Nat → Int32} {a z : Nat} (hz : a + z ≤ 16384) : CtV l y_O_set c_O_set (rmL 0) D (wO h1 h2 c1 st) (tO c1) [.ref h1, .int (nI a), .int (nI z)] (fun _ : Unit => True) (fun _ => tO c1) (fun _ => wO h1 h2 c1 (stS st a (a + z))) := by
  refine r_metV (by decide) (Nat.le_of_ble_eq_true rfl) ?_
  intro p e s m below meth c ls A cx hr hlocks hin hK hP hD hA hl
  have hx := cx.1
  have hb := cx.2.1
  have hS : va_S A s.heap s.heap [] := va_S.rf
  have hl : lv_has ls 5 [(0, .ref h1), (1, .int (nI a)), (2, .int (nI z))] := hl
  refine lv_iload_n hx hb d_O_set_0 rfl (lv_at hl 1 rfl) ?_
  refine lv_iload_n hx hb d_O_set_1 rfl (lv_at hl 2 rfl) ?_
  refine r_add hx hb d_O_set_2 ?_
  refine lv_istore_n (lv' := [(3, .int (nI (a + z))), (0, .ref h1), (1, .int (nI a)), (2, .int (nI z))]) hx hb d_O_set_3 rfl hl (by decide) rfl (fun ls hl => ?_)
  refine lv_iload_n hx hb d_O_set_4 rfl (lv_at hl 2 rfl) ?_
  refine lv_bipush (v := nI 31) hx hb d_O_set_5 (by decide +kernel) ?_
  refine r_add hx hb d_O_set_7 ?_
  refine lv_iconst (v := nI 5) hx hb d_O_set_8 (by decide +kernel) ?_
  refine r_shr5 hx hb d_O_set_9 (by omega) ?_
  refine lv_istore (lv' := [(4, .int (nI ((a + 31) / 32))), (3, .int (nI (a + z))), (0, .ref h1), (1, .int (nI a)), (2, .int (nI z))]) hx hb d_O_set_10 hl (by decide) rfl (fun ls hl => ?_)
  refine r_loopW (I := fun (k : Nat) H locs ls => (a ≤ 32 * k ∧ (k = (a + 31) / 32 ∨ 32 * k < a + z + 32)) ∧ va_P D classes (wO h1 h2 c1 (stK st a k)) H ∧ va_D A (wO h1 h2 c1 (stK st a k)) ∧ va_S A s.heap H locs ∧ lv_has ls 5 [(0, .ref h1), (1, .int (nI a)), (2, .int (nI z)), (3, .int (nI (a + z))), (4, .int (nI k))]) (μ := fun k => a + z + 32 - 32 * k) ?_ ((a + 31) / 32) ⟨⟨by omega, Or.inl rfl⟩, by rw [stK_0]; exact hP, by rw [stK_0]; exact hD, hS, lv_sub hl [2, 3, 4, 1, 0] rfl⟩
  intro k H locs ls ⟨⟨hk1, hk2⟩, hP, hD, hS, hl⟩ ih
  refine lv_iload hx hb d_O_set_12 (lv_at hl 4 rfl) ?_
  refine lv_iconst (v := nI 5) hx hb d_O_set_14 (by decide +kernel) ?_
  refine r_shl5 hx hb d_O_set_15 (by omega) ?_
  refine lv_iload_n hx hb d_O_set_16 rfl (lv_at hl 3 rfl) ?_
  refine r_ige (tgt := 34) hx hb d_O_set_17 (by decide) (by omega) (by omega) (fun z1 => ?_) (fun z1 => ?_)
  · have e9 := stK_e (st := st) (a := a) (e := a + z) (k := k) (by omega) hk2
    rw [e9] at hP hD
    exact e_v (w := fun _ : Unit => wO h1 h2 c1 (stS st a (a + z))) (tu := fun _ => tO c1) cx hr hlocks () trivial hK hP hD hS d_O_set_34
  · refine lv_aload_n hx hb d_O_set_20 rfl (lv_at hl 0 rfl) ?_
    refine g_O0 cx hK hP 0 rfl d_O_set_21 ?_
    refine lv_iload hx hb d_O_set_24 (lv_at hl 4 rfl) ?_
    refine lv_iload_n hx hb d_O_set_26 rfl (lv_at hl 1 rfl) ?_
    refine r_iast hx hb hK hP hD hS 1 0 rfl rfl (show k < 512 by omega) (by omega) d_O_set_27 (fun H locs hP hD hS => ?_)
    have hP : va_P D classes (wO h1 h2 c1 (upd (stK st a k) k (nI a))) H := hP
    have hD : va_D A (wO h1 h2 c1 (upd (stK st a k) k (nI a))) := hD
    rw [stK_s (by omega)] at hP hD
    refine lv_iinc (v := nI (k + 1)) (lv' := [(4, .int (nI (k + 1))), (0, .ref h1), (1, .int (nI a)), (2, .int (nI z)), (3, .int (nI (a + z)))]) hx hb d_O_set_28 hl (k := 4) rfl (inc1 _) (by decide) rfl (fun ls hl => ?_)
    refine lv_goto (tgt := 12) hx hb d_O_set_31 (by decide) ?_
    exact ih (k + 1) H locs ls (by omega) ⟨⟨by omega, by omega⟩, hP, hD, hS, lv_sub hl [1, 2, 3, 4, 0] rfl⟩
set_option maxHeartbeats 4000000 in
set_option maxRecDepth 100000 in
theorem ct_T_in (l : Launch) (D : va_G)  : CpV l y_T_in c_T_in (rmL 0) D [] [] [.int (nI 1)] := by
  refine r_pureV (by decide) (Nat.le_of_ble_eq_true rfl) ?_
  intro p e s m below meth c ls cx hr hlocks hK hP hl
  have hx := cx.1
  have hb := cx.2.1
  have hl : lv_has ls 1 [(0, .int (nI 1))] := hl
  refine lv_iload_n hx hb d_T_in_0 rfl (lv_at hl 0 rfl) ?_
  refine r_ifne (tgt := 12) hx hb d_T_in_1 (by decide) (by omega) (fun z => ?_) (fun z => by omega)
  exact e_pv cx hr hlocks d_T_in_12
set_option maxHeartbeats 4000000 in
set_option maxRecDepth 100000 in
theorem ct_T_cell (l : Launch) (D : va_G) {h0 h1 h3 N : Nat} {P : Int32} {a : Nat} (hN : N ≤ 16384) (ha : a < N) : CpV l y_T_cell c_T_cell (rmL 1) D (wH h0 h1 h3 (nI N) P) [] [.ref h0, .int (nI a)] := by
  refine r_pureV (by decide) (Nat.le_of_ble_eq_true rfl) ?_
  intro p e s m below meth c ls cx hr hlocks hK hP hl
  have hx := cx.1
  have hb := cx.2.1
  have hl : lv_has ls 2 [(0, .ref h0), (1, .int (nI a))] := hl
  refine lv_iload_n hx hb d_T_cell_0 rfl (lv_at hl 1 rfl) ?_
  refine r_iflt (tgt := 16) hx hb d_T_cell_1 (by decide) (by omega) ?_
  refine lv_iload_n hx hb d_T_cell_4 rfl (lv_at hl 1 rfl) ?_
  refine lv_aload_n hx hb d_T_cell_5 rfl (lv_at hl 0 rfl) ?_
  refine g_T2 cx hK hP 0 rfl d_T_cell_6 ?_
  refine r_ige (tgt := 16) hx hb d_T_cell_9 (by decide) (by omega) (by omega) (fun z => by omega) (fun z => ?_)
  refine lv_iconst (v := nI 1) hx hb d_T_cell_12 (by decide +kernel) ?_
  refine lv_goto (tgt := 17) hx hb d_T_cell_13 (by decide) ?_
  refine r_callSv (nA := 1) (rest := []) (ct_T_in l D) cx (gd_callS mc_T_in ml_T_42 ms_T_in mi_T) rfl (by decide +kernel) rfl ⟨rfl, rfl⟩ ⟨Nat.le_of_ble_eq_true rfl, Nat.le_of_ble_eq_true rfl⟩ ⟨Nat.le_of_ble_eq_true rfl, Nat.le_of_ble_eq_true rfl⟩ hK hl.1 rfl (Nat.le_of_ble_eq_true rfl) d_T_cell_17 ?_
  exact e_pv cx hr hlocks d_T_cell_20
set_option maxHeartbeats 4000000 in
set_option maxRecDepth 100000 in
theorem ct_T_card (l : Launch) (D : va_G) {h0 h1 h3 N : Nat} {P : Int32} {k : Nat} (hN : N ≤ 16384) (ha : k < (N + 31) / 32) : CpV l y_T_card c_T_card (rmL 1) D (wH h0 h1 h3 (nI N) P) [] [.ref h0, .int (nI k)] := by
  refine r_pureV (by decide) (Nat.le_of_ble_eq_true rfl) ?_
  intro p e s m below meth c ls cx hr hlocks hK hP hl
  have hx := cx.1
  have hb := cx.2.1
  have hl : lv_has ls 2 [(0, .ref h0), (1, .int (nI k))] := hl
  refine lv_iload_n hx hb d_T_card_0 rfl (lv_at hl 1 rfl) ?_
  refine r_iflt (tgt := 21) hx hb d_T_card_1 (by decide) (by omega) ?_
  refine lv_iload_n hx hb d_T_card_4 rfl (lv_at hl 1 rfl) ?_
  refine lv_aload_n hx hb d_T_card_5 rfl (lv_at hl 0 rfl) ?_
  refine g_T2 cx hK hP 0 rfl d_T_card_6 ?_
  refine lv_bipush (v := nI 31) hx hb d_T_card_9 (by decide +kernel) ?_
  refine r_add hx hb d_T_card_11 ?_
  refine lv_iconst (v := nI 5) hx hb d_T_card_12 (by decide +kernel) ?_
  refine r_shr5 hx hb d_T_card_13 (by omega) ?_
  refine r_ige (tgt := 21) hx hb d_T_card_14 (by decide) (by omega) (by omega) (fun z => by omega) (fun z => ?_)
  refine lv_iconst (v := nI 1) hx hb d_T_card_17 (by decide +kernel) ?_
  refine lv_goto (tgt := 22) hx hb d_T_card_18 (by decide) ?_
  refine r_callSv (nA := 1) (rest := []) (ct_T_in l D) cx (gd_callS mc_T_in ml_T_42 ms_T_in mi_T) rfl (by decide +kernel) rfl ⟨rfl, rfl⟩ ⟨Nat.le_of_ble_eq_true rfl, Nat.le_of_ble_eq_true rfl⟩ ⟨Nat.le_of_ble_eq_true rfl, Nat.le_of_ble_eq_true rfl⟩ hK hl.1 rfl (Nat.le_of_ble_eq_true rfl) d_T_card_22 ?_
  exact e_pv cx hr hlocks d_T_card_25
set_option maxHeartbeats 4000000 in
set_option maxRecDepth 100000 in
theorem ct_T_over (l : Launch) (D : va_G) {h0 h1 h2 h3 : Nat} {c1 c2 : ClassId} {N : Nat} {B : Nat → Bool} {P : Int32} {st sz : Nat → Int32} (hR : Rep N B P st sz) {a : Nat} (ha : a < N) : CpI l y_T_over c_T_over (rmL 1) D (wT h0 h1 h2 h3 c1 c2 (nI N) P st sz) (tT c1 c2) [.ref h0, .int (nI a)] (fun r => r = nI (pv B a)) := by
  refine r_pureI (by decide) (Nat.le_of_ble_eq_true rfl) ?_
  intro p e s m below meth c ls cx hr hlocks hK hP hl
  have hx := cx.1
  have hb := cx.2.1
  have hl : lv_has ls 3 [(0, .ref h0), (1, .int (nI a))] := hl
  obtain ⟨r1, r2, r0, rN, rP, rz, rs⟩ := id hR
  refine lv_aload_n hx hb d_T_over_0 rfl (lv_at hl 0 rfl) ?_
  refine g_T0 cx hK hP 0 rfl d_T_over_1 ?_
  refine lv_iload_n hx hb d_T_over_4 rfl (lv_at hl 1 rfl) ?_
  refine lv_iconst (v := nI 5) hx hb d_T_over_5 (by decide +kernel) ?_
  refine r_shr5 hx hb d_T_over_6 (by omega) ?_
  refine r_callPi (nA := 1) (rest := []) (ct_O_start l D (show a / 32 < 512 by omega)) cx (gd_callV mc_O_start ml_T_46 ms_O_start mv_O_start mi_O) (by decide +kernel) rfl ⟨rfl, rfl⟩ ⟨Nat.le_of_ble_eq_true rfl, Nat.le_of_ble_eq_true rfl⟩ ⟨Nat.le_of_ble_eq_true rfl, Nat.le_of_ble_eq_true rfl⟩ hK hP [1, 2] [0] rfl rfl (ci := 1) rfl rfl rfl hl.1 rfl (Nat.le_of_ble_eq_true rfl) d_T_over_7 (fun r9 h9 => ?_)
  obtain rfl := h9
  rw [rs (a / 32) (by omega)]
  refine lv_istore_n (lv' := [(2, .int (nI (pv B (32 * (a / 32))))), (0, .ref h0), (1, .int (nI a))]) hx hb d_T_over_10 rfl hl (by decide) rfl (fun ls hl => ?_)
  refine r_loopP (I := fun (q : Nat) ls => (q ≤ a ∧ B q = true) ∧ lv_has ls 3 [(0, .ref h0), (1, .int (nI a)), (2, .int (nI q))]) (μ := fun q => a - q) ?_ (pv B (32 * (a / 32))) ⟨⟨by have := pv_le r0 (32 * (a / 32)); omega, pv_b r0 _⟩, lv_sub hl [1, 2, 0] rfl⟩
  intro q ls ⟨⟨hq1, hq2⟩, hl⟩ ih
  have hg := nx_gt rN (show q < N by omega)
  have hle := nx_le rN (show q < N by omega)
  have hsz := rz q (by omega) hq2
  refine lv_iload_n hx hb d_T_over_11 rfl (lv_at hl 2 rfl) ?_
  refine lv_aload_n hx hb d_T_over_12 rfl (lv_at hl 0 rfl) ?_
  refine g_T1 cx hK hP 0 rfl d_T_over_13 ?_
  refine lv_iload_n hx hb d_T_over_16 rfl (lv_at hl 2 rfl) ?_
  refine r_iald hx hb hK hP 3 1 rfl rfl (show q < 16384 by omega) (by omega) (hsz) d_T_over_17 ?_
  refine r_add hx hb d_T_over_18 ?_
  refine lv_iload_n hx hb d_T_over_19 rfl (lv_at hl 1 rfl) ?_
  refine r_igt (tgt := 35) hx hb d_T_over_20 (by decide) (by omega) (by omega) (fun z1 => ?_) (fun z1 => ?_)
  · refine lv_iload_n hx hb d_T_over_35 rfl (lv_at hl 2 rfl) ?_
    exact e_pi cx hr hlocks (by rw [pv_of_nx r0 rN (show q < N by omega) hq2 hq1 (by omega)]) d_T_over_36
  · refine lv_iload_n hx hb d_T_over_23 rfl (lv_at hl 2 rfl) ?_
    refine lv_aload_n hx hb d_T_over_24 rfl (lv_at hl 0 rfl) ?_
    refine g_T1 cx hK hP 0 rfl d_T_over_25 ?_
    refine lv_iload_n hx hb d_T_over_28 rfl (lv_at hl 2 rfl) ?_
    refine r_iald hx hb hK hP 3 1 rfl rfl (show q < 16384 by omega) (by omega) (hsz) d_T_over_29 ?_
    refine r_add hx hb d_T_over_30 ?_
    rw [show q + (nx B N q - q) = nx B N q by omega]
    refine lv_istore_n (lv' := [(2, .int (nI (nx B N q))), (0, .ref h0), (1, .int (nI a))]) hx hb d_T_over_31 rfl hl (by decide) rfl (fun ls hl => ?_)
    refine lv_goto (tgt := 11) hx hb d_T_over_32 (by decide) ?_
    exact ih (nx B N q) ls (by omega) ⟨⟨by omega, nx_b rN (by omega)⟩, lv_sub hl [1, 2, 0] rfl⟩
set_option maxHeartbeats 4000000 in
set_option maxRecDepth 100000 in
theorem ct_T_piece (l : Launch) (D : va_G) {h0 h1 h2 h3 : Nat} {c1 c2 : ClassId} {M P : Int32} {st sz : Nat → Int32} {a z : Nat} (ha : a < 16384) (hz : a + z ≤ 16384) : CtV l y_T_piece c_T_piece (rmL 1) D (wT h0 h1 h2 h3 c1 c2 M P st sz) (tT c1 c2) [.ref h0, .int (nI a), .int (nI z)] (fun _ : Unit => True) (fun _ => tT c1 c2) (fun _ => wT h0 h1 h2 h3 c1 c2 M P (stS st a (a + z)) (upd sz a (nI z))) := by
  refine r_metV (by decide) (Nat.le_of_ble_eq_true rfl) ?_
  intro p e s m below meth c ls A cx hr hlocks hin hK hP hD hA hl
  have hx := cx.1
  have hb := cx.2.1
  have hS : va_S A s.heap s.heap [] := va_S.rf
  have hl : lv_has ls 3 [(0, .ref h0), (1, .int (nI a)), (2, .int (nI z))] := hl
  refine lv_aload_n hx hb d_T_piece_0 rfl (lv_at hl 0 rfl) ?_
  refine g_T1 cx hK hP 0 rfl d_T_piece_1 ?_
  refine lv_iload_n hx hb d_T_piece_4 rfl (lv_at hl 1 rfl) ?_
  refine lv_iload_n hx hb d_T_piece_5 rfl (lv_at hl 2 rfl) ?_
  refine r_iast hx hb hK hP hD hS 3 1 rfl rfl (show a < 16384 by omega) (by omega) d_T_piece_6 (fun H locs hP hD hS => ?_)
  have hP : va_P D classes (wT h0 h1 h2 h3 c1 c2 M P st (upd sz a (nI z))) H := hP
  have hD : va_D A (wT h0 h1 h2 h3 c1 c2 M P st (upd sz a (nI z))) := hD
  refine lv_aload_n hx hb d_T_piece_7 rfl (lv_at hl 0 rfl) ?_
  refine g_T0 cx hK hP 0 rfl d_T_piece_8 ?_
  refine lv_iload_n hx hb d_T_piece_11 rfl (lv_at hl 1 rfl) ?_
  refine lv_iload_n hx hb d_T_piece_12 rfl (lv_at hl 2 rfl) ?_
  refine r_callVv (wr := List.filterMap (fun i : Nat => (wT h0 h1 h2 h3 c1 c2 M P st (upd sz a (nI z)) : va_W)[i]?) [0, 3]) (nA := 2) (rest := []) (ct_O_set l D hz) cx (gd_callV mc_O_set ml_T_33 ms_O_set mv_O_set mi_O) (by decide +kernel) rfl ⟨Nat.le_of_ble_eq_true rfl, Nat.le_of_ble_eq_true rfl⟩ ⟨Nat.le_of_ble_eq_true rfl, Nat.le_of_ble_eq_true rfl⟩ hK hP hD hS hA [1, 2] [0, 3] [0] rfl rfl rfl (by decide) (by decide) (by decide) (ci := 1) rfl rfl rfl hl.1 rfl (Nat.le_of_ble_eq_true rfl) d_T_piece_13 (fun u9 H locs hw9 hK9 hP hD hS => ?_)
  have hP : va_P D classes (wT h0 h1 h2 h3 c1 c2 M P (stS st a (a + z)) (upd sz a (nI z))) H := hP.sub [0, 2, 3, 1] rfl
  have hD : va_D A (wT h0 h1 h2 h3 c1 c2 M P (stS st a (a + z)) (upd sz a (nI z))) := hD.sub [0, 2, 3, 1] (by decide) rfl
  exact e_v (w := fun _ : Unit => wT h0 h1 h2 h3 c1 c2 M P (stS st a (a + z)) (upd sz a (nI z))) (tu := fun _ => tT c1 c2) cx hr hlocks () trivial hK hP hD hS d_T_piece_16
end
section
section Via
variable {p : Program} {l : Launch} {e : Env} {R : Room} {s : State} {m : MethodId} {args : Array Value} {below : List Frame} {meth : Method} {c : Code} {H : Heap} {locs : List Loc} {cells slots : Nat} {Q : State → Prop} {pc : Nat} {ls : Array Slot} {st0 : List Value}
theorem r_viaP (I : Array Slot → Prop) (pc2 : Nat) (tail : ∀ ls : Array Slot, I ls → W p l e R s m args below meth c H locs cells slots Q (F0 m pc2 ls [])) (front : (∀ ls : Array Slot, I ls → W p l e R s m args below meth c H locs cells slots Q (F0 m pc2 ls [])) → W p l e R s m args below meth c H locs cells slots Q (F0 m pc ls st0)) : W p l e R s m args below meth c H locs cells slots Q (F0 m pc ls st0) := front tail
theorem r_viaW (I : Heap → List Loc → Array Slot → Prop) (pc2 : Nat) (tail : ∀ (H : Heap) (locs : List Loc) (ls : Array Slot), I H locs ls → W p l e R s m args below meth c H locs cells slots Q (F0 m pc2 ls [])) (front : (∀ (H : Heap) (locs : List Loc) (ls : Array Slot), I H locs ls → W p l e R s m args below meth c H locs cells slots Q (F0 m pc2 ls [])) → W p l e R s m args below meth c H locs cells slots Q (F0 m pc ls st0)) : W p l e R s m args below meth c H locs cells slots Q (F0 m pc ls st0) := front tail
end Via
theorem nx_to {B : Nat → Bool} {N a b : Nat} (hN : B N = true) (h : a < N) (hab : a < b) (hb : B b = true) : nx B N a ≤ b := by
  have ix := nx_is hN h
  rcases Nat.lt_or_ge b (nx B N a) with z | z
  · exact (bt_ne hb (ix.2.2 b hab z)).elim
  · exact z
theorem jn_val {N : Nat} {B : Nat → Bool} {a p q r : Nat} (h0 : B 0 = true) (hN : B N = true) (ha : a < N) (hp : pv B a = p) (hq : nx B N p = q) (hqN : q < N) (hr : nx B N q = r) : jn_ans N B a = nI (r - p) ∧ jn_B N B a = sB B q false := by
  have ea : nx B N a = q := by rw [← hq, ← hp]; exact (nx_pv h0 hN ha).symm
  have ip : isPv B a p := hp ▸ pv_is h0 a
  have iq : isNx B a q := ea ▸ nx_is hN ha
  have ir : isNx B q r := hr ▸ nx_is hN hqN
  have hne : ¬ nx B N a = N := by omega
  simp only [jn_ans, jn_B]
  rw [if_neg hne, if_neg hne, ea]
  have hN2 : sB B q false N = true := by rw [sB_ne (by omega)]; exact hN
  have h02 : sB B q false 0 = true := by rw [sB_ne (by have := iq.1; omega)]; exact h0
  have e1 : nx (sB B q false) N a = r := nx_eq hN2 ha ⟨Nat.lt_trans iq.1 ir.1, by rw [sB_ne (by have := ir.1; omega)]; exact ir.2.1, fun j z1 z2 => by
    by_cases hj : j = q
    · subst hj; exact sB_self _ _ _
    · rw [sB_ne hj]
      rcases Nat.lt_or_ge j q with z | z
      · exact iq.2.2 j z1 z
      · exact ir.2.2 j (by omega) z2⟩
  have e2 : pv (sB B q false) a = p := pv_eq h02 ⟨ip.1, by rw [sB_ne (by have := ip.1; have := iq.1; omega)]; exact ip.2.1, fun j z1 z2 => by rw [sB_ne (by have := iq.1; omega)]; exact ip.2.2 j z1 z2⟩
  rw [e1, e2]
  exact ⟨rfl, rfl⟩
theorem jn_none {N : Nat} {B : Nat → Bool} {a : Nat} (h : nx B N a = N) : jn_ans N B a = nI 0 ∧ jn_B N B a = B := by
  simp only [jn_ans, jn_B]
  rw [if_pos h, if_pos h]
  exact ⟨rfl, rfl⟩
theorem wk_stop {f : Nat → Nat → Nat} {B : Nat → Bool} {N n p acc v : Nat} (h : N ≤ p) (e : wk f B N n p acc = v) : acc = v := by rw [wk_out h] at e; exact e
set_option maxHeartbeats 4000000 in
set_option maxRecDepth 100000 in
theorem ct_T_extreme1 (l : Launch) (D : va_G) {h0 h1 h2 h3 : Nat} {c1 c2 : ClassId} {N : Nat} {B : Nat → Bool} {P : Int32} {st sz : Nat → Int32} (hR : Rep N B P st sz) : CpI l y_T_extreme c_T_extreme (rmL 0) D (wT h0 h1 h2 h3 c1 c2 (nI N) P st sz) (tT c1 c2) [.ref h0, .int (nI 1)] (fun r => r = nI (wk fmx B N N 0 (nx B N 0))) := by
  refine r_pureI (by decide) (Nat.le_of_ble_eq_true rfl) ?_
  intro p e s m below meth c ls cx hr hlocks hK hP hl
  have hx := cx.1
  have hb := cx.2.1
  have hl : lv_has ls 4 [(0, .ref h0), (1, .int (nI 1))] := hl
  obtain ⟨r1, r2, r0, rN, rP, rz, rs⟩ := id hR
  have hs0 : sz 0 = nI (nx B N 0) := by rw [rz 0 (by omega) r0]; rfl
  have hq0 := nx_le rN (show 0 < N by omega)
  refine lv_aload_n hx hb d_T_extreme_0 rfl (lv_at hl 0 rfl) ?_
  refine g_T1 cx hK hP 0 rfl d_T_extreme_1 ?_
  refine lv_iconst (v := nI 0) hx hb d_T_extreme_4 (by decide +kernel) ?_
  refine r_iald hx hb hK hP 3 1 rfl rfl (show 0 < 16384 by omega) (by omega) (hs0) d_T_extreme_5 ?_
  refine lv_istore_n (lv' := [(2, .int (nI (nx B N 0))), (0, .ref h0), (1, .int (nI 1))]) hx hb d_T_extreme_6 rfl hl (by decide) rfl (fun ls hl => ?_)
  refine lv_iconst (v := nI 0) hx hb d_T_extreme_7 (by decide +kernel) ?_
  refine lv_istore_n (lv' := [(3, .int (nI 0)), (2, .int (nI (nx B N 0))), (0, .ref h0), (1, .int (nI 1))]) hx hb d_T_extreme_8 rfl hl (by decide) rfl (fun ls hl => ?_)
  refine r_loopP (I := fun (x : Nat × Nat × Nat) ls => (x.2.1 ≤ N ∧ (x.2.1 < N → B x.2.1 = true) ∧ N ≤ x.2.1 + x.1 ∧ x.2.2 ≤ 16384 ∧ wk fmx B N x.1 x.2.1 x.2.2 = wk fmx B N N 0 (nx B N 0)) ∧ lv_has ls 4 [(0, .ref h0), (1, .int (nI 1)), (2, .int (nI x.2.2)), (3, .int (nI x.2.1))]) (μ := fun x => x.1) ?_ (N, 0, nx B N 0) ⟨⟨Nat.zero_le N, fun _ => r0, by show N ≤ 0 + N; omega, by show nx B N 0 ≤ 16384; omega, rfl⟩, lv_sub hl [2, 3, 1, 0] rfl⟩
  intro ⟨n, q, bst⟩ ls ⟨⟨hq1, hq2, hq3, hq4, hq5⟩, hl⟩ ih
  dsimp only at hq1 hq2 hq3 hq4 hq5 hl
  refine lv_iload_n hx hb d_T_extreme_9 rfl (lv_at hl 3 rfl) ?_
  refine lv_aload_n hx hb d_T_extreme_10 rfl (lv_at hl 0 rfl) ?_
  refine g_T2 cx hK hP 0 rfl d_T_extreme_11 ?_
  refine r_ige (tgt := 63) hx hb d_T_extreme_14 (by decide) (by omega) (by omega) (fun z1 => ?_) (fun z1 => ?_)
  · refine lv_iload_n hx hb d_T_extreme_63 rfl (lv_at hl 2 rfl) ?_
    exact e_pi cx hr hlocks (by rw [wk_stop (by omega) hq5]) d_T_extreme_64
  · have hg := nx_gt rN (show q < N by omega)
    have hle := nx_le rN (show q < N by omega)
    have hsz := rz q (by omega) (hq2 (by omega))
    obtain ⟨n, rfl⟩ : ∃ k, n = k + 1 := ⟨n - 1, by omega⟩
    rw [wk_in (show q < N by omega)] at hq5
    refine lv_iload_n hx hb d_T_extreme_17 rfl (lv_at hl 1 rfl) ?_
    refine r_ifeq (tgt := 34) hx hb d_T_extreme_18 (by decide) (by omega) (fun z => by omega) (fun z => ?_)
    refine lv_aload_n hx hb d_T_extreme_21 rfl (lv_at hl 0 rfl) ?_
    refine g_T1 cx hK hP 0 rfl d_T_extreme_22 ?_
    refine lv_iload_n hx hb d_T_extreme_25 rfl (lv_at hl 3 rfl) ?_
    refine r_iald hx hb hK hP 3 1 rfl rfl (show q < 16384 by omega) (by omega) (hsz) d_T_extreme_26 ?_
    refine lv_iload_n hx hb d_T_extreme_27 rfl (lv_at hl 2 rfl) ?_
    refine r_ile (tgt := 51) hx hb d_T_extreme_28 (by decide) (by omega) (by omega) (fun z2 => ?_) (fun z2 => ?_)
    · refine lv_iload_n hx hb d_T_extreme_51 rfl (lv_at hl 3 rfl) ?_
      refine lv_aload_n hx hb d_T_extreme_52 rfl (lv_at hl 0 rfl) ?_
      refine g_T1 cx hK hP 0 rfl d_T_extreme_53 ?_
      refine lv_iload_n hx hb d_T_extreme_56 rfl (lv_at hl 3 rfl) ?_
      refine r_iald hx hb hK hP 3 1 rfl rfl (show q < 16384 by omega) (by omega) (hsz) d_T_extreme_57 ?_
      refine r_add hx hb d_T_extreme_58 ?_
      rw [show q + (nx B N q - q) = nx B N q by omega]
      refine lv_istore_n (lv' := [(3, .int (nI (nx B N q))), (0, .ref h0), (1, .int (nI 1)), (2, .int (nI bst))]) hx hb d_T_extreme_59 rfl hl (by decide) rfl (fun ls hl => ?_)
      refine lv_goto (tgt := 9) hx hb d_T_extreme_60 (by decide) ?_
      exact ih (n, nx B N q, bst) ls (Nat.lt_succ_self n) ⟨⟨by show nx B N q ≤ N; omega, fun _ => nx_b rN (by omega), by show N ≤ nx B N q + n; omega, by show bst ≤ 16384; omega, by rw [← hq5]; show _ = wk fmx B N n (nx B N q) (fmx bst (nx B N q - q)); rw [fmx, if_neg (by omega)]⟩, lv_sub hl [1, 2, 3, 0] rfl⟩
    · refine lv_goto (tgt := 44) hx hb d_T_extreme_31 (by decide) ?_
      refine lv_aload_n hx hb d_T_extreme_44 rfl (lv_at hl 0 rfl) ?_
      refine g_T1 cx hK hP 0 rfl d_T_extreme_45 ?_
      refine lv_iload_n hx hb d_T_extreme_48 rfl (lv_at hl 3 rfl) ?_
      refine r_iald hx hb hK hP 3 1 rfl rfl (show q < 16384 by omega) (by omega) (hsz) d_T_extreme_49 ?_
      refine lv_istore_n (lv' := [(2, .int (nI (nx B N q - q))), (0, .ref h0), (1, .int (nI 1)), (3, .int (nI q))]) hx hb d_T_extreme_50 rfl hl (by decide) rfl (fun ls hl => ?_)
      refine lv_iload_n hx hb d_T_extreme_51 rfl (lv_at hl 3 rfl) ?_
      refine lv_aload_n hx hb d_T_extreme_52 rfl (lv_at hl 1 rfl) ?_
      refine g_T1 cx hK hP 0 rfl d_T_extreme_53 ?_
      refine lv_iload_n hx hb d_T_extreme_56 rfl (lv_at hl 3 rfl) ?_
      refine r_iald hx hb hK hP 3 1 rfl rfl (show q < 16384 by omega) (by omega) (hsz) d_T_extreme_57 ?_
      refine r_add hx hb d_T_extreme_58 ?_
      rw [show q + (nx B N q - q) = nx B N q by omega]
      refine lv_istore_n (lv' := [(3, .int (nI (nx B N q))), (2, .int (nI (nx B N q - q))), (0, .ref h0), (1, .int (nI 1))]) hx hb d_T_extreme_59 rfl hl (by decide) rfl (fun ls hl => ?_)
      refine lv_goto (tgt := 9) hx hb d_T_extreme_60 (by decide) ?_
      exact ih (n, nx B N q, (nx B N q - q)) ls (Nat.lt_succ_self n) ⟨⟨by show nx B N q ≤ N; omega, fun _ => nx_b rN (by omega), by show N ≤ nx B N q + n; omega, by show (nx B N q - q) ≤ 16384; omega, by rw [← hq5]; show _ = wk fmx B N n (nx B N q) (fmx bst (nx B N q - q)); rw [fmx, if_pos (by omega)]⟩, lv_sub hl [2, 3, 1, 0] rfl⟩
set_option maxHeartbeats 4000000 in
set_option maxRecDepth 100000 in
theorem ct_T_extreme0 (l : Launch) (D : va_G) {h0 h1 h2 h3 : Nat} {c1 c2 : ClassId} {N : Nat} {B : Nat → Bool} {P : Int32} {st sz : Nat → Int32} (hR : Rep N B P st sz) : CpI l y_T_extreme c_T_extreme (rmL 0) D (wT h0 h1 h2 h3 c1 c2 (nI N) P st sz) (tT c1 c2) [.ref h0, .int (nI 0)] (fun r => r = nI (wk fmn B N N 0 (nx B N 0))) := by
  refine r_pureI (by decide) (Nat.le_of_ble_eq_true rfl) ?_
  intro p e s m below meth c ls cx hr hlocks hK hP hl
  have hx := cx.1
  have hb := cx.2.1
  have hl : lv_has ls 4 [(0, .ref h0), (1, .int (nI 0))] := hl
  obtain ⟨r1, r2, r0, rN, rP, rz, rs⟩ := id hR
  have hs0 : sz 0 = nI (nx B N 0) := by rw [rz 0 (by omega) r0]; rfl
  have hq0 := nx_le rN (show 0 < N by omega)
  refine lv_aload_n hx hb d_T_extreme_0 rfl (lv_at hl 0 rfl) ?_
  refine g_T1 cx hK hP 0 rfl d_T_extreme_1 ?_
  refine lv_iconst (v := nI 0) hx hb d_T_extreme_4 (by decide +kernel) ?_
  refine r_iald hx hb hK hP 3 1 rfl rfl (show 0 < 16384 by omega) (by omega) (hs0) d_T_extreme_5 ?_
  refine lv_istore_n (lv' := [(2, .int (nI (nx B N 0))), (0, .ref h0), (1, .int (nI 0))]) hx hb d_T_extreme_6 rfl hl (by decide) rfl (fun ls hl => ?_)
  refine lv_iconst (v := nI 0) hx hb d_T_extreme_7 (by decide +kernel) ?_
  refine lv_istore_n (lv' := [(3, .int (nI 0)), (2, .int (nI (nx B N 0))), (0, .ref h0), (1, .int (nI 0))]) hx hb d_T_extreme_8 rfl hl (by decide) rfl (fun ls hl => ?_)
  refine r_loopP (I := fun (x : Nat × Nat × Nat) ls => (x.2.1 ≤ N ∧ (x.2.1 < N → B x.2.1 = true) ∧ N ≤ x.2.1 + x.1 ∧ x.2.2 ≤ 16384 ∧ wk fmn B N x.1 x.2.1 x.2.2 = wk fmn B N N 0 (nx B N 0)) ∧ lv_has ls 4 [(0, .ref h0), (1, .int (nI 0)), (2, .int (nI x.2.2)), (3, .int (nI x.2.1))]) (μ := fun x => x.1) ?_ (N, 0, nx B N 0) ⟨⟨Nat.zero_le N, fun _ => r0, by show N ≤ 0 + N; omega, by show nx B N 0 ≤ 16384; omega, rfl⟩, lv_sub hl [2, 3, 1, 0] rfl⟩
  intro ⟨n, q, bst⟩ ls ⟨⟨hq1, hq2, hq3, hq4, hq5⟩, hl⟩ ih
  dsimp only at hq1 hq2 hq3 hq4 hq5 hl
  refine lv_iload_n hx hb d_T_extreme_9 rfl (lv_at hl 3 rfl) ?_
  refine lv_aload_n hx hb d_T_extreme_10 rfl (lv_at hl 0 rfl) ?_
  refine g_T2 cx hK hP 0 rfl d_T_extreme_11 ?_
  refine r_ige (tgt := 63) hx hb d_T_extreme_14 (by decide) (by omega) (by omega) (fun z1 => ?_) (fun z1 => ?_)
  · refine lv_iload_n hx hb d_T_extreme_63 rfl (lv_at hl 2 rfl) ?_
    exact e_pi cx hr hlocks (by rw [wk_stop (by omega) hq5]) d_T_extreme_64
  · have hg := nx_gt rN (show q < N by omega)
    have hle := nx_le rN (show q < N by omega)
    have hsz := rz q (by omega) (hq2 (by omega))
    obtain ⟨n, rfl⟩ : ∃ k, n = k + 1 := ⟨n - 1, by omega⟩
    rw [wk_in (show q < N by omega)] at hq5
    refine lv_iload_n hx hb d_T_extreme_17 rfl (lv_at hl 1 rfl) ?_
    refine r_ifeq (tgt := 34) hx hb d_T_extreme_18 (by decide) (by omega) (fun z => ?_) (fun z => by omega)
    refine lv_aload_n hx hb d_T_extreme_34 rfl (lv_at hl 0 rfl) ?_
    refine g_T1 cx hK hP 0 rfl d_T_extreme_35 ?_
    refine lv_iload_n hx hb d_T_extreme_38 rfl (lv_at hl 3 rfl) ?_
    refine r_iald hx hb hK hP 3 1 rfl rfl (show q < 16384 by omega) (by omega) (hsz) d_T_extreme_39 ?_
    refine lv_iload_n hx hb d_T_extreme_40 rfl (lv_at hl 2 rfl) ?_
    refine r_ige (tgt := 51) hx hb d_T_extreme_41 (by decide) (by omega) (by omega) (fun z2 => ?_) (fun z2 => ?_)
    · refine lv_iload_n hx hb d_T_extreme_51 rfl (lv_at hl 3 rfl) ?_
      refine lv_aload_n hx hb d_T_extreme_52 rfl (lv_at hl 0 rfl) ?_
      refine g_T1 cx hK hP 0 rfl d_T_extreme_53 ?_
      refine lv_iload_n hx hb d_T_extreme_56 rfl (lv_at hl 3 rfl) ?_
      refine r_iald hx hb hK hP 3 1 rfl rfl (show q < 16384 by omega) (by omega) (hsz) d_T_extreme_57 ?_
      refine r_add hx hb d_T_extreme_58 ?_
      rw [show q + (nx B N q - q) = nx B N q by omega]
      refine lv_istore_n (lv' := [(3, .int (nI (nx B N q))), (0, .ref h0), (1, .int (nI 0)), (2, .int (nI bst))]) hx hb d_T_extreme_59 rfl hl (by decide) rfl (fun ls hl => ?_)
      refine lv_goto (tgt := 9) hx hb d_T_extreme_60 (by decide) ?_
      exact ih (n, nx B N q, bst) ls (Nat.lt_succ_self n) ⟨⟨by show nx B N q ≤ N; omega, fun _ => nx_b rN (by omega), by show N ≤ nx B N q + n; omega, by show bst ≤ 16384; omega, by rw [← hq5]; show _ = wk fmn B N n (nx B N q) (fmn bst (nx B N q - q)); rw [fmn, if_neg (by omega)]⟩, lv_sub hl [1, 2, 3, 0] rfl⟩
    · refine lv_aload_n hx hb d_T_extreme_44 rfl (lv_at hl 0 rfl) ?_
      refine g_T1 cx hK hP 0 rfl d_T_extreme_45 ?_
      refine lv_iload_n hx hb d_T_extreme_48 rfl (lv_at hl 3 rfl) ?_
      refine r_iald hx hb hK hP 3 1 rfl rfl (show q < 16384 by omega) (by omega) (hsz) d_T_extreme_49 ?_
      refine lv_istore_n (lv' := [(2, .int (nI (nx B N q - q))), (0, .ref h0), (1, .int (nI 0)), (3, .int (nI q))]) hx hb d_T_extreme_50 rfl hl (by decide) rfl (fun ls hl => ?_)
      refine lv_iload_n hx hb d_T_extreme_51 rfl (lv_at hl 3 rfl) ?_
      refine lv_aload_n hx hb d_T_extreme_52 rfl (lv_at hl 1 rfl) ?_
      refine g_T1 cx hK hP 0 rfl d_T_extreme_53 ?_
      refine lv_iload_n hx hb d_T_extreme_56 rfl (lv_at hl 3 rfl) ?_
      refine r_iald hx hb hK hP 3 1 rfl rfl (show q < 16384 by omega) (by omega) (hsz) d_T_extreme_57 ?_
      refine r_add hx hb d_T_extreme_58 ?_
      rw [show q + (nx B N q - q) = nx B N q by omega]
      refine lv_istore_n (lv' := [(3, .int (nI (nx B N q))), (2, .int (nI (nx B N q - q))), (0, .ref h0), (1, .int (nI 0))]) hx hb d_T_extreme_59 rfl hl (by decide) rfl (fun ls hl => ?_)
      refine lv_goto (tgt := 9) hx hb d_T_extreme_60 (by decide) ?_
      exact ih (n, nx B N q, (nx B N q - q)) ls (Nat.lt_succ_self n) ⟨⟨by show nx B N q ≤ N; omega, fun _ => nx_b rN (by omega), by show N ≤ nx B N q + n; omega, by show (nx B N q - q) ≤ 16384; omega, by rw [← hq5]; show _ = wk fmn B N n (nx B N q) (fmn bst (nx B N q - q)); rw [fmn, if_pos (by omega)]⟩, lv_sub hl [2, 3, 1, 0] rfl⟩
set_option maxHeartbeats 4000000 in
set_option maxRecDepth 100000 in
theorem ct_T_begin (l : Launch) (D : va_G) {h0 h1 h2 h3 : Nat} {c1 c2 : ClassId} {N : Nat} {B : Nat → Bool} {P : Int32} {st sz : Nat → Int32} (hR : Rep N B P st sz) {a : Nat} (ha : a < N) : CpI l y_T_begin c_T_begin (rmL 2) D (wT h0 h1 h2 h3 c1 c2 (nI N) P st sz) (tT c1 c2) [.ref h0, .int (nI a)] (fun r => r = nI (pv B a)) := by
  refine r_pureI (by decide) (Nat.le_of_ble_eq_true rfl) ?_
  intro p e s m below meth c ls cx hr hlocks hK hP hl
  have hx := cx.1
  have hb := cx.2.1
  have hl : lv_has ls 2 [(0, .ref h0), (1, .int (nI a))] := hl
  obtain ⟨r1, r2, r0, rN, rP, rz, rs⟩ := id hR
  refine lv_aload_n hx hb d_T_begin_0 rfl (lv_at hl 0 rfl) ?_
  refine lv_iload_n hx hb d_T_begin_1 rfl (lv_at hl 1 rfl) ?_
  refine r_callPv (nA := 1) (rest := []) (ct_T_cell l D r2 ha) cx (gd_callV mc_T_cell ml_T_50 ms_T_cell mv_T_cell mi_T) (by decide +kernel) rfl ⟨rfl, rfl⟩ ⟨Nat.le_of_ble_eq_true rfl, Nat.le_of_ble_eq_true rfl⟩ ⟨Nat.le_of_ble_eq_true rfl, Nat.le_of_ble_eq_true rfl⟩ hK hP [0] [] rfl rfl (ci := 0) rfl rfl rfl hl.1 rfl (Nat.le_of_ble_eq_true rfl) d_T_begin_2 ?_
  refine lv_aload_n hx hb d_T_begin_5 rfl (lv_at hl 0 rfl) ?_
  refine lv_iload_n hx hb d_T_begin_6 rfl (lv_at hl 1 rfl) ?_
  refine r_callPi (nA := 1) (rest := []) (ct_T_over l D hR ha) cx (gd_callV mc_T_over ml_T_53 ms_T_over mv_T_over mi_T) (by decide +kernel) rfl ⟨rfl, rfl⟩ ⟨Nat.le_of_ble_eq_true rfl, Nat.le_of_ble_eq_true rfl⟩ ⟨Nat.le_of_ble_eq_true rfl, Nat.le_of_ble_eq_true rfl⟩ hK hP [0, 1, 2, 3] [0, 1] rfl rfl (ci := 0) rfl rfl rfl hl.1 rfl (Nat.le_of_ble_eq_true rfl) d_T_begin_7 (fun r9 h9 => ?_)
  obtain rfl := h9
  exact e_pi cx hr hlocks rfl d_T_begin_10
set_option maxHeartbeats 4000000 in
set_option maxRecDepth 100000 in
theorem ct_T_size (l : Launch) (D : va_G) {h0 h1 h2 h3 : Nat} {c1 c2 : ClassId} {N : Nat} {B : Nat → Bool} {P : Int32} {st sz : Nat → Int32} (hR : Rep N B P st sz) {a : Nat} (ha : a < N) : CpI l y_T_size c_T_size (rmL 2) D (wT h0 h1 h2 h3 c1 c2 (nI N) P st sz) (tT c1 c2) [.ref h0, .int (nI a)] (fun r => r = nI (nx B N a - pv B a)) := by
  refine r_pureI (by decide) (Nat.le_of_ble_eq_true rfl) ?_
  intro p e s m below meth c ls cx hr hlocks hK hP hl
  have hx := cx.1
  have hb := cx.2.1
  have hl : lv_has ls 2 [(0, .ref h0), (1, .int (nI a))] := hl
  obtain ⟨r1, r2, r0, rN, rP, rz, rs⟩ := id hR
  refine lv_aload_n hx hb d_T_size_0 rfl (lv_at hl 0 rfl) ?_
  refine lv_iload_n hx hb d_T_size_1 rfl (lv_at hl 1 rfl) ?_
  refine r_callPv (nA := 1) (rest := []) (ct_T_cell l D r2 ha) cx (gd_callV mc_T_cell ml_T_50 ms_T_cell mv_T_cell mi_T) (by decide +kernel) rfl ⟨rfl, rfl⟩ ⟨Nat.le_of_ble_eq_true rfl, Nat.le_of_ble_eq_true rfl⟩ ⟨Nat.le_of_ble_eq_true rfl, Nat.le_of_ble_eq_true rfl⟩ hK hP [0] [] rfl rfl (ci := 0) rfl rfl rfl hl.1 rfl (Nat.le_of_ble_eq_true rfl) d_T_size_2 ?_
  refine lv_aload_n hx hb d_T_size_5 rfl (lv_at hl 0 rfl) ?_
  refine g_T1 cx hK hP 0 rfl d_T_size_6 ?_
  refine lv_aload_n hx hb d_T_size_9 rfl (lv_at hl 0 rfl) ?_
  refine lv_iload_n hx hb d_T_size_10 rfl (lv_at hl 1 rfl) ?_
  refine r_callPi (nA := 1) (rest := [.ref h3]) (ct_T_over l D hR ha) cx (gd_callV mc_T_over ml_T_53 ms_T_over mv_T_over mi_T) (by decide +kernel) rfl ⟨rfl, rfl⟩ ⟨Nat.le_of_ble_eq_true rfl, Nat.le_of_ble_eq_true rfl⟩ ⟨Nat.le_of_ble_eq_true rfl, Nat.le_of_ble_eq_true rfl⟩ hK hP [0, 1, 2, 3] [0, 1] rfl rfl (ci := 0) rfl rfl rfl hl.1 rfl (Nat.le_of_ble_eq_true rfl) d_T_size_11 (fun r9 h9 => ?_)
  obtain rfl := h9
  have hpl := pv_le r0 a
  refine r_iald hx hb hK hP 3 1 rfl rfl (show pv B a < 16384 by omega) (by omega) (rz _ (by omega) (pv_b r0 a)) d_T_size_14 ?_
  exact e_pi cx hr hlocks (by rw [nx_pv r0 rN ha]) d_T_size_15
set_option maxHeartbeats 4000000 in
set_option maxRecDepth 100000 in
theorem ct_T_start (l : Launch) (D : va_G) {h0 h1 h2 h3 : Nat} {c1 c2 : ClassId} {N : Nat} {B : Nat → Bool} {P : Int32} {st sz : Nat → Int32} (hR : Rep N B P st sz) {k : Nat} (ha : k < (N + 31) / 32) : CpI l y_T_start c_T_start (rmL 2) D (wT h0 h1 h2 h3 c1 c2 (nI N) P st sz) (tT c1 c2) [.ref h0, .int (nI k)] (fun r => r = nI (pv B (32 * k))) := by
  refine r_pureI (by decide) (Nat.le_of_ble_eq_true rfl) ?_
  intro p e s m below meth c ls cx hr hlocks hK hP hl
  have hx := cx.1
  have hb := cx.2.1
  have hl : lv_has ls 2 [(0, .ref h0), (1, .int (nI k))] := hl
  obtain ⟨r1, r2, r0, rN, rP, rz, rs⟩ := id hR
  refine lv_aload_n hx hb d_T_start_0 rfl (lv_at hl 0 rfl) ?_
  refine lv_iload_n hx hb d_T_start_1 rfl (lv_at hl 1 rfl) ?_
  refine r_callPv (nA := 1) (rest := []) (ct_T_card l D r2 ha) cx (gd_callV mc_T_card ml_T_59 ms_T_card mv_T_card mi_T) (by decide +kernel) rfl ⟨rfl, rfl⟩ ⟨Nat.le_of_ble_eq_true rfl, Nat.le_of_ble_eq_true rfl⟩ ⟨Nat.le_of_ble_eq_true rfl, Nat.le_of_ble_eq_true rfl⟩ hK hP [0] [] rfl rfl (ci := 0) rfl rfl rfl hl.1 rfl (Nat.le_of_ble_eq_true rfl) d_T_start_2 ?_
  refine lv_aload_n hx hb d_T_start_5 rfl (lv_at hl 0 rfl) ?_
  refine g_T0 cx hK hP 0 rfl d_T_start_6 ?_
  refine lv_iload_n hx hb d_T_start_9 rfl (lv_at hl 1 rfl) ?_
  refine r_callPi (nA := 1) (rest := []) (ct_O_start l D (show k < 512 by omega)) cx (gd_callV mc_O_start ml_T_46 ms_O_start mv_O_start mi_O) (by decide +kernel) rfl ⟨rfl, rfl⟩ ⟨Nat.le_of_ble_eq_true rfl, Nat.le_of_ble_eq_true rfl⟩ ⟨Nat.le_of_ble_eq_true rfl, Nat.le_of_ble_eq_true rfl⟩ hK hP [1, 2] [0] rfl rfl (ci := 1) rfl rfl rfl hl.1 rfl (Nat.le_of_ble_eq_true rfl) d_T_start_10 (fun r9 h9 => ?_)
  obtain rfl := h9
  exact e_pi cx hr hlocks (rs k (by omega)) d_T_start_13
set_option maxHeartbeats 4000000 in
set_option maxRecDepth 100000 in
theorem ct_T_begins (l : Launch) (D : va_G) {h0 h1 h2 h3 : Nat} {c1 c2 : ClassId} {N : Nat} {B : Nat → Bool} {P : Int32} {st sz : Nat → Int32} (hR : Rep N B P st sz) {k : Nat} (ha : k < (N + 31) / 32) : CpI l y_T_begins c_T_begins (rmL 2) D (wT h0 h1 h2 h3 c1 c2 (nI N) P st sz) (tT c1 c2) [.ref h0, .int (nI k)] (fun r => r = nI (cnt B (bg_e N k) - cnt B (32 * k))) := by
  refine r_pureI (by decide) (Nat.le_of_ble_eq_true rfl) ?_
  intro p e s m below meth c ls cx hr hlocks hK hP hl
  have hx := cx.1
  have hb := cx.2.1
  have hl : lv_has ls 6 [(0, .ref h0), (1, .int (nI k))] := hl
  obtain ⟨r1, r2, r0, rN, rP, rz, rs⟩ := id hR
  refine lv_aload_n hx hb d_T_begins_0 rfl (lv_at hl 0 rfl) ?_
  refine lv_iload_n hx hb d_T_begins_1 rfl (lv_at hl 1 rfl) ?_
  refine r_callPv (nA := 1) (rest := []) (ct_T_card l D r2 ha) cx (gd_callV mc_T_card ml_T_59 ms_T_card mv_T_card mi_T) (by decide +kernel) rfl ⟨rfl, rfl⟩ ⟨Nat.le_of_ble_eq_true rfl, Nat.le_of_ble_eq_true rfl⟩ ⟨Nat.le_of_ble_eq_true rfl, Nat.le_of_ble_eq_true rfl⟩ hK hP [0] [] rfl rfl (ci := 0) rfl rfl rfl hl.1 rfl (Nat.le_of_ble_eq_true rfl) d_T_begins_2 ?_
  refine lv_iload_n hx hb d_T_begins_5 rfl (lv_at hl 1 rfl) ?_
  refine lv_iconst (v := nI 5) hx hb d_T_begins_6 (by decide +kernel) ?_
  refine r_shl5 hx hb d_T_begins_7 (by omega) ?_
  rw [show k * 32 = 32 * k by omega]
  have hen : bg_e N k = if 32 * k + 32 < N then 32 * k + 32 else N := rfl
  have hen2 : 32 * k < bg_e N k ∧ bg_e N k ≤ N := by rw [hen]; split <;> omega
  generalize bg_e N k = en at hen hen2 ⊢
  refine lv_istore_n (lv' := [(2, .int (nI (32 * k))), (0, .ref h0), (1, .int (nI k))]) hx hb d_T_begins_8 rfl hl (by decide) rfl (fun ls hl => ?_)
  refine lv_iload_n hx hb d_T_begins_9 rfl (lv_at hl 0 rfl) ?_
  refine lv_bipush (v := nI 32) hx hb d_T_begins_10 (by decide +kernel) ?_
  refine r_add hx hb d_T_begins_12 ?_
  refine lv_aload_n hx hb d_T_begins_13 rfl (lv_at hl 1 rfl) ?_
  refine g_T2 cx hK hP 0 rfl d_T_begins_14 ?_
  refine r_viaP (I := fun ls => lv_has ls 6 [(0, .ref h0), (1, .int (nI k)), (2, .int (nI (32 * k))), (3, .int (nI en)), (4, .int (nI 0)), (5, .int (nI (pv B (32 * k))))]) 45 ?_ (fun tl => ?_)
  · intro ls hl
    have hp0 := pv_le r0 (32 * k)
    have hm0 := cnt_mono (B := B) hp0
    refine r_loopP (I := fun (x : Nat × Nat) ls => (x.1 ≤ N ∧ B x.1 = true ∧ x.2 = cnt B x.1 - cnt B (32 * k) ∧ (en ≤ x.1 → cnt B x.1 = cnt B en)) ∧ lv_has ls 6 [(0, .ref h0), (1, .int (nI k)), (2, .int (nI (32 * k))), (3, .int (nI en)), (4, .int (nI x.2)), (5, .int (nI x.1))]) (μ := fun x => N - x.1) ?_ (pv B (32 * k), 0) ⟨⟨by show pv B (32 * k) ≤ N; omega, pv_b r0 _, by show 0 = cnt B (pv B (32 * k)) - cnt B (32 * k); omega, fun z => absurd z (by show ¬ en ≤ pv B (32 * k); omega)⟩, hl⟩
    intro ⟨q, cn⟩ ls ⟨⟨hq1, hq2, hq3, hq4⟩, hl⟩ ih
    dsimp only at hq1 hq2 hq3 hq4 hl
    have hcl := cnt_le B q
    refine lv_iload hx hb d_T_begins_45 (lv_at hl 5 rfl) ?_
    refine lv_iload_n hx hb d_T_begins_47 rfl (lv_at hl 3 rfl) ?_
    refine r_ige (tgt := 75) hx hb d_T_begins_48 (by decide) (by omega) (by omega) (fun z1 => ?_) (fun z1 => ?_)
    · refine lv_iload hx hb d_T_begins_75 (lv_at hl 4 rfl) ?_
      exact e_pi cx hr hlocks (by rw [hq3, hq4 (by omega)]) d_T_begins_77
    · have hg := nx_gt rN (show q < N by omega)
      have hle := nx_le rN (show q < N by omega)
      have hsz := rz q (by omega) hq2
      have hc1 := cnt_nx rN (show q < N by omega) hq2
      have hc2 := cnt_t hq2
      have hc3 := cnt_mono (B := B) (show q + 1 ≤ en by omega)
      refine lv_iload hx hb d_T_begins_51 (lv_at hl 5 rfl) ?_
      refine lv_iload_n hx hb d_T_begins_53 rfl (lv_at hl 2 rfl) ?_
      refine r_ilt (tgt := 60) hx hb d_T_begins_54 (by decide) (by omega) (by omega) (fun z2 => ?_) (fun z2 => ?_)
      · have hc4 := cnt_mono (B := B) (show q + 1 ≤ 32 * k by omega)
        refine lv_iload hx hb d_T_begins_60 (lv_at hl 5 rfl) ?_
        refine lv_aload_n hx hb d_T_begins_62 rfl (lv_at hl 0 rfl) ?_
        refine g_T1 cx hK hP 0 rfl d_T_begins_63 ?_
        refine lv_iload hx hb d_T_begins_66 (lv_at hl 5 rfl) ?_
        refine r_iald hx hb hK hP 3 1 rfl rfl (show q < 16384 by omega) (by omega) (hsz) d_T_begins_68 ?_
        refine r_add hx hb d_T_begins_69 ?_
        rw [show q + (nx B N q - q) = nx B N q by omega]
        refine lv_istore (lv' := [(5, .int (nI (nx B N q))), (0, .ref h0), (1, .int (nI k)), (2, .int (nI (32 * k))), (3, .int (nI en)), (4, .int (nI cn))]) hx hb d_T_begins_70 hl (by decide) rfl (fun ls hl => ?_)
        refine lv_goto (tgt := 45) hx hb d_T_begins_72 (by decide) ?_
        exact ih (nx B N q, cn) ls (by show N - nx B N q < N - q; omega) ⟨⟨by show nx B N q ≤ N; omega, nx_b rN (by omega), by show cn = cnt B (nx B N q) - cnt B (32 * k); omega, fun z => by show cnt B (nx B N q) = cnt B en; have z : en ≤ nx B N q := z; have := cnt_mono (B := B) z; omega⟩, lv_sub hl [1, 2, 3, 4, 5, 0] rfl⟩
      · have hc4 := cnt_mono (B := B) (show 32 * k ≤ q by omega)
        refine lv_iinc (v := nI (cn + 1)) (lv' := [(4, .int (nI (cn + 1))), (0, .ref h0), (1, .int (nI k)), (2, .int (nI (32 * k))), (3, .int (nI en)), (5, .int (nI q))]) hx hb d_T_begins_57 hl (k := 4) rfl (inc1 _) (by decide) rfl (fun ls hl => ?_)
        refine lv_iload hx hb d_T_begins_60 (lv_at hl 5 rfl) ?_
        refine lv_aload_n hx hb d_T_begins_62 rfl (lv_at hl 1 rfl) ?_
        refine g_T1 cx hK hP 0 rfl d_T_begins_63 ?_
        refine lv_iload hx hb d_T_begins_66 (lv_at hl 5 rfl) ?_
        refine r_iald hx hb hK hP 3 1 rfl rfl (show q < 16384 by omega) (by omega) (hsz) d_T_begins_68 ?_
        refine r_add hx hb d_T_begins_69 ?_
        rw [show q + (nx B N q - q) = nx B N q by omega]
        refine lv_istore (lv' := [(5, .int (nI (nx B N q))), (4, .int (nI (cn + 1))), (0, .ref h0), (1, .int (nI k)), (2, .int (nI (32 * k))), (3, .int (nI en))]) hx hb d_T_begins_70 hl (by decide) rfl (fun ls hl => ?_)
        refine lv_goto (tgt := 45) hx hb d_T_begins_72 (by decide) ?_
        exact ih (nx B N q, (cn + 1)) ls (by show N - nx B N q < N - q; omega) ⟨⟨by show nx B N q ≤ N; omega, nx_b rN (by omega), by show (cn + 1) = cnt B (nx B N q) - cnt B (32 * k); omega, fun z => by show cnt B (nx B N q) = cnt B en; have z : en ≤ nx B N q := z; have := cnt_mono (B := B) z; omega⟩, lv_sub hl [2, 3, 4, 5, 1, 0] rfl⟩
  · refine r_ige (tgt := 27) hx hb d_T_begins_17 (by decide) (by omega) (by omega) (fun z1 => ?_) (fun z1 => ?_)
    · refine lv_aload_n hx hb d_T_begins_27 rfl (lv_at hl 1 rfl) ?_
      refine g_T2 cx hK hP 0 rfl d_T_begins_28 ?_
      rw [show N = en by rw [hen]; split <;> omega]
      refine lv_istore_n (lv' := [(3, .int (nI en)), (2, .int (nI (32 * k))), (0, .ref h0), (1, .int (nI k))]) hx hb d_T_begins_31 rfl hl (by decide) rfl (fun ls hl => ?_)
      refine lv_iconst (v := nI 0) hx hb d_T_begins_32 (by decide +kernel) ?_
      refine lv_istore (lv' := [(4, .int (nI 0)), (3, .int (nI en)), (2, .int (nI (32 * k))), (0, .ref h0), (1, .int (nI k))]) hx hb d_T_begins_33 hl (by decide) rfl (fun ls hl => ?_)
      refine lv_aload_n hx hb d_T_begins_35 rfl (lv_at hl 3 rfl) ?_
      refine g_T0 cx hK hP 0 rfl d_T_begins_36 ?_
      refine lv_iload_n hx hb d_T_begins_39 rfl (lv_at hl 4 rfl) ?_
      refine r_callPi (nA := 1) (rest := []) (ct_O_start l D (show k < 512 by omega)) cx (gd_callV mc_O_start ml_T_46 ms_O_start mv_O_start mi_O) (by decide +kernel) rfl ⟨rfl, rfl⟩ ⟨Nat.le_of_ble_eq_true rfl, Nat.le_of_ble_eq_true rfl⟩ ⟨Nat.le_of_ble_eq_true rfl, Nat.le_of_ble_eq_true rfl⟩ hK hP [1, 2] [0] rfl rfl (ci := 1) rfl rfl rfl hl.1 rfl (Nat.le_of_ble_eq_true rfl) d_T_begins_40 (fun r9 h9 => ?_)
      obtain rfl := h9
      rw [rs k (by omega)]
      refine lv_istore (lv' := [(5, .int (nI (pv B (32 * k)))), (4, .int (nI 0)), (3, .int (nI en)), (2, .int (nI (32 * k))), (0, .ref h0), (1, .int (nI k))]) hx hb d_T_begins_43 hl (by decide) rfl (fun ls hl => ?_)
      exact tl ls (lv_sub hl [4, 5, 3, 2, 1, 0] rfl)
    · refine lv_iload_n hx hb d_T_begins_20 rfl (lv_at hl 0 rfl) ?_
      refine lv_bipush (v := nI 32) hx hb d_T_begins_21 (by decide +kernel) ?_
      refine r_add hx hb d_T_begins_23 ?_
      refine lv_goto (tgt := 31) hx hb d_T_begins_24 (by decide) ?_
      rw [show (32 * k) + 32 = en by rw [hen]; split <;> omega]
      refine lv_istore_n (lv' := [(3, .int (nI en)), (2, .int (nI (32 * k))), (0, .ref h0), (1, .int (nI k))]) hx hb d_T_begins_31 rfl hl (by decide) rfl (fun ls hl => ?_)
      refine lv_iconst (v := nI 0) hx hb d_T_begins_32 (by decide +kernel) ?_
      refine lv_istore (lv' := [(4, .int (nI 0)), (3, .int (nI en)), (2, .int (nI (32 * k))), (0, .ref h0), (1, .int (nI k))]) hx hb d_T_begins_33 hl (by decide) rfl (fun ls hl => ?_)
      refine lv_aload_n hx hb d_T_begins_35 rfl (lv_at hl 3 rfl) ?_
      refine g_T0 cx hK hP 0 rfl d_T_begins_36 ?_
      refine lv_iload_n hx hb d_T_begins_39 rfl (lv_at hl 4 rfl) ?_
      refine r_callPi (nA := 1) (rest := []) (ct_O_start l D (show k < 512 by omega)) cx (gd_callV mc_O_start ml_T_46 ms_O_start mv_O_start mi_O) (by decide +kernel) rfl ⟨rfl, rfl⟩ ⟨Nat.le_of_ble_eq_true rfl, Nat.le_of_ble_eq_true rfl⟩ ⟨Nat.le_of_ble_eq_true rfl, Nat.le_of_ble_eq_true rfl⟩ hK hP [1, 2] [0] rfl rfl (ci := 1) rfl rfl rfl hl.1 rfl (Nat.le_of_ble_eq_true rfl) d_T_begins_40 (fun r9 h9 => ?_)
      obtain rfl := h9
      rw [rs k (by omega)]
      refine lv_istore (lv' := [(5, .int (nI (pv B (32 * k)))), (4, .int (nI 0)), (3, .int (nI en)), (2, .int (nI (32 * k))), (0, .ref h0), (1, .int (nI k))]) hx hb d_T_begins_43 hl (by decide) rfl (fun ls hl => ?_)
      exact tl ls (lv_sub hl [4, 5, 3, 2, 1, 0] rfl)
set_option maxHeartbeats 4000000 in
set_option maxRecDepth 100000 in
theorem ct_T_count0 (l : Launch) (D : va_G) {h0 h1 h2 h3 : Nat} {c1 c2 : ClassId} {N : Nat} {B : Nat → Bool} {P : Int32} {st sz : Nat → Int32} (hR : Rep N B P st sz) : CpI l y_T_count c_T_count (rmL 1) D (wT h0 h1 h2 h3 c1 c2 (nI N) P st sz) (tT c1 c2) [.ref h0, .int (nI 0)] (fun r => r = co_ans N B 0) := by
  refine r_pureI (by decide) (Nat.le_of_ble_eq_true rfl) ?_
  intro p e s m below meth c ls cx hr hlocks hK hP hl
  have hx := cx.1
  have hb := cx.2.1
  have hl : lv_has ls 2 [(0, .ref h0), (1, .int (nI 0))] := hl
  obtain ⟨r1, r2, r0, rN, rP, rz, rs⟩ := id hR
  refine lv_iload_n hx hb d_T_count_0 rfl (lv_at hl 1 rfl) ?_
  refine lv_tableIn (off := 35) (tgt := 36) hx hb d_T_count_1 (by decide +kernel) (by decide +kernel) (by decide +kernel) (by decide) ?_
  refine lv_aload_n hx hb d_T_count_36 rfl (lv_at hl 0 rfl) ?_
  refine g_T2 cx hK hP 0 rfl d_T_count_37 ?_
  exact e_pi cx hr hlocks (rfl) d_T_count_40
set_option maxHeartbeats 4000000 in
set_option maxRecDepth 100000 in
theorem ct_T_count1 (l : Launch) (D : va_G) {h0 h1 h2 h3 : Nat} {c1 c2 : ClassId} {N : Nat} {B : Nat → Bool} {P : Int32} {st sz : Nat → Int32} (hR : Rep N B P st sz) : CpI l y_T_count c_T_count (rmL 1) D (wT h0 h1 h2 h3 c1 c2 (nI N) P st sz) (tT c1 c2) [.ref h0, .int (nI 1)] (fun r => r = co_ans N B 1) := by
  refine r_pureI (by decide) (Nat.le_of_ble_eq_true rfl) ?_
  intro p e s m below meth c ls cx hr hlocks hK hP hl
  have hx := cx.1
  have hb := cx.2.1
  have hl : lv_has ls 2 [(0, .ref h0), (1, .int (nI 1))] := hl
  obtain ⟨r1, r2, r0, rN, rP, rz, rs⟩ := id hR
  refine lv_iload_n hx hb d_T_count_0 rfl (lv_at hl 1 rfl) ?_
  refine lv_tableIn (off := 40) (tgt := 41) hx hb d_T_count_1 (by decide +kernel) (by decide +kernel) (by decide +kernel) (by decide) ?_
  refine lv_aload_n hx hb d_T_count_41 rfl (lv_at hl 0 rfl) ?_
  refine g_T2 cx hK hP 0 rfl d_T_count_42 ?_
  refine lv_bipush (v := nI 31) hx hb d_T_count_45 (by decide +kernel) ?_
  refine r_add hx hb d_T_count_47 ?_
  refine lv_iconst (v := nI 5) hx hb d_T_count_48 (by decide +kernel) ?_
  refine r_shr5 hx hb d_T_count_49 (by omega) ?_
  exact e_pi cx hr hlocks (rfl) d_T_count_50
set_option maxHeartbeats 4000000 in
set_option maxRecDepth 100000 in
theorem ct_T_count2 (l : Launch) (D : va_G) {h0 h1 h2 h3 : Nat} {c1 c2 : ClassId} {N : Nat} {B : Nat → Bool} {P : Int32} {st sz : Nat → Int32} (hR : Rep N B P st sz) : CpI l y_T_count c_T_count (rmL 1) D (wT h0 h1 h2 h3 c1 c2 (nI N) P st sz) (tT c1 c2) [.ref h0, .int (nI 2)] (fun r => r = co_ans N B 2) := by
  refine r_pureI (by decide) (Nat.le_of_ble_eq_true rfl) ?_
  intro p e s m below meth c ls cx hr hlocks hK hP hl
  have hx := cx.1
  have hb := cx.2.1
  have hl : lv_has ls 2 [(0, .ref h0), (1, .int (nI 2))] := hl
  obtain ⟨r1, r2, r0, rN, rP, rz, rs⟩ := id hR
  refine lv_iload_n hx hb d_T_count_0 rfl (lv_at hl 1 rfl) ?_
  refine lv_tableIn (off := 50) (tgt := 51) hx hb d_T_count_1 (by decide +kernel) (by decide +kernel) (by decide +kernel) (by decide) ?_
  refine lv_aload_n hx hb d_T_count_51 rfl (lv_at hl 0 rfl) ?_
  refine g_T3 cx hK hP 0 rfl d_T_count_52 ?_
  exact e_pi cx hr hlocks (rP) d_T_count_55
set_option maxHeartbeats 4000000 in
set_option maxRecDepth 100000 in
theorem ct_T_count3 (l : Launch) (D : va_G) {h0 h1 h2 h3 : Nat} {c1 c2 : ClassId} {N : Nat} {B : Nat → Bool} {P : Int32} {st sz : Nat → Int32} (hR : Rep N B P st sz) : CpI l y_T_count c_T_count (rmL 1) D (wT h0 h1 h2 h3 c1 c2 (nI N) P st sz) (tT c1 c2) [.ref h0, .int (nI 3)] (fun r => r = co_ans N B 3) := by
  refine r_pureI (by decide) (Nat.le_of_ble_eq_true rfl) ?_
  intro p e s m below meth c ls cx hr hlocks hK hP hl
  have hx := cx.1
  have hb := cx.2.1
  have hl : lv_has ls 2 [(0, .ref h0), (1, .int (nI 3))] := hl
  obtain ⟨r1, r2, r0, rN, rP, rz, rs⟩ := id hR
  refine lv_iload_n hx hb d_T_count_0 rfl (lv_at hl 1 rfl) ?_
  refine lv_tableIn (off := 55) (tgt := 56) hx hb d_T_count_1 (by decide +kernel) (by decide +kernel) (by decide +kernel) (by decide) ?_
  refine lv_aload_n hx hb d_T_count_56 rfl (lv_at hl 0 rfl) ?_
  refine lv_iconst (v := nI 1) hx hb d_T_count_57 (by decide +kernel) ?_
  refine r_callPi (nA := 1) (rest := []) (ct_T_extreme1 l D hR) cx (gd_callV mc_T_extreme ml_T_62 ms_T_extreme mv_T_extreme mi_T) (by decide +kernel) rfl ⟨rfl, rfl⟩ ⟨Nat.le_of_ble_eq_true rfl, Nat.le_of_ble_eq_true rfl⟩ ⟨Nat.le_of_ble_eq_true rfl, Nat.le_of_ble_eq_true rfl⟩ hK hP [0, 1, 2, 3] [0, 1] rfl rfl (ci := 0) rfl rfl rfl hl.1 rfl (Nat.le_of_ble_eq_true rfl) d_T_count_58 (fun r9 h9 => ?_)
  obtain rfl := h9
  exact e_pi cx hr hlocks (by rw [wk_max r1 rN]; rfl) d_T_count_61
set_option maxHeartbeats 4000000 in
set_option maxRecDepth 100000 in
theorem ct_T_count4 (l : Launch) (D : va_G) {h0 h1 h2 h3 : Nat} {c1 c2 : ClassId} {N : Nat} {B : Nat → Bool} {P : Int32} {st sz : Nat → Int32} (hR : Rep N B P st sz) : CpI l y_T_count c_T_count (rmL 1) D (wT h0 h1 h2 h3 c1 c2 (nI N) P st sz) (tT c1 c2) [.ref h0, .int (nI 4)] (fun r => r = co_ans N B 4) := by
  refine r_pureI (by decide) (Nat.le_of_ble_eq_true rfl) ?_
  intro p e s m below meth c ls cx hr hlocks hK hP hl
  have hx := cx.1
  have hb := cx.2.1
  have hl : lv_has ls 2 [(0, .ref h0), (1, .int (nI 4))] := hl
  obtain ⟨r1, r2, r0, rN, rP, rz, rs⟩ := id hR
  refine lv_iload_n hx hb d_T_count_0 rfl (lv_at hl 1 rfl) ?_
  refine lv_tableIn (off := 61) (tgt := 62) hx hb d_T_count_1 (by decide +kernel) (by decide +kernel) (by decide +kernel) (by decide) ?_
  refine lv_aload_n hx hb d_T_count_62 rfl (lv_at hl 0 rfl) ?_
  refine lv_iconst (v := nI 0) hx hb d_T_count_63 (by decide +kernel) ?_
  refine r_callPi (nA := 1) (rest := []) (ct_T_extreme0 l D hR) cx (gd_callV mc_T_extreme ml_T_62 ms_T_extreme mv_T_extreme mi_T) (by decide +kernel) rfl ⟨rfl, rfl⟩ ⟨Nat.le_of_ble_eq_true rfl, Nat.le_of_ble_eq_true rfl⟩ ⟨Nat.le_of_ble_eq_true rfl, Nat.le_of_ble_eq_true rfl⟩ hK hP [0, 1, 2, 3] [0, 1] rfl rfl (ci := 0) rfl rfl rfl hl.1 rfl (Nat.le_of_ble_eq_true rfl) d_T_count_64 (fun r9 h9 => ?_)
  obtain rfl := h9
  exact e_pi cx hr hlocks (by rw [wk_min r1 r2 rN]; rfl) d_T_count_67
theorem ct_T_count (l : Launch) (D : va_G) {h0 h1 h2 h3 : Nat} {c1 c2 : ClassId} {N : Nat} {B : Nat → Bool} {P : Int32} {st sz : Nat → Int32} (hR : Rep N B P st sz) {k : Nat} (hk : k ≤ 4) : CpI l y_T_count c_T_count (rmL 1) D (wT h0 h1 h2 h3 c1 c2 (nI N) P st sz) (tT c1 c2) [.ref h0, .int (nI k)] (fun r => r = co_ans N B k) := by
  rcases (show k = 0 ∨ k = 1 ∨ k = 2 ∨ k = 3 ∨ k = 4 by omega) with rfl | rfl | rfl | rfl | rfl
  · exact ct_T_count0 l D hR
  · exact ct_T_count1 l D hR
  · exact ct_T_count2 l D hR
  · exact ct_T_count3 l D hR
  · exact ct_T_count4 l D hR
end
section
set_option maxHeartbeats 4000000 in
set_option maxRecDepth 100000 in
theorem ct_T_space (l : Launch) (D : va_G) {h0 h1 h2 h3 : Nat} {c1 c2 : ClassId} {N : Nat} {B : Nat → Bool} {P : Int32} {st sz : Nat → Int32} {n : Nat} (hn1 : 1 ≤ n) (hn2 : n ≤ 16384) : CtI l y_T_space c_T_space (rmL 2) D (wT h0 h1 h2 h3 c1 c2 (nI N) P st sz) (tT c1 c2) [.ref h0, .int (nI n)] (fun r (u : Int32 × (Nat → Int32) × (Nat → Int32)) => r = nI N ∧ Rep n (spB n B) u.1 u.2.1 u.2.2) (fun _ => tT c1 c2) (fun u : Int32 × (Nat → Int32) × (Nat → Int32) => wT h0 h1 h2 h3 c1 c2 (nI n) u.1 u.2.1 u.2.2) := by
  refine r_metI (by decide) (Nat.le_of_ble_eq_true rfl) ?_
  intro p e s m below meth c ls A cx hr hlocks hin hK hP hD hA hl
  have hx := cx.1
  have hb := cx.2.1
  have hS : va_S A s.heap s.heap [] := va_S.rf
  have hl : lv_has ls 3 [(0, .ref h0), (1, .int (nI n))] := hl
  refine lv_iload_n hx hb d_T_space_0 rfl (lv_at hl 1 rfl) ?_
  refine lv_iconst (v := nI 1) hx hb d_T_space_1 (by decide +kernel) ?_
  refine r_ilt (tgt := 12) hx hb d_T_space_2 (by decide) (by omega) (by omega) (fun z => by omega) (fun z => ?_)
  refine lv_iload_n hx hb d_T_space_5 rfl (lv_at hl 1 rfl) ?_
  refine lv_sipush (v := nI 16384) hx hb d_T_space_6 (by decide +kernel) ?_
  refine r_ile (tgt := 20) hx hb d_T_space_9 (by decide) (by omega) (by omega) (fun z => ?_) (fun z => by omega)
  refine lv_aload_n hx hb d_T_space_20 rfl (lv_at hl 0 rfl) ?_
  refine g_T2 cx hK hP 0 rfl d_T_space_21 ?_
  refine lv_istore_n (lv' := [(2, .int (nI N)), (0, .ref h0), (1, .int (nI n))]) hx hb d_T_space_24 rfl hl (by decide) rfl (fun ls hl => ?_)
  refine lv_aload_n hx hb d_T_space_25 rfl (lv_at hl 1 rfl) ?_
  refine lv_iload_n hx hb d_T_space_26 rfl (lv_at hl 2 rfl) ?_
  refine p_T2 cx hK hP hD hS 0 rfl d_T_space_27 (fun H locs hP hD hS => ?_)
  have hP : va_P D classes (wT h0 h1 h2 h3 c1 c2 (nI n) P st sz) H := hP
  have hD : va_D A (wT h0 h1 h2 h3 c1 c2 (nI n) P st sz) := hD
  refine lv_aload_n hx hb d_T_space_30 rfl (lv_at hl 1 rfl) ?_
  refine lv_iconst (v := nI 1) hx hb d_T_space_31 (by decide +kernel) ?_
  refine p_T3 cx hK hP hD hS 0 rfl d_T_space_32 (fun H locs hP hD hS => ?_)
  have hP : va_P D classes (wT h0 h1 h2 h3 c1 c2 (nI n) (nI 1) st sz) H := hP
  have hD : va_D A (wT h0 h1 h2 h3 c1 c2 (nI n) (nI 1) st sz) := hD
  refine lv_aload_n hx hb d_T_space_35 rfl (lv_at hl 1 rfl) ?_
  refine lv_iconst (v := nI 0) hx hb d_T_space_36 (by decide +kernel) ?_
  refine lv_iload_n hx hb d_T_space_37 rfl (lv_at hl 2 rfl) ?_
  refine r_callVv (wr := List.filterMap (fun i : Nat => (wT h0 h1 h2 h3 c1 c2 (nI n) (nI 1) st sz : va_W)[i]?) []) (nA := 2) (rest := []) (ct_T_piece l D (a := 0) (z := n) (by omega) (by omega)) cx (gd_callV mc_T_piece ml_T_29 ms_T_piece mv_T_piece mi_T) (by decide +kernel) rfl ⟨Nat.le_of_ble_eq_true rfl, Nat.le_of_ble_eq_true rfl⟩ ⟨Nat.le_of_ble_eq_true rfl, Nat.le_of_ble_eq_true rfl⟩ hK hP hD hS hA [0, 1, 2, 3] [] [0, 1] rfl rfl rfl (by decide) (by decide) (by decide) (ci := 0) rfl rfl rfl hl.1 rfl (Nat.le_of_ble_eq_true rfl) d_T_space_38 (fun u9 H locs hw9 hK9 hP hD hS => ?_)
  have hP : va_P D classes (wT h0 h1 h2 h3 c1 c2 (nI n) (nI 1) (stS st 0 (0 + n)) (upd sz 0 (nI n))) H := hP.sub [0, 1, 2, 3] rfl
  have hD : va_D A (wT h0 h1 h2 h3 c1 c2 (nI n) (nI 1) (stS st 0 (0 + n)) (upd sz 0 (nI n))) := hD.sub [0, 1, 2, 3] (by decide) rfl
  refine lv_iload_n hx hb d_T_space_41 rfl (lv_at hl 0 rfl) ?_
  have hone := rep_one (n := n) (B := spB n B) (st := st) (sz := sz) hn1 hn2 (by simp [spB]) (by simp [spB, hn2]) (fun j z1 z2 => by
    have e1 : j ≤ 16384 := by omega
    have e2 : j ≠ 0 := by omega
    have e3 : j ≠ n := by omega
    simp [spB, e1, e2, e3])
  exact e_i (w := fun u : Int32 × (Nat → Int32) × (Nat → Int32) => wT h0 h1 h2 h3 c1 c2 (nI n) u.1 u.2.1 u.2.2) (tu := fun _ => tT c1 c2) cx hr hlocks (nI 1, stS st 0 (0 + n), upd sz 0 (nI n)) (⟨rfl, by show Rep n (spB n B) (nI 1) (stS st 0 (0 + n)) (upd sz 0 (nI n)); rw [Nat.zero_add]; exact hone⟩) hK hP hD hS d_T_space_42
set_option maxHeartbeats 4000000 in
set_option maxRecDepth 100000 in
theorem ct_T_cut (l : Launch) (D : va_G) {h0 h1 h2 h3 : Nat} {c1 c2 : ClassId} {N : Nat} {B : Nat → Bool} {P : Int32} {st sz : Nat → Int32} (hR : Rep N B P st sz) {a : Nat} (ha : a < N) : CtI l y_T_cut c_T_cut (rmL 2) D (wT h0 h1 h2 h3 c1 c2 (nI N) P st sz) (tT c1 c2) [.ref h0, .int (nI a)] (fun r (u : Int32 × (Nat → Int32) × (Nat → Int32)) => r = nI (a - pv B a) ∧ Rep N (sB B a true) u.1 u.2.1 u.2.2) (fun _ => tT c1 c2) (fun u : Int32 × (Nat → Int32) × (Nat → Int32) => wT h0 h1 h2 h3 c1 c2 (nI N) u.1 u.2.1 u.2.2) := by
  refine r_metI (by decide) (Nat.le_of_ble_eq_true rfl) ?_
  intro p e s m below meth c ls A cx hr hlocks hin hK hP hD hA hl
  have hx := cx.1
  have hb := cx.2.1
  have hS : va_S A s.heap s.heap [] := va_S.rf
  have hl : lv_has ls 4 [(0, .ref h0), (1, .int (nI a))] := hl
  obtain ⟨r1, r2, r0, rN, rP, rz, rs⟩ := id hR
  refine lv_aload_n hx hb d_T_cut_0 rfl (lv_at hl 0 rfl) ?_
  refine lv_iload_n hx hb d_T_cut_1 rfl (lv_at hl 1 rfl) ?_
  refine r_callPv (nA := 1) (rest := []) (ct_T_cell l D r2 ha) cx (gd_callV mc_T_cell ml_T_50 ms_T_cell mv_T_cell mi_T) (by decide +kernel) rfl ⟨rfl, rfl⟩ ⟨Nat.le_of_ble_eq_true rfl, Nat.le_of_ble_eq_true rfl⟩ ⟨Nat.le_of_ble_eq_true rfl, Nat.le_of_ble_eq_true rfl⟩ hK hP [0] [] rfl rfl (ci := 0) rfl rfl rfl hl.1 rfl (Nat.le_of_ble_eq_true rfl) d_T_cut_2 ?_
  refine lv_aload_n hx hb d_T_cut_5 rfl (lv_at hl 0 rfl) ?_
  refine lv_iload_n hx hb d_T_cut_6 rfl (lv_at hl 1 rfl) ?_
  refine r_callPi (nA := 1) (rest := []) (ct_T_over l D hR ha) cx (gd_callV mc_T_over ml_T_53 ms_T_over mv_T_over mi_T) (by decide +kernel) rfl ⟨rfl, rfl⟩ ⟨Nat.le_of_ble_eq_true rfl, Nat.le_of_ble_eq_true rfl⟩ ⟨Nat.le_of_ble_eq_true rfl, Nat.le_of_ble_eq_true rfl⟩ hK hP [0, 1, 2, 3] [0, 1] rfl rfl (ci := 0) rfl rfl rfl hl.1 rfl (Nat.le_of_ble_eq_true rfl) d_T_cut_7 (fun r9 h9 => ?_)
  obtain rfl := h9
  obtain ⟨q, hq⟩ : ∃ q, nx B N (pv B a) = q := ⟨_, rfl⟩
  have hbg := pv_b r0 a
  have hpa := pv_le r0 a
  obtain ⟨b0, hp⟩ : ∃ b0, pv B a = b0 := ⟨_, rfl⟩
  have hsz := rz (pv B a) (by omega) hbg
  have hg := nx_gt rN (show pv B a < N by omega)
  have hle := nx_le rN (show pv B a < N by omega)
  have hqa := nx_gt rN ha
  rw [← nx_pv r0 rN ha] at hqa
  rw [hq] at hsz hg hle hqa
  rw [hp] at hq hbg hpa hsz hg ⊢
  refine lv_istore_n (lv' := [(2, .int (nI b0)), (0, .ref h0), (1, .int (nI a))]) hx hb d_T_cut_10 rfl hl (by decide) rfl (fun ls hl => ?_)
  refine lv_aload_n hx hb d_T_cut_11 rfl (lv_at hl 1 rfl) ?_
  refine g_T1 cx hK hP 0 rfl d_T_cut_12 ?_
  refine lv_iload_n hx hb d_T_cut_15 rfl (lv_at hl 0 rfl) ?_
  refine r_iald hx hb hK hP 3 1 rfl rfl (show b0 < 16384 by omega) (by omega) (hsz) d_T_cut_16 ?_
  refine lv_istore_n (lv' := [(3, .int (nI (q - b0))), (2, .int (nI b0)), (0, .ref h0), (1, .int (nI a))]) hx hb d_T_cut_17 rfl hl (by decide) rfl (fun ls hl => ?_)
  refine lv_iload_n hx hb d_T_cut_18 rfl (lv_at hl 1 rfl) ?_
  refine lv_iload_n hx hb d_T_cut_19 rfl (lv_at hl 3 rfl) ?_
  refine r_ine (tgt := 25) hx hb d_T_cut_20 (by decide) (by omega) (by omega) (fun z1 => ?_) (fun z1 => ?_)
  · refine lv_aload_n hx hb d_T_cut_25 rfl (lv_at hl 2 rfl) ?_
    refine lv_iload_n hx hb d_T_cut_26 rfl (lv_at hl 1 rfl) ?_
    refine lv_iload_n hx hb d_T_cut_27 rfl (lv_at hl 3 rfl) ?_
    refine lv_iload_n hx hb d_T_cut_28 rfl (lv_at hl 1 rfl) ?_
    refine r_sub hx hb d_T_cut_29 (by omega) ?_
    refine r_callVv (wr := List.filterMap (fun i : Nat => (wT h0 h1 h2 h3 c1 c2 (nI N) P st sz : va_W)[i]?) []) (nA := 2) (rest := []) (ct_T_piece l D (a := b0) (z := a - b0) (by omega) (by omega)) cx (gd_callV mc_T_piece ml_T_29 ms_T_piece mv_T_piece mi_T) (by decide +kernel) rfl ⟨Nat.le_of_ble_eq_true rfl, Nat.le_of_ble_eq_true rfl⟩ ⟨Nat.le_of_ble_eq_true rfl, Nat.le_of_ble_eq_true rfl⟩ hK hP hD hS hA [0, 1, 2, 3] [] [0, 1] rfl rfl rfl (by decide) (by decide) (by decide) (ci := 0) rfl rfl rfl hl.1 rfl (Nat.le_of_ble_eq_true rfl) d_T_cut_30 (fun u9 H locs hw9 hK9 hP hD hS => ?_)
    have hP : va_P D classes (wT h0 h1 h2 h3 c1 c2 (nI N) P (stS st b0 (b0 + (a - b0))) (upd sz b0 (nI (a - b0)))) H := hP.sub [0, 1, 2, 3] rfl
    have hD : va_D A (wT h0 h1 h2 h3 c1 c2 (nI N) P (stS st b0 (b0 + (a - b0))) (upd sz b0 (nI (a - b0)))) := hD.sub [0, 1, 2, 3] (by decide) rfl
    rw [show b0 + (a - b0) = a by omega] at hP hD
    refine lv_aload_n hx hb d_T_cut_33 rfl (lv_at hl 2 rfl) ?_
    refine lv_iload_n hx hb d_T_cut_34 rfl (lv_at hl 3 rfl) ?_
    refine lv_iload_n hx hb d_T_cut_35 rfl (lv_at hl 1 rfl) ?_
    refine lv_iload_n hx hb d_T_cut_36 rfl (lv_at hl 0 rfl) ?_
    refine r_add hx hb d_T_cut_37 ?_
    rw [show b0 + (q - b0) = q by omega]
    refine lv_iload_n hx hb d_T_cut_38 rfl (lv_at hl 3 rfl) ?_
    refine r_sub hx hb d_T_cut_39 (by omega) ?_
    refine r_callVv (wr := List.filterMap (fun i : Nat => (wT h0 h1 h2 h3 c1 c2 (nI N) P (stS st b0 a) (upd sz b0 (nI (a - b0))) : va_W)[i]?) []) (nA := 2) (rest := []) (ct_T_piece l D (a := a) (z := q - a) (by omega) (by omega)) cx (gd_callV mc_T_piece ml_T_29 ms_T_piece mv_T_piece mi_T) (by decide +kernel) rfl ⟨Nat.le_of_ble_eq_true rfl, Nat.le_of_ble_eq_true rfl⟩ ⟨Nat.le_of_ble_eq_true rfl, Nat.le_of_ble_eq_true rfl⟩ hK hP hD hS hA [0, 1, 2, 3] [] [0, 1] rfl rfl rfl (by decide) (by decide) (by decide) (ci := 0) rfl rfl rfl hl.1 rfl (Nat.le_of_ble_eq_true rfl) d_T_cut_40 (fun u9 H locs hw9 hK9 hP hD hS => ?_)
    have hP : va_P D classes (wT h0 h1 h2 h3 c1 c2 (nI N) P (stS (stS st b0 a) a (a + (q - a))) (upd (upd sz b0 (nI (a - b0))) a (nI (q - a)))) H := hP.sub [0, 1, 2, 3] rfl
    have hD : va_D A (wT h0 h1 h2 h3 c1 c2 (nI N) P (stS (stS st b0 a) a (a + (q - a))) (upd (upd sz b0 (nI (a - b0))) a (nI (q - a)))) := hD.sub [0, 1, 2, 3] (by decide) rfl
    rw [show a + (q - a) = q by omega] at hP hD
    refine lv_aload_n hx hb d_T_cut_43 rfl (lv_at hl 2 rfl) ?_
    refine lv_dup hx hb d_T_cut_44 rfl ?_
    refine g_T3 cx hK hP 0 rfl d_T_cut_45 ?_
    refine lv_iconst (v := nI 1) hx hb d_T_cut_48 (by decide +kernel) ?_
    refine lv_iadd hx hb d_T_cut_49 ?_
    refine p_T3 cx hK hP hD hS 0 rfl d_T_cut_50 (fun H locs hP hD hS => ?_)
    have hP : va_P D classes (wT h0 h1 h2 h3 c1 c2 (nI N) (P + nI 1) (stS (stS st b0 a) a q) (upd (upd sz b0 (nI (a - b0))) a (nI (q - a)))) H := hP
    have hD : va_D A (wT h0 h1 h2 h3 c1 c2 (nI N) (P + nI 1) (stS (stS st b0 a) a q) (upd (upd sz b0 (nI (a - b0))) a (nI (q - a)))) := hD
    refine lv_iload_n hx hb d_T_cut_53 rfl (lv_at hl 3 rfl) ?_
    refine lv_iload_n hx hb d_T_cut_54 rfl (lv_at hl 1 rfl) ?_
    refine r_sub hx hb d_T_cut_55 (by omega) ?_
    exact e_i (w := fun u : Int32 × (Nat → Int32) × (Nat → Int32) => wT h0 h1 h2 h3 c1 c2 (nI N) u.1 u.2.1 u.2.2) (tu := fun _ => tT c1 c2) cx hr hlocks (P + nI 1, stS (stS st b0 a) a q, upd (upd sz b0 (nI (a - b0))) a (nI (q - a))) (⟨rfl, rep_cut hR ha hp hq z1⟩) hK hP hD hS d_T_cut_56
  · refine lv_iconst (v := nI 0) hx hb d_T_cut_23 (by decide +kernel) ?_
    exact e_i (w := fun u : Int32 × (Nat → Int32) × (Nat → Int32) => wT h0 h1 h2 h3 c1 c2 (nI N) u.1 u.2.1 u.2.2) (tu := fun _ => tT c1 c2) cx hr hlocks (P, st, sz) (⟨by rw [z1, Nat.sub_self], by show Rep N (sB B a true) P st sz; rw [sB_same (by rw [← z1]; exact hbg)]; exact hR⟩) hK hP hD hS d_T_cut_24
set_option maxHeartbeats 4000000 in
set_option maxRecDepth 100000 in
theorem ct_T_join (l : Launch) (D : va_G) {h0 h1 h2 h3 : Nat} {c1 c2 : ClassId} {N : Nat} {B : Nat → Bool} {P : Int32} {st sz : Nat → Int32} (hR : Rep N B P st sz) {a : Nat} (ha : a < N) : CtI l y_T_join c_T_join (rmL 2) D (wT h0 h1 h2 h3 c1 c2 (nI N) P st sz) (tT c1 c2) [.ref h0, .int (nI a)] (fun r (u : Int32 × (Nat → Int32) × (Nat → Int32)) => r = jn_ans N B a ∧ Rep N (jn_B N B a) u.1 u.2.1 u.2.2) (fun _ => tT c1 c2) (fun u : Int32 × (Nat → Int32) × (Nat → Int32) => wT h0 h1 h2 h3 c1 c2 (nI N) u.1 u.2.1 u.2.2) := by
  refine r_metI (by decide) (Nat.le_of_ble_eq_true rfl) ?_
  intro p e s m below meth c ls A cx hr hlocks hin hK hP hD hA hl
  have hx := cx.1
  have hb := cx.2.1
  have hS : va_S A s.heap s.heap [] := va_S.rf
  have hl : lv_has ls 4 [(0, .ref h0), (1, .int (nI a))] := hl
  obtain ⟨r1, r2, r0, rN, rP, rz, rs⟩ := id hR
  refine lv_aload_n hx hb d_T_join_0 rfl (lv_at hl 0 rfl) ?_
  refine lv_iload_n hx hb d_T_join_1 rfl (lv_at hl 1 rfl) ?_
  refine r_callPv (nA := 1) (rest := []) (ct_T_cell l D r2 ha) cx (gd_callV mc_T_cell ml_T_50 ms_T_cell mv_T_cell mi_T) (by decide +kernel) rfl ⟨rfl, rfl⟩ ⟨Nat.le_of_ble_eq_true rfl, Nat.le_of_ble_eq_true rfl⟩ ⟨Nat.le_of_ble_eq_true rfl, Nat.le_of_ble_eq_true rfl⟩ hK hP [0] [] rfl rfl (ci := 0) rfl rfl rfl hl.1 rfl (Nat.le_of_ble_eq_true rfl) d_T_join_2 ?_
  refine lv_aload_n hx hb d_T_join_5 rfl (lv_at hl 0 rfl) ?_
  refine lv_iload_n hx hb d_T_join_6 rfl (lv_at hl 1 rfl) ?_
  refine r_callPi (nA := 1) (rest := []) (ct_T_over l D hR ha) cx (gd_callV mc_T_over ml_T_53 ms_T_over mv_T_over mi_T) (by decide +kernel) rfl ⟨rfl, rfl⟩ ⟨Nat.le_of_ble_eq_true rfl, Nat.le_of_ble_eq_true rfl⟩ ⟨Nat.le_of_ble_eq_true rfl, Nat.le_of_ble_eq_true rfl⟩ hK hP [0, 1, 2, 3] [0, 1] rfl rfl (ci := 0) rfl rfl rfl hl.1 rfl (Nat.le_of_ble_eq_true rfl) d_T_join_7 (fun r9 h9 => ?_)
  obtain rfl := h9
  obtain ⟨q, hq⟩ : ∃ q, nx B N (pv B a) = q := ⟨_, rfl⟩
  have hbg := pv_b r0 a
  have hpa := pv_le r0 a
  obtain ⟨b0, hp⟩ : ∃ b0, pv B a = b0 := ⟨_, rfl⟩
  have hsz := rz (pv B a) (by omega) hbg
  have hg := nx_gt rN (show pv B a < N by omega)
  have hle := nx_le rN (show pv B a < N by omega)
  have hqa := nx_gt rN ha
  rw [← nx_pv r0 rN ha] at hqa
  rw [hq] at hsz hg hle hqa
  rw [hp] at hq hbg hpa hsz hg ⊢
  refine lv_istore_n (lv' := [(2, .int (nI b0)), (0, .ref h0), (1, .int (nI a))]) hx hb d_T_join_10 rfl hl (by decide) rfl (fun ls hl => ?_)
  refine lv_iload_n hx hb d_T_join_11 rfl (lv_at hl 0 rfl) ?_
  refine lv_aload_n hx hb d_T_join_12 rfl (lv_at hl 1 rfl) ?_
  refine g_T1 cx hK hP 0 rfl d_T_join_13 ?_
  refine lv_iload_n hx hb d_T_join_16 rfl (lv_at hl 0 rfl) ?_
  refine r_iald hx hb hK hP 3 1 rfl rfl (show b0 < 16384 by omega) (by omega) (hsz) d_T_join_17 ?_
  refine r_add hx hb d_T_join_18 ?_
  rw [show b0 + (q - b0) = q by omega]
  refine lv_istore_n (lv' := [(3, .int (nI q)), (2, .int (nI b0)), (0, .ref h0), (1, .int (nI a))]) hx hb d_T_join_19 rfl hl (by decide) rfl (fun ls hl => ?_)
  refine lv_iload_n hx hb d_T_join_20 rfl (lv_at hl 0 rfl) ?_
  refine lv_aload_n hx hb d_T_join_21 rfl (lv_at hl 2 rfl) ?_
  refine g_T2 cx hK hP 0 rfl d_T_join_22 ?_
  have hqa2 : nx B N a = q := by rw [← nx_pv r0 rN ha, hp]; exact hq
  refine r_ine (tgt := 30) hx hb d_T_join_25 (by decide) (by omega) (by omega) (fun z1 => ?_) (fun z1 => ?_)
  · have hqN : q < N := by omega
    obtain ⟨r, hrr⟩ : ∃ r, nx B N q = r := ⟨_, rfl⟩
    have hbq : B q = true := by rw [← hqa2]; exact nx_b rN ha
    have hszq := rz q hqN hbq
    have hgr := nx_gt rN hqN
    have hlr := nx_le rN hqN
    rw [hrr] at hszq hgr hlr
    refine lv_aload_n hx hb d_T_join_30 rfl (lv_at hl 2 rfl) ?_
    refine lv_iload_n hx hb d_T_join_31 rfl (lv_at hl 1 rfl) ?_
    refine lv_aload_n hx hb d_T_join_32 rfl (lv_at hl 2 rfl) ?_
    refine g_T1 cx hK hP 0 rfl d_T_join_33 ?_
    refine lv_iload_n hx hb d_T_join_36 rfl (lv_at hl 1 rfl) ?_
    refine r_iald hx hb hK hP 3 1 rfl rfl (show b0 < 16384 by omega) (by omega) (hsz) d_T_join_37 ?_
    refine lv_aload_n hx hb d_T_join_38 rfl (lv_at hl 2 rfl) ?_
    refine g_T1 cx hK hP 0 rfl d_T_join_39 ?_
    refine lv_iload_n hx hb d_T_join_42 rfl (lv_at hl 0 rfl) ?_
    refine r_iald hx hb hK hP 3 1 rfl rfl (show q < 16384 by omega) (by omega) (hszq) d_T_join_43 ?_
    refine r_add hx hb d_T_join_44 ?_
    rw [show q - b0 + (r - q) = r - b0 by omega]
    refine r_callVv (wr := List.filterMap (fun i : Nat => (wT h0 h1 h2 h3 c1 c2 (nI N) P st sz : va_W)[i]?) []) (nA := 2) (rest := []) (ct_T_piece l D (a := b0) (z := r - b0) (by omega) (by omega)) cx (gd_callV mc_T_piece ml_T_29 ms_T_piece mv_T_piece mi_T) (by decide +kernel) rfl ⟨Nat.le_of_ble_eq_true rfl, Nat.le_of_ble_eq_true rfl⟩ ⟨Nat.le_of_ble_eq_true rfl, Nat.le_of_ble_eq_true rfl⟩ hK hP hD hS hA [0, 1, 2, 3] [] [0, 1] rfl rfl rfl (by decide) (by decide) (by decide) (ci := 0) rfl rfl rfl hl.1 rfl (Nat.le_of_ble_eq_true rfl) d_T_join_45 (fun u9 H locs hw9 hK9 hP hD hS => ?_)
    have hP : va_P D classes (wT h0 h1 h2 h3 c1 c2 (nI N) P (stS st b0 (b0 + (r - b0))) (upd sz b0 (nI (r - b0)))) H := hP.sub [0, 1, 2, 3] rfl
    have hD : va_D A (wT h0 h1 h2 h3 c1 c2 (nI N) P (stS st b0 (b0 + (r - b0))) (upd sz b0 (nI (r - b0)))) := hD.sub [0, 1, 2, 3] (by decide) rfl
    rw [show b0 + (r - b0) = r by omega] at hP hD
    refine lv_aload_n hx hb d_T_join_48 rfl (lv_at hl 2 rfl) ?_
    refine lv_dup hx hb d_T_join_49 rfl ?_
    refine g_T3 cx hK hP 0 rfl d_T_join_50 ?_
    refine lv_iconst (v := nI 1) hx hb d_T_join_53 (by decide +kernel) ?_
    refine lv_isub hx hb d_T_join_54 ?_
    refine p_T3 cx hK hP hD hS 0 rfl d_T_join_55 (fun H locs hP hD hS => ?_)
    have hP : va_P D classes (wT h0 h1 h2 h3 c1 c2 (nI N) (P - nI 1) (stS st b0 r) (upd sz b0 (nI (r - b0)))) H := hP
    have hD : va_D A (wT h0 h1 h2 h3 c1 c2 (nI N) (P - nI 1) (stS st b0 r) (upd sz b0 (nI (r - b0)))) := hD
    refine lv_aload_n hx hb d_T_join_58 rfl (lv_at hl 2 rfl) ?_
    refine g_T1 cx hK hP 0 rfl d_T_join_59 ?_
    refine lv_iload_n hx hb d_T_join_62 rfl (lv_at hl 1 rfl) ?_
    refine r_iald hx hb hK hP 3 1 rfl rfl (show b0 < 16384 by omega) (by omega) (upd_at _ _ _) d_T_join_63 ?_
    obtain ⟨j1, j2⟩ := jn_val r0 rN ha hp hq hqN hrr
    exact e_i (w := fun u : Int32 × (Nat → Int32) × (Nat → Int32) => wT h0 h1 h2 h3 c1 c2 (nI N) u.1 u.2.1 u.2.2) (tu := fun _ => tT c1 c2) cx hr hlocks (P - nI 1, stS st b0 r, upd sz b0 (nI (r - b0))) (⟨j1.symm, by rw [j2]; exact rep_join hR (by omega) hbg hq hqN hrr⟩) hK hP hD hS d_T_join_64
  · refine lv_iconst (v := nI 0) hx hb d_T_join_28 (by decide +kernel) ?_
    obtain ⟨j1, j2⟩ := jn_none (N := N) (B := B) (a := a) (hqa2.trans z1)
    exact e_i (w := fun u : Int32 × (Nat → Int32) × (Nat → Int32) => wT h0 h1 h2 h3 c1 c2 (nI N) u.1 u.2.1 u.2.2) (tu := fun _ => tT c1 c2) cx hr hlocks (P, st, sz) (⟨j1.symm, by rw [j2]; exact hR⟩) hK hP hD hS d_T_join_29
set_option maxHeartbeats 4000000 in
set_option maxRecDepth 100000 in
theorem ct_T_make (l : Launch) (D : va_G) {h0 h1 h2 h3 : Nat} {c1 c2 : ClassId} {N : Nat} {B : Nat → Bool} {P : Int32} {st sz : Nat → Int32} (hR : Rep N B P st sz) {a b : Nat} (hab : a < b) (hbN : b ≤ N) : CtI l y_T_make c_T_make (rmL 3) D (wT h0 h1 h2 h3 c1 c2 (nI N) P st sz) (tT c1 c2) [.ref h0, .int (nI a), .int (nI b)] (fun r (u : Int32 × (Nat → Int32) × (Nat → Int32)) => r = nI (cnt (mkB B a b) N) ∧ Rep N (mkB B a b) u.1 u.2.1 u.2.2) (fun _ => tT c1 c2) (fun u : Int32 × (Nat → Int32) × (Nat → Int32) => wT h0 h1 h2 h3 c1 c2 (nI N) u.1 u.2.1 u.2.2) := by
  refine r_metI (by decide) (Nat.le_of_ble_eq_true rfl) ?_
  intro p e s m below meth c ls A cx hr hlocks hin hK hP hD hA hl
  have hx := cx.1
  have hb := cx.2.1
  have hS : va_S A s.heap s.heap [] := va_S.rf
  have hl : lv_has ls 4 [(0, .ref h0), (1, .int (nI a)), (2, .int (nI b))] := hl
  obtain ⟨r1, r2, r0, rN, rP, rz, rs⟩ := id hR
  have ha : a < N := by omega
  refine lv_aload_n hx hb d_T_make_0 rfl (lv_at hl 0 rfl) ?_
  refine lv_iload_n hx hb d_T_make_1 rfl (lv_at hl 1 rfl) ?_
  refine r_callPv (nA := 1) (rest := []) (ct_T_cell l D r2 ha) cx (gd_callV mc_T_cell ml_T_50 ms_T_cell mv_T_cell mi_T) (by decide +kernel) rfl ⟨rfl, rfl⟩ ⟨Nat.le_of_ble_eq_true rfl, Nat.le_of_ble_eq_true rfl⟩ ⟨Nat.le_of_ble_eq_true rfl, Nat.le_of_ble_eq_true rfl⟩ hK hP [0] [] rfl rfl (ci := 0) rfl rfl rfl hl.1 rfl (Nat.le_of_ble_eq_true rfl) d_T_make_2 ?_
  refine lv_iload_n hx hb d_T_make_5 rfl (lv_at hl 2 rfl) ?_
  refine lv_iload_n hx hb d_T_make_6 rfl (lv_at hl 1 rfl) ?_
  refine r_ile (tgt := 22) hx hb d_T_make_7 (by decide) (by omega) (by omega) (fun z => by omega) (fun z => ?_)
  refine lv_iload_n hx hb d_T_make_10 rfl (lv_at hl 2 rfl) ?_
  refine lv_aload_n hx hb d_T_make_11 rfl (lv_at hl 0 rfl) ?_
  refine g_T2 cx hK hP 0 rfl d_T_make_12 ?_
  refine r_igt (tgt := 22) hx hb d_T_make_15 (by decide) (by omega) (by omega) (fun z => by omega) (fun z => ?_)
  refine lv_iconst (v := nI 1) hx hb d_T_make_18 (by decide +kernel) ?_
  refine lv_goto (tgt := 23) hx hb d_T_make_19 (by decide) ?_
  refine r_callSv (nA := 1) (rest := []) (ct_T_in l D) cx (gd_callS mc_T_in ml_T_42 ms_T_in mi_T) rfl (by decide +kernel) rfl ⟨rfl, rfl⟩ ⟨Nat.le_of_ble_eq_true rfl, Nat.le_of_ble_eq_true rfl⟩ ⟨Nat.le_of_ble_eq_true rfl, Nat.le_of_ble_eq_true rfl⟩ hK hl.1 rfl (Nat.le_of_ble_eq_true rfl) d_T_make_23 ?_
  refine lv_aload_n hx hb d_T_make_26 rfl (lv_at hl 0 rfl) ?_
  refine lv_iload_n hx hb d_T_make_27 rfl (lv_at hl 1 rfl) ?_
  refine r_callVi (wr := List.filterMap (fun i : Nat => (wT h0 h1 h2 h3 c1 c2 (nI N) P st sz : va_W)[i]?) []) (nA := 1) (rest := []) (ct_T_cut l D hR ha) cx (gd_callV mc_T_cut ml_T_56 ms_T_cut mv_T_cut mi_T) (by decide +kernel) rfl ⟨Nat.le_of_ble_eq_true rfl, Nat.le_of_ble_eq_true rfl⟩ ⟨Nat.le_of_ble_eq_true rfl, Nat.le_of_ble_eq_true rfl⟩ hK hP hD hS hA [0, 1, 2, 3] [] [0, 1] rfl rfl rfl (by decide) (by decide) (by decide) (ci := 0) rfl rfl rfl hl.1 rfl (Nat.le_of_ble_eq_true rfl) d_T_make_28 (fun r9 u9 H locs hw9 hK9 hP hD hS => ?_)
  obtain ⟨P1, st1, sz1⟩ := u9
  obtain ⟨-, hR1⟩ := hw9
  dsimp only at hR1 hP hD
  have hP : va_P D classes (wT h0 h1 h2 h3 c1 c2 (nI N) P1 st1 sz1) H := hP.sub [0, 1, 2, 3] rfl
  have hD : va_D A (wT h0 h1 h2 h3 c1 c2 (nI N) P1 st1 sz1) := hD.sub [0, 1, 2, 3] (by decide) rfl
  refine lv_pop hx hb d_T_make_31 rfl ?_
  refine lv_iload_n hx hb d_T_make_32 rfl (lv_at hl 2 rfl) ?_
  refine lv_aload_n hx hb d_T_make_33 rfl (lv_at hl 0 rfl) ?_
  refine g_T2 cx hK hP 0 rfl d_T_make_34 ?_
  refine r_viaW (I := fun H locs ls => ∃ (P2 : Int32) (st2 sz2 : Nat → Int32), Rep N (sB (sB B a true) b true) P2 st2 sz2 ∧ va_P D classes (wT h0 h1 h2 h3 c1 c2 (nI N) P2 st2 sz2) H ∧ va_D A (wT h0 h1 h2 h3 c1 c2 (nI N) P2 st2 sz2) ∧ va_S A s.heap H locs ∧ lv_has ls 4 [(0, .ref h0), (1, .int (nI a)), (2, .int (nI b))]) 46 ?_ (fun tl => ?_)
  · intro H locs ls ⟨P2, st2, sz2, hR2, hP, hD, hS, hl⟩
    have hBa : (sB (sB B a true) b true) a = true := by rw [sB_ne (by omega)]; exact sB_self _ _ _
    have hBb : (sB (sB B a true) b true) b = true := sB_self _ _ _
    rw [← mkB_cut B hab]
    generalize (sB (sB B a true) b true) = C at hR2 hBa hBb ⊢
    obtain ⟨-, -, s0, sN, sP, sz9, ss9⟩ := id hR2
    have hsz := sz9 a ha hBa
    have hg := nx_gt sN ha
    have hle := nx_to sN ha hab hBb
    have hca := cnt_nx sN ha hBa
    have hca2 := cnt_t hBa
    refine lv_iload_n hx hb d_T_make_46 rfl (lv_at hl 1 rfl) ?_
    refine lv_aload_n hx hb d_T_make_47 rfl (lv_at hl 0 rfl) ?_
    refine g_T1 cx hK hP 0 rfl d_T_make_48 ?_
    refine lv_iload_n hx hb d_T_make_51 rfl (lv_at hl 1 rfl) ?_
    refine r_iald hx hb hK hP 3 1 rfl rfl (show a < 16384 by omega) (by omega) (hsz) d_T_make_52 ?_
    refine r_add hx hb d_T_make_53 ?_
    rw [show a + (nx C N a - a) = nx C N a by omega]
    refine lv_istore_n (lv' := [(3, .int (nI (nx C N a))), (0, .ref h0), (1, .int (nI a)), (2, .int (nI b))]) hx hb d_T_make_54 rfl hl (by decide) rfl (fun ls hl => ?_)
    refine r_loopW (I := fun (q : Nat) H locs ls => (a < q ∧ q ≤ b ∧ C q = true) ∧ va_P D classes (wT h0 h1 h2 h3 c1 c2 (nI N) (nI (cnt C N - (cnt C q - cnt C (a + 1)))) st2 sz2) H ∧ va_D A (wT h0 h1 h2 h3 c1 c2 (nI N) (nI (cnt C N - (cnt C q - cnt C (a + 1)))) st2 sz2) ∧ va_S A s.heap H locs ∧ lv_has ls 4 [(0, .ref h0), (1, .int (nI a)), (2, .int (nI b)), (3, .int (nI q))]) (μ := fun q => b - q) ?_ (nx C N a) ⟨⟨hg, hle, nx_b sN ha⟩, by rw [show cnt C N - (cnt C (nx C N a) - cnt C (a + 1)) = cnt C N by omega, ← sP]; exact hP, by rw [show cnt C N - (cnt C (nx C N a) - cnt C (a + 1)) = cnt C N by omega, ← sP]; exact hD, hS, lv_sub hl [1, 2, 3, 0] rfl⟩
    intro q H locs ls ⟨⟨hq1, hq2, hq3⟩, hP, hD, hS, hl⟩ ih
    refine lv_iload_n hx hb d_T_make_55 rfl (lv_at hl 3 rfl) ?_
    refine lv_iload_n hx hb d_T_make_56 rfl (lv_at hl 2 rfl) ?_
    refine r_ige (tgt := 82) hx hb d_T_make_57 (by decide) (by omega) (by omega) (fun z2 => ?_) (fun z2 => ?_)
    · obtain rfl : q = b := by omega
      refine lv_aload_n hx hb d_T_make_82 rfl (lv_at hl 0 rfl) ?_
      refine lv_iload_n hx hb d_T_make_83 rfl (lv_at hl 1 rfl) ?_
      refine lv_iload_n hx hb d_T_make_84 rfl (lv_at hl 2 rfl) ?_
      refine lv_iload_n hx hb d_T_make_85 rfl (lv_at hl 1 rfl) ?_
      refine r_sub hx hb d_T_make_86 (by omega) ?_
      refine r_callVv (wr := List.filterMap (fun i : Nat => (wT h0 h1 h2 h3 c1 c2 (nI N) (nI (cnt C N - (cnt C q - cnt C (a + 1)))) st2 sz2 : va_W)[i]?) []) (nA := 2) (rest := []) (ct_T_piece l D (a := a) (z := q - a) (by omega) (by omega)) cx (gd_callV mc_T_piece ml_T_29 ms_T_piece mv_T_piece mi_T) (by decide +kernel) rfl ⟨Nat.le_of_ble_eq_true rfl, Nat.le_of_ble_eq_true rfl⟩ ⟨Nat.le_of_ble_eq_true rfl, Nat.le_of_ble_eq_true rfl⟩ hK hP hD hS hA [0, 1, 2, 3] [] [0, 1] rfl rfl rfl (by decide) (by decide) (by decide) (ci := 0) rfl rfl rfl hl.1 rfl (Nat.le_of_ble_eq_true rfl) d_T_make_87 (fun u9 H locs hw9 hK9 hP hD hS => ?_)
      have hP : va_P D classes (wT h0 h1 h2 h3 c1 c2 (nI N) (nI (cnt C N - (cnt C q - cnt C (a + 1)))) (stS st2 a (a + (q - a))) (upd sz2 a (nI (q - a)))) H := hP.sub [0, 1, 2, 3] rfl
      have hD : va_D A (wT h0 h1 h2 h3 c1 c2 (nI N) (nI (cnt C N - (cnt C q - cnt C (a + 1)))) (stS st2 a (a + (q - a))) (upd sz2 a (nI (q - a)))) := hD.sub [0, 1, 2, 3] (by decide) rfl
      rw [show a + (q - a) = q by omega] at hP hD
      refine lv_aload_n hx hb d_T_make_90 rfl (lv_at hl 0 rfl) ?_
      refine g_T3 cx hK hP 0 rfl d_T_make_91 ?_
      have hfin := cnt_mkB hab hBa hBb N hbN
      exact e_i (w := fun u : Int32 × (Nat → Int32) × (Nat → Int32) => wT h0 h1 h2 h3 c1 c2 (nI N) u.1 u.2.1 u.2.2) (tu := fun _ => tT c1 c2) cx hr hlocks (nI (cnt C N - (cnt C q - cnt C (a + 1))), stS st2 a q, upd sz2 a (nI (q - a))) (⟨by rw [show cnt C N - (cnt C q - cnt C (a + 1)) = cnt (mkB C a q) N by omega], rep_make hR2 hab hbN hBa hBb⟩) hK hP hD hS d_T_make_94
    · have hsq := sz9 q (by omega) hq3
      have hg2 := nx_gt sN (show q < N by omega)
      have hle2 := nx_to sN (show q < N by omega) z2 hBb
      have hcq := cnt_nx sN (show q < N by omega) hq3
      have hm1 := cnt_mono (B := C) (show a + 1 ≤ q by omega)
      have hm2 := cnt_mono (B := C) (show q + 1 ≤ N by omega)
      rw [cnt_t hq3] at hm2
      refine lv_aload_n hx hb d_T_make_60 rfl (lv_at hl 0 rfl) ?_
      refine lv_dup hx hb d_T_make_61 rfl ?_
      refine g_T3 cx hK hP 0 rfl d_T_make_62 ?_
      refine lv_iconst (v := nI 1) hx hb d_T_make_65 (by decide +kernel) ?_
      refine r_sub hx hb d_T_make_66 (by omega) ?_
      rw [show cnt C N - (cnt C q - cnt C (a + 1)) - 1 = cnt C N - (cnt C (nx C N q) - cnt C (a + 1)) by omega]
      refine p_T3 cx hK hP hD hS 0 rfl d_T_make_67 (fun H locs hP hD hS => ?_)
      have hP : va_P D classes (wT h0 h1 h2 h3 c1 c2 (nI N) (nI (cnt C N - (cnt C (nx C N q) - cnt C (a + 1)))) st2 sz2) H := hP
      have hD : va_D A (wT h0 h1 h2 h3 c1 c2 (nI N) (nI (cnt C N - (cnt C (nx C N q) - cnt C (a + 1)))) st2 sz2) := hD
      refine lv_iload_n hx hb d_T_make_70 rfl (lv_at hl 3 rfl) ?_
      refine lv_aload_n hx hb d_T_make_71 rfl (lv_at hl 0 rfl) ?_
      refine g_T1 cx hK hP 0 rfl d_T_make_72 ?_
      refine lv_iload_n hx hb d_T_make_75 rfl (lv_at hl 3 rfl) ?_
      refine r_iald hx hb hK hP 3 1 rfl rfl (show q < 16384 by omega) (by omega) (hsq) d_T_make_76 ?_
      refine r_add hx hb d_T_make_77 ?_
      rw [show q + (nx C N q - q) = nx C N q by omega]
      refine lv_istore_n (lv' := [(3, .int (nI (nx C N q))), (0, .ref h0), (1, .int (nI a)), (2, .int (nI b))]) hx hb d_T_make_78 rfl hl (by decide) rfl (fun ls hl => ?_)
      refine lv_goto (tgt := 55) hx hb d_T_make_79 (by decide) ?_
      exact ih (nx C N q) H locs ls (by omega) ⟨⟨by omega, hle2, nx_b sN (by omega)⟩, hP, hD, hS, lv_sub hl [1, 2, 3, 0] rfl⟩
  · refine r_ige (tgt := 46) hx hb d_T_make_37 (by decide) (by omega) (by omega) (fun z1 => ?_) (fun z1 => ?_)
    · obtain rfl : N = b := by omega
      exact tl H locs ls ⟨P1, st1, sz1, by rw [sB_same (B := sB B a true) (by rw [sB_ne (by omega)]; exact rN)]; exact hR1, hP, hD, hS, lv_sub hl [0, 1, 2] rfl⟩
    · refine lv_aload_n hx hb d_T_make_40 rfl (lv_at hl 0 rfl) ?_
      refine lv_iload_n hx hb d_T_make_41 rfl (lv_at hl 2 rfl) ?_
      refine r_callVi (wr := List.filterMap (fun i : Nat => (wT h0 h1 h2 h3 c1 c2 (nI N) P1 st1 sz1 : va_W)[i]?) []) (nA := 1) (rest := []) (ct_T_cut l D hR1 (a := b) z1) cx (gd_callV mc_T_cut ml_T_56 ms_T_cut mv_T_cut mi_T) (by decide +kernel) rfl ⟨Nat.le_of_ble_eq_true rfl, Nat.le_of_ble_eq_true rfl⟩ ⟨Nat.le_of_ble_eq_true rfl, Nat.le_of_ble_eq_true rfl⟩ hK hP hD hS hA [0, 1, 2, 3] [] [0, 1] rfl rfl rfl (by decide) (by decide) (by decide) (ci := 0) rfl rfl rfl hl.1 rfl (Nat.le_of_ble_eq_true rfl) d_T_make_42 (fun r9 u9 H locs hw9 hK9 hP hD hS => ?_)
      obtain ⟨P3, st3, sz3⟩ := u9
      obtain ⟨-, hR3⟩ := hw9
      dsimp only at hR3 hP hD
      have hP : va_P D classes (wT h0 h1 h2 h3 c1 c2 (nI N) P3 st3 sz3) H := hP.sub [0, 1, 2, 3] rfl
      have hD : va_D A (wT h0 h1 h2 h3 c1 c2 (nI N) P3 st3 sz3) := hD.sub [0, 1, 2, 3] (by decide) rfl
      refine lv_pop hx hb d_T_make_45 rfl ?_
      exact tl H locs ls ⟨P3, st3, sz3, hR3, hP, hD, hS, lv_sub hl [0, 1, 2] rfl⟩
end
section
abbrev rmX (k : Nat) : Room := { frames := 6 + k, cells := 1, slots := 6, locals := 82 + 25 * k }
abbrev nmA : String := "java/lang/IllegalArgumentException"
abbrev nmB : String := "java/lang/IndexOutOfBoundsException"
set_option maxHeartbeats 4000000 in
set_option maxRecDepth 100000 in
theorem cx_T_in (l : Launch) (D : va_G) (htr : l.stackTraces = false)  : CtT l y_T_in c_T_in (rmX 0) D [] [] [.int (nI 0)] nmB := by
  refine r_thrower (by decide) (Nat.le_of_ble_eq_true rfl) ?_
  intro p e s m below meth c ls cx hlocks hex hK hP hZ hl
  have hx := cx.1
  have hb := cx.2.1
  have hl : lv_has ls 1 [(0, .int (nI 0))] := hl
  refine lv_iload_n hx hb d_T_in_0 rfl (lv_at hl 0 rfl) ?_
  refine r_ifne (tgt := 12) hx hb d_T_in_1 (by decide) (by omega) (fun z => absurd rfl z) (fun z => ?_)
  exact tx_throw htr cx hlocks hex hZ oa_2 (by decide +kernel) mk_T_39 mn_IOOBE mi_IOOBE hl.1 ⟨Nat.le_of_ble_eq_true rfl, Nat.le_of_ble_eq_true rfl, Nat.le_of_ble_eq_true rfl, Nat.le_of_ble_eq_true rfl⟩ d_T_in_4 d_T_in_7 d_T_in_8 d_T_in_11
set_option maxHeartbeats 4000000 in
set_option maxRecDepth 100000 in
theorem cx_T_cell (l : Launch) (D : va_G) (htr : l.stackTraces = false) {h0 h1 h3 N : Nat} {P : Int32} {x : Int32} (hN : N ≤ 16384) (h : x < 0 ∨ nI N ≤ x) : CtT l y_T_cell c_T_cell (rmX 1) D (wH h0 h1 h3 (nI N) P) [] [.ref h0, .int x] nmB := by
  refine r_thrower (by decide) (Nat.le_of_ble_eq_true rfl) ?_
  intro p e s m below meth c ls cx hlocks hex hK hP hZ hl
  have hx := cx.1
  have hb := cx.2.1
  have hl : lv_has ls 2 [(0, .ref h0), (1, .int x)] := hl
  by_cases hc9 : x < 0
  · refine lv_iload_n hx hb d_T_cell_0 rfl (lv_at hl 1 rfl) ?_
    refine lv_if_lt (tgt := 16) hx hb d_T_cell_1 (by decide) (fun z => ?_) (fun z => absurd hc9 z)
    refine lv_iconst (v := nI 0) hx hb d_T_cell_16 (by decide +kernel) ?_
    exact tx_out hlocks hex (tx_runS (nA := 1) (rest := []) (cx_T_in l D htr) cx (gd_callS mc_T_in ml_T_42 ms_T_in mi_T) rfl (by decide +kernel) rfl ⟨Nat.le_of_ble_eq_true rfl, Nat.le_of_ble_eq_true rfl⟩ ⟨Nat.le_of_ble_eq_true rfl, Nat.le_of_ble_eq_true rfl⟩ hK hZ hl.1 rfl (Nat.le_of_ble_eq_true rfl) d_T_cell_17)
  · refine lv_iload_n hx hb d_T_cell_0 rfl (lv_at hl 1 rfl) ?_
    refine lv_if_lt (tgt := 16) hx hb d_T_cell_1 (by decide) (fun z => absurd z hc9) (fun z => ?_)
    refine lv_iload_n hx hb d_T_cell_4 rfl (lv_at hl 1 rfl) ?_
    refine lv_aload_n hx hb d_T_cell_5 rfl (lv_at hl 0 rfl) ?_
    refine g_T2 cx hK hP 0 rfl d_T_cell_6 ?_
    refine lv_icmp_ge (tgt := 16) hx hb d_T_cell_9 (by decide) (fun z => ?_) (fun z => absurd (h.resolve_left hc9) z)
    refine lv_iconst (v := nI 0) hx hb d_T_cell_16 (by decide +kernel) ?_
    exact tx_out hlocks hex (tx_runS (nA := 1) (rest := []) (cx_T_in l D htr) cx (gd_callS mc_T_in ml_T_42 ms_T_in mi_T) rfl (by decide +kernel) rfl ⟨Nat.le_of_ble_eq_true rfl, Nat.le_of_ble_eq_true rfl⟩ ⟨Nat.le_of_ble_eq_true rfl, Nat.le_of_ble_eq_true rfl⟩ hK hZ hl.1 rfl (Nat.le_of_ble_eq_true rfl) d_T_cell_17)
set_option maxHeartbeats 4000000 in
set_option maxRecDepth 100000 in
theorem cx_T_card (l : Launch) (D : va_G) (htr : l.stackTraces = false) {h0 h1 h3 N : Nat} {P : Int32} {x : Int32} (hN : N ≤ 16384) (h : x < 0 ∨ nI ((N + 31) / 32) ≤ x) : CtT l y_T_card c_T_card (rmX 1) D (wH h0 h1 h3 (nI N) P) [] [.ref h0, .int x] nmB := by
  refine r_thrower (by decide) (Nat.le_of_ble_eq_true rfl) ?_
  intro p e s m below meth c ls cx hlocks hex hK hP hZ hl
  have hx := cx.1
  have hb := cx.2.1
  have hl : lv_has ls 2 [(0, .ref h0), (1, .int x)] := hl
  by_cases hc9 : x < 0
  · refine lv_iload_n hx hb d_T_card_0 rfl (lv_at hl 1 rfl) ?_
    refine lv_if_lt (tgt := 21) hx hb d_T_card_1 (by decide) (fun z => ?_) (fun z => absurd hc9 z)
    refine lv_iconst (v := nI 0) hx hb d_T_card_21 (by decide +kernel) ?_
    exact tx_out hlocks hex (tx_runS (nA := 1) (rest := []) (cx_T_in l D htr) cx (gd_callS mc_T_in ml_T_42 ms_T_in mi_T) rfl (by decide +kernel) rfl ⟨Nat.le_of_ble_eq_true rfl, Nat.le_of_ble_eq_true rfl⟩ ⟨Nat.le_of_ble_eq_true rfl, Nat.le_of_ble_eq_true rfl⟩ hK hZ hl.1 rfl (Nat.le_of_ble_eq_true rfl) d_T_card_22)
  · refine lv_iload_n hx hb d_T_card_0 rfl (lv_at hl 1 rfl) ?_
    refine lv_if_lt (tgt := 21) hx hb d_T_card_1 (by decide) (fun z => absurd z hc9) (fun z => ?_)
    refine lv_iload_n hx hb d_T_card_4 rfl (lv_at hl 1 rfl) ?_
    refine lv_aload_n hx hb d_T_card_5 rfl (lv_at hl 0 rfl) ?_
    refine g_T2 cx hK hP 0 rfl d_T_card_6 ?_
    refine lv_bipush (v := nI 31) hx hb d_T_card_9 (by decide +kernel) ?_
    refine r_add hx hb d_T_card_11 ?_
    refine lv_iconst (v := nI 5) hx hb d_T_card_12 (by decide +kernel) ?_
    refine r_shr5 hx hb d_T_card_13 (by omega) ?_
    refine lv_icmp_ge (tgt := 21) hx hb d_T_card_14 (by decide) (fun z => ?_) (fun z => absurd (h.resolve_left hc9) z)
    refine lv_iconst (v := nI 0) hx hb d_T_card_21 (by decide +kernel) ?_
    exact tx_out hlocks hex (tx_runS (nA := 1) (rest := []) (cx_T_in l D htr) cx (gd_callS mc_T_in ml_T_42 ms_T_in mi_T) rfl (by decide +kernel) rfl ⟨Nat.le_of_ble_eq_true rfl, Nat.le_of_ble_eq_true rfl⟩ ⟨Nat.le_of_ble_eq_true rfl, Nat.le_of_ble_eq_true rfl⟩ hK hZ hl.1 rfl (Nat.le_of_ble_eq_true rfl) d_T_card_22)
set_option maxHeartbeats 4000000 in
set_option maxRecDepth 100000 in
theorem cx_T_cut (l : Launch) (D : va_G) (htr : l.stackTraces = false) {h0 h1 h3 N : Nat} {P : Int32} {x : Int32} (hN : N ≤ 16384) (h : x < 0 ∨ nI N ≤ x) : CtT l y_T_cut c_T_cut (rmX 2) D (wH h0 h1 h3 (nI N) P) [] [.ref h0, .int x] nmB := by
  refine r_thrower (by decide) (Nat.le_of_ble_eq_true rfl) ?_
  intro p e s m below meth c ls cx hlocks hex hK hP hZ hl
  have hx := cx.1
  have hb := cx.2.1
  have hl : lv_has ls 4 [(0, .ref h0), (1, .int x)] := hl
  refine lv_aload_n hx hb d_T_cut_0 rfl (lv_at hl 0 rfl) ?_
  refine lv_iload_n hx hb d_T_cut_1 rfl (lv_at hl 1 rfl) ?_
  exact tx_out hlocks hex (tx_runV (nA := 1) (rest := []) (cx_T_cell l D htr hN h) cx (gd_callV mc_T_cell ml_T_50 ms_T_cell mv_T_cell mi_T) (by decide +kernel) rfl ⟨Nat.le_of_ble_eq_true rfl, Nat.le_of_ble_eq_true rfl⟩ ⟨Nat.le_of_ble_eq_true rfl, Nat.le_of_ble_eq_true rfl⟩ hK hP hZ (ci := 0) rfl rfl rfl hl.1 rfl (Nat.le_of_ble_eq_true rfl) d_T_cut_2)
set_option maxHeartbeats 4000000 in
set_option maxRecDepth 100000 in
theorem cx_T_join (l : Launch) (D : va_G) (htr : l.stackTraces = false) {h0 h1 h3 N : Nat} {P : Int32} {x : Int32} (hN : N ≤ 16384) (h : x < 0 ∨ nI N ≤ x) : CtT l y_T_join c_T_join (rmX 2) D (wH h0 h1 h3 (nI N) P) [] [.ref h0, .int x] nmB := by
  refine r_thrower (by decide) (Nat.le_of_ble_eq_true rfl) ?_
  intro p e s m below meth c ls cx hlocks hex hK hP hZ hl
  have hx := cx.1
  have hb := cx.2.1
  have hl : lv_has ls 4 [(0, .ref h0), (1, .int x)] := hl
  refine lv_aload_n hx hb d_T_join_0 rfl (lv_at hl 0 rfl) ?_
  refine lv_iload_n hx hb d_T_join_1 rfl (lv_at hl 1 rfl) ?_
  exact tx_out hlocks hex (tx_runV (nA := 1) (rest := []) (cx_T_cell l D htr hN h) cx (gd_callV mc_T_cell ml_T_50 ms_T_cell mv_T_cell mi_T) (by decide +kernel) rfl ⟨Nat.le_of_ble_eq_true rfl, Nat.le_of_ble_eq_true rfl⟩ ⟨Nat.le_of_ble_eq_true rfl, Nat.le_of_ble_eq_true rfl⟩ hK hP hZ (ci := 0) rfl rfl rfl hl.1 rfl (Nat.le_of_ble_eq_true rfl) d_T_join_2)
set_option maxHeartbeats 4000000 in
set_option maxRecDepth 100000 in
theorem cx_T_begin (l : Launch) (D : va_G) (htr : l.stackTraces = false) {h0 h1 h3 N : Nat} {P : Int32} {x : Int32} (hN : N ≤ 16384) (h : x < 0 ∨ nI N ≤ x) : CtT l y_T_begin c_T_begin (rmX 2) D (wH h0 h1 h3 (nI N) P) [] [.ref h0, .int x] nmB := by
  refine r_thrower (by decide) (Nat.le_of_ble_eq_true rfl) ?_
  intro p e s m below meth c ls cx hlocks hex hK hP hZ hl
  have hx := cx.1
  have hb := cx.2.1
  have hl : lv_has ls 2 [(0, .ref h0), (1, .int x)] := hl
  refine lv_aload_n hx hb d_T_begin_0 rfl (lv_at hl 0 rfl) ?_
  refine lv_iload_n hx hb d_T_begin_1 rfl (lv_at hl 1 rfl) ?_
  exact tx_out hlocks hex (tx_runV (nA := 1) (rest := []) (cx_T_cell l D htr hN h) cx (gd_callV mc_T_cell ml_T_50 ms_T_cell mv_T_cell mi_T) (by decide +kernel) rfl ⟨Nat.le_of_ble_eq_true rfl, Nat.le_of_ble_eq_true rfl⟩ ⟨Nat.le_of_ble_eq_true rfl, Nat.le_of_ble_eq_true rfl⟩ hK hP hZ (ci := 0) rfl rfl rfl hl.1 rfl (Nat.le_of_ble_eq_true rfl) d_T_begin_2)
set_option maxHeartbeats 4000000 in
set_option maxRecDepth 100000 in
theorem cx_T_size (l : Launch) (D : va_G) (htr : l.stackTraces = false) {h0 h1 h3 N : Nat} {P : Int32} {x : Int32} (hN : N ≤ 16384) (h : x < 0 ∨ nI N ≤ x) : CtT l y_T_size c_T_size (rmX 2) D (wH h0 h1 h3 (nI N) P) [] [.ref h0, .int x] nmB := by
  refine r_thrower (by decide) (Nat.le_of_ble_eq_true rfl) ?_
  intro p e s m below meth c ls cx hlocks hex hK hP hZ hl
  have hx := cx.1
  have hb := cx.2.1
  have hl : lv_has ls 2 [(0, .ref h0), (1, .int x)] := hl
  refine lv_aload_n hx hb d_T_size_0 rfl (lv_at hl 0 rfl) ?_
  refine lv_iload_n hx hb d_T_size_1 rfl (lv_at hl 1 rfl) ?_
  exact tx_out hlocks hex (tx_runV (nA := 1) (rest := []) (cx_T_cell l D htr hN h) cx (gd_callV mc_T_cell ml_T_50 ms_T_cell mv_T_cell mi_T) (by decide +kernel) rfl ⟨Nat.le_of_ble_eq_true rfl, Nat.le_of_ble_eq_true rfl⟩ ⟨Nat.le_of_ble_eq_true rfl, Nat.le_of_ble_eq_true rfl⟩ hK hP hZ (ci := 0) rfl rfl rfl hl.1 rfl (Nat.le_of_ble_eq_true rfl) d_T_size_2)
set_option maxHeartbeats 4000000 in
set_option maxRecDepth 100000 in
theorem cx_T_start (l : Launch) (D : va_G) (htr : l.stackTraces = false) {h0 h1 h3 N : Nat} {P : Int32} {x : Int32} (hN : N ≤ 16384) (h : x < 0 ∨ nI ((N + 31) / 32) ≤ x) : CtT l y_T_start c_T_start (rmX 2) D (wH h0 h1 h3 (nI N) P) [] [.ref h0, .int x] nmB := by
  refine r_thrower (by decide) (Nat.le_of_ble_eq_true rfl) ?_
  intro p e s m below meth c ls cx hlocks hex hK hP hZ hl
  have hx := cx.1
  have hb := cx.2.1
  have hl : lv_has ls 2 [(0, .ref h0), (1, .int x)] := hl
  refine lv_aload_n hx hb d_T_start_0 rfl (lv_at hl 0 rfl) ?_
  refine lv_iload_n hx hb d_T_start_1 rfl (lv_at hl 1 rfl) ?_
  exact tx_out hlocks hex (tx_runV (nA := 1) (rest := []) (cx_T_card l D htr hN h) cx (gd_callV mc_T_card ml_T_59 ms_T_card mv_T_card mi_T) (by decide +kernel) rfl ⟨Nat.le_of_ble_eq_true rfl, Nat.le_of_ble_eq_true rfl⟩ ⟨Nat.le_of_ble_eq_true rfl, Nat.le_of_ble_eq_true rfl⟩ hK hP hZ (ci := 0) rfl rfl rfl hl.1 rfl (Nat.le_of_ble_eq_true rfl) d_T_start_2)
set_option maxHeartbeats 4000000 in
set_option maxRecDepth 100000 in
theorem cx_T_begins (l : Launch) (D : va_G) (htr : l.stackTraces = false) {h0 h1 h3 N : Nat} {P : Int32} {x : Int32} (hN : N ≤ 16384) (h : x < 0 ∨ nI ((N + 31) / 32) ≤ x) : CtT l y_T_begins c_T_begins (rmX 2) D (wH h0 h1 h3 (nI N) P) [] [.ref h0, .int x] nmB := by
  refine r_thrower (by decide) (Nat.le_of_ble_eq_true rfl) ?_
  intro p e s m below meth c ls cx hlocks hex hK hP hZ hl
  have hx := cx.1
  have hb := cx.2.1
  have hl : lv_has ls 6 [(0, .ref h0), (1, .int x)] := hl
  refine lv_aload_n hx hb d_T_begins_0 rfl (lv_at hl 0 rfl) ?_
  refine lv_iload_n hx hb d_T_begins_1 rfl (lv_at hl 1 rfl) ?_
  exact tx_out hlocks hex (tx_runV (nA := 1) (rest := []) (cx_T_card l D htr hN h) cx (gd_callV mc_T_card ml_T_59 ms_T_card mv_T_card mi_T) (by decide +kernel) rfl ⟨Nat.le_of_ble_eq_true rfl, Nat.le_of_ble_eq_true rfl⟩ ⟨Nat.le_of_ble_eq_true rfl, Nat.le_of_ble_eq_true rfl⟩ hK hP hZ (ci := 0) rfl rfl rfl hl.1 rfl (Nat.le_of_ble_eq_true rfl) d_T_begins_2)
set_option maxHeartbeats 4000000 in
set_option maxRecDepth 100000 in
theorem cx_T_make1 (l : Launch) (D : va_G) (htr : l.stackTraces = false) {h0 h1 h3 N : Nat} {P : Int32} {x : Int32} (hN : N ≤ 16384) {y : Int32} (h : x < 0 ∨ nI N ≤ x) : CtT l y_T_make c_T_make (rmX 2) D (wH h0 h1 h3 (nI N) P) [] [.ref h0, .int x, .int y] nmB := by
  refine r_thrower (by decide) (Nat.le_of_ble_eq_true rfl) ?_
  intro p e s m below meth c ls cx hlocks hex hK hP hZ hl
  have hx := cx.1
  have hb := cx.2.1
  have hl : lv_has ls 4 [(0, .ref h0), (1, .int x), (2, .int y)] := hl
  refine lv_aload_n hx hb d_T_make_0 rfl (lv_at hl 0 rfl) ?_
  refine lv_iload_n hx hb d_T_make_1 rfl (lv_at hl 1 rfl) ?_
  exact tx_out hlocks hex (tx_runV (nA := 1) (rest := []) (cx_T_cell l D htr hN h) cx (gd_callV mc_T_cell ml_T_50 ms_T_cell mv_T_cell mi_T) (by decide +kernel) rfl ⟨Nat.le_of_ble_eq_true rfl, Nat.le_of_ble_eq_true rfl⟩ ⟨Nat.le_of_ble_eq_true rfl, Nat.le_of_ble_eq_true rfl⟩ hK hP hZ (ci := 0) rfl rfl rfl hl.1 rfl (Nat.le_of_ble_eq_true rfl) d_T_make_2)
set_option maxHeartbeats 4000000 in
set_option maxRecDepth 100000 in
theorem cx_T_make2 (l : Launch) (D : va_G) (htr : l.stackTraces = false) {h0 h1 h3 N : Nat} {P : Int32} (hN : N ≤ 16384) {a : Nat} (ha : a < N) {y : Int32} (h : y ≤ nI a ∨ nI N < y) : CtT l y_T_make c_T_make (rmX 2) D (wH h0 h1 h3 (nI N) P) [] [.ref h0, .int (nI a), .int y] nmB := by
  refine r_thrower (by decide) (Nat.le_of_ble_eq_true rfl) ?_
  intro p e s m below meth c ls cx hlocks hex hK hP hZ hl
  have hx := cx.1
  have hb := cx.2.1
  have hl : lv_has ls 4 [(0, .ref h0), (1, .int (nI a)), (2, .int y)] := hl
  refine lv_aload_n hx hb d_T_make_0 rfl (lv_at hl 0 rfl) ?_
  refine lv_iload_n hx hb d_T_make_1 rfl (lv_at hl 1 rfl) ?_
  refine r_callPv (nA := 1) (rest := []) (ct_T_cell l D hN ha) cx (gd_callV mc_T_cell ml_T_50 ms_T_cell mv_T_cell mi_T) (by decide +kernel) rfl ⟨rfl, rfl⟩ ⟨Nat.le_of_ble_eq_true rfl, Nat.le_of_ble_eq_true rfl⟩ ⟨Nat.le_of_ble_eq_true rfl, Nat.le_of_ble_eq_true rfl⟩ hK hP [0] [] rfl rfl (ci := 0) rfl rfl rfl hl.1 rfl (Nat.le_of_ble_eq_true rfl) d_T_make_2 ?_
  by_cases hc9 : y ≤ nI a
  · refine lv_iload_n hx hb d_T_make_5 rfl (lv_at hl 2 rfl) ?_
    refine lv_iload_n hx hb d_T_make_6 rfl (lv_at hl 1 rfl) ?_
    refine lv_icmp_le (tgt := 22) hx hb d_T_make_7 (by decide) (fun z => ?_) (fun z => absurd hc9 z)
    refine lv_iconst (v := nI 0) hx hb d_T_make_22 (by decide +kernel) ?_
    exact tx_out hlocks hex (tx_runS (nA := 1) (rest := []) (cx_T_in l D htr) cx (gd_callS mc_T_in ml_T_42 ms_T_in mi_T) rfl (by decide +kernel) rfl ⟨Nat.le_of_ble_eq_true rfl, Nat.le_of_ble_eq_true rfl⟩ ⟨Nat.le_of_ble_eq_true rfl, Nat.le_of_ble_eq_true rfl⟩ hK hZ hl.1 rfl (Nat.le_of_ble_eq_true rfl) d_T_make_23)
  · refine lv_iload_n hx hb d_T_make_5 rfl (lv_at hl 2 rfl) ?_
    refine lv_iload_n hx hb d_T_make_6 rfl (lv_at hl 1 rfl) ?_
    refine lv_icmp_le (tgt := 22) hx hb d_T_make_7 (by decide) (fun z => absurd z hc9) (fun z => ?_)
    refine lv_iload_n hx hb d_T_make_10 rfl (lv_at hl 2 rfl) ?_
    refine lv_aload_n hx hb d_T_make_11 rfl (lv_at hl 0 rfl) ?_
    refine g_T2 cx hK hP 0 rfl d_T_make_12 ?_
    refine lv_icmp_gt (tgt := 22) hx hb d_T_make_15 (by decide) (fun z => ?_) (fun z => absurd (h.resolve_left hc9) z)
    refine lv_iconst (v := nI 0) hx hb d_T_make_22 (by decide +kernel) ?_
    exact tx_out hlocks hex (tx_runS (nA := 1) (rest := []) (cx_T_in l D htr) cx (gd_callS mc_T_in ml_T_42 ms_T_in mi_T) rfl (by decide +kernel) rfl ⟨Nat.le_of_ble_eq_true rfl, Nat.le_of_ble_eq_true rfl⟩ ⟨Nat.le_of_ble_eq_true rfl, Nat.le_of_ble_eq_true rfl⟩ hK hZ hl.1 rfl (Nat.le_of_ble_eq_true rfl) d_T_make_23)
theorem nle_of {x y : Int32} (h : y < x) (z : x ≤ y) : False := by
  rw [Int32.lt_iff_toInt_lt] at h
  rw [Int32.le_iff_toInt_le] at z
  omega
set_option maxHeartbeats 4000000 in
set_option maxRecDepth 100000 in
theorem cx_T_space (l : Launch) (D : va_G) (htr : l.stackTraces = false) {h0 h1 h3 N : Nat} {P : Int32} {x : Int32} (h : x < nI 1 ∨ nI 16384 < x) : CtT l y_T_space c_T_space (rmX 2) D (wH h0 h1 h3 (nI N) P) [] [.ref h0, .int x] nmA := by
  refine r_thrower (by decide) (Nat.le_of_ble_eq_true rfl) ?_
  intro p e s m below meth c ls cx hlocks hex hK hP hZ hl
  have hx := cx.1
  have hb := cx.2.1
  have hl : lv_has ls 3 [(0, .ref h0), (1, .int x)] := hl
  by_cases hc9 : x < nI 1
  · refine lv_iload_n hx hb d_T_space_0 rfl (lv_at hl 1 rfl) ?_
    refine lv_iconst (v := nI 1) hx hb d_T_space_1 (by decide +kernel) ?_
    refine lv_icmp_lt (tgt := 12) hx hb d_T_space_2 (by decide) (fun z => ?_) (fun z => absurd hc9 z)
    exact tx_throw htr cx hlocks hex hZ oa_1 (by decide +kernel) mk_T_36 mn_IAE mi_IAE hl.1 ⟨Nat.le_of_ble_eq_true rfl, Nat.le_of_ble_eq_true rfl, Nat.le_of_ble_eq_true rfl, Nat.le_of_ble_eq_true rfl⟩ d_T_space_12 d_T_space_15 d_T_space_16 d_T_space_19
  · refine lv_iload_n hx hb d_T_space_0 rfl (lv_at hl 1 rfl) ?_
    refine lv_iconst (v := nI 1) hx hb d_T_space_1 (by decide +kernel) ?_
    refine lv_icmp_lt (tgt := 12) hx hb d_T_space_2 (by decide) (fun z => absurd z hc9) (fun z => ?_)
    refine lv_iload_n hx hb d_T_space_5 rfl (lv_at hl 1 rfl) ?_
    refine lv_sipush (v := nI 16384) hx hb d_T_space_6 (by decide +kernel) ?_
    refine lv_icmp_le (tgt := 20) hx hb d_T_space_9 (by decide) (fun z => (nle_of (h.resolve_left hc9) z).elim) (fun z => ?_)
    exact tx_throw htr cx hlocks hex hZ oa_1 (by decide +kernel) mk_T_36 mn_IAE mi_IAE hl.1 ⟨Nat.le_of_ble_eq_true rfl, Nat.le_of_ble_eq_true rfl, Nat.le_of_ble_eq_true rfl, Nat.le_of_ble_eq_true rfl⟩ d_T_space_12 d_T_space_15 d_T_space_16 d_T_space_19
set_option maxHeartbeats 4000000 in
set_option maxRecDepth 100000 in
theorem cx_T_count (l : Launch) (D : va_G) (htr : l.stackTraces = false) {h0 h1 h3 N : Nat} {P : Int32} {x : Int32} (h : x < 0 ∨ nI 4 < x) : CtT l y_T_count c_T_count (rmX 2) D (wH h0 h1 h3 (nI N) P) [] [.ref h0, .int x] nmA := by
  refine r_thrower (by decide) (Nat.le_of_ble_eq_true rfl) ?_
  intro p e s m below meth c ls cx hlocks hex hK hP hZ hl
  have hx := cx.1
  have hb := cx.2.1
  have hl : lv_has ls 2 [(0, .ref h0), (1, .int x)] := hl
  refine lv_iload_n hx hb d_T_count_0 rfl (lv_at hl 1 rfl) ?_
  refine lv_tableOut (tgt := 68) hx hb d_T_count_1 (by
      rcases h with h | h
      · rw [Int32.lt_iff_toInt_lt, Int32.toInt_zero] at h; exact Or.inl h
      · rw [Int32.lt_iff_toInt_lt, ti_n (by omega)] at h; exact Or.inr h) (by decide) ?_
  exact tx_throw htr cx hlocks hex hZ oa_1 (by decide +kernel) mk_T_36 mn_IAE mi_IAE hl.1 ⟨Nat.le_of_ble_eq_true rfl, Nat.le_of_ble_eq_true rfl, Nat.le_of_ble_eq_true rfl, Nat.le_of_ble_eq_true rfl⟩ d_T_count_68 d_T_count_71 d_T_count_72 d_T_count_75
end
section
set_option maxHeartbeats 4000000 in
set_option maxRecDepth 100000 in
theorem ct_M_thrown (l : Launch) (D : va_G) {g0 g1 : Nat} {c3 : ClassId} {th : Int32} {N : Nat} {B : Nat → Bool} : CpI l y_M_thrown c_M_thrown (rmL 0) D (wM g0 g1 c3 th (nI N) B) (tM c3) [.ref g0] (fun r => r = th) := by
  refine r_pureI (by decide) (Nat.le_of_ble_eq_true rfl) ?_
  intro p e s m below meth c ls cx hr hlocks hK hP hl
  have hx := cx.1
  have hb := cx.2.1
  have hl : lv_has ls 1 [(0, .ref g0)] := hl
  refine lv_aload_n hx hb d_M_thrown_0 rfl (lv_at hl 0 rfl) ?_
  refine g_M0 cx hK hP 0 rfl d_M_thrown_1 ?_
  exact e_pi cx hr hlocks rfl d_M_thrown_4
set_option maxHeartbeats 4000000 in
set_option maxRecDepth 100000 in
theorem ct_M_cards (l : Launch) (D : va_G) {g0 g1 : Nat} {c3 : ClassId} {th : Int32} {N : Nat} {B : Nat → Bool} (hN : N ≤ 16384) : CpI l y_M_cards c_M_cards (rmL 0) D (wM g0 g1 c3 th (nI N) B) (tM c3) [.ref g0] (fun r => r = nI ((N + 31) / 32)) := by
  refine r_pureI (by decide) (Nat.le_of_ble_eq_true rfl) ?_
  intro p e s m below meth c ls cx hr hlocks hK hP hl
  have hx := cx.1
  have hb := cx.2.1
  have hl : lv_has ls 1 [(0, .ref g0)] := hl
  refine lv_aload_n hx hb d_M_cards_0 rfl (lv_at hl 0 rfl) ?_
  refine g_M1 cx hK hP 0 rfl d_M_cards_1 ?_
  refine lv_bipush (v := nI 31) hx hb d_M_cards_4 (by decide +kernel) ?_
  refine r_add hx hb d_M_cards_6 ?_
  refine lv_bipush (v := nI 32) hx hb d_M_cards_7 (by decide +kernel) ?_
  refine r_div32 hx hb d_M_cards_9 (by omega) ?_
  exact e_pi cx hr hlocks rfl d_M_cards_10
set_option maxHeartbeats 4000000 in
set_option maxRecDepth 100000 in
theorem ct_M_isCell (l : Launch) (D : va_G) {g0 g1 : Nat} {c3 : ClassId} {th : Int32} {N : Nat} {B : Nat → Bool} (hN : N ≤ 16384) {a : Nat} (ha : a < N) : CpI l y_M_isCell c_M_isCell (rmL 0) D (wM g0 g1 c3 th (nI N) B) (tM c3) [.ref g0, .int (nI a)] (fun r => r = nI 1) := by
  refine r_pureI (by decide) (Nat.le_of_ble_eq_true rfl) ?_
  intro p e s m below meth c ls cx hr hlocks hK hP hl
  have hx := cx.1
  have hb := cx.2.1
  have hl : lv_has ls 2 [(0, .ref g0), (1, .int (nI a))] := hl
  refine lv_iload_n hx hb d_M_isCell_0 rfl (lv_at hl 1 rfl) ?_
  refine r_iflt (tgt := 16) hx hb d_M_isCell_1 (by decide) (by omega) ?_
  refine lv_iload_n hx hb d_M_isCell_4 rfl (lv_at hl 1 rfl) ?_
  refine lv_aload_n hx hb d_M_isCell_5 rfl (lv_at hl 0 rfl) ?_
  refine g_M1 cx hK hP 0 rfl d_M_isCell_6 ?_
  refine r_ige (tgt := 16) hx hb d_M_isCell_9 (by decide) (by omega) (by omega) (fun z => by omega) (fun z => ?_)
  refine lv_iconst (v := nI 1) hx hb d_M_isCell_12 (by decide +kernel) ?_
  refine lv_goto (tgt := 17) hx hb d_M_isCell_13 (by decide) ?_
  exact e_pz cx hr hlocks nar1 rfl d_M_isCell_17
set_option maxHeartbeats 4000000 in
set_option maxRecDepth 100000 in
theorem cn_M_isCell (l : Launch) (D : va_G) {g0 g1 : Nat} {c3 : ClassId} {th : Int32} {N : Nat} {B : Nat → Bool} {x : Int32} (h : x < 0 ∨ nI N ≤ x) : CpI l y_M_isCell c_M_isCell (rmL 0) D (wM g0 g1 c3 th (nI N) B) (tM c3) [.ref g0, .int x] (fun r => r = nI 0) := by
  refine r_pureI (by decide) (Nat.le_of_ble_eq_true rfl) ?_
  intro p e s m below meth c ls cx hr hlocks hK hP hl
  have hx := cx.1
  have hb := cx.2.1
  have hl : lv_has ls 2 [(0, .ref g0), (1, .int x)] := hl
  by_cases hc9 : x < 0
  · refine lv_iload_n hx hb d_M_isCell_0 rfl (lv_at hl 1 rfl) ?_
    refine lv_if_lt (tgt := 16) hx hb d_M_isCell_1 (by decide) (fun z => ?_) (fun z => absurd hc9 z)
    refine lv_iconst (v := nI 0) hx hb d_M_isCell_16 (by decide +kernel) ?_
    exact e_pz cx hr hlocks nar0 rfl d_M_isCell_17
  · refine lv_iload_n hx hb d_M_isCell_0 rfl (lv_at hl 1 rfl) ?_
    refine lv_if_lt (tgt := 16) hx hb d_M_isCell_1 (by decide) (fun z => absurd z hc9) (fun z => ?_)
    refine lv_iload_n hx hb d_M_isCell_4 rfl (lv_at hl 1 rfl) ?_
    refine lv_aload_n hx hb d_M_isCell_5 rfl (lv_at hl 0 rfl) ?_
    refine g_M1 cx hK hP 0 rfl d_M_isCell_6 ?_
    refine lv_icmp_ge (tgt := 16) hx hb d_M_isCell_9 (by decide) (fun z => ?_) (fun z => absurd (h.resolve_left hc9) z)
    refine lv_iconst (v := nI 0) hx hb d_M_isCell_16 (by decide +kernel) ?_
    exact e_pz cx hr hlocks nar0 rfl d_M_isCell_17
set_option maxHeartbeats 4000000 in
set_option maxRecDepth 100000 in
theorem ct_M_isCard (l : Launch) (D : va_G) {g0 g1 : Nat} {c3 : ClassId} {th : Int32} {N : Nat} {B : Nat → Bool} (hN : N ≤ 16384) {k : Nat} (ha : k < (N + 31) / 32) : CpI l y_M_isCard c_M_isCard (rmL 1) D (wM g0 g1 c3 th (nI N) B) (tM c3) [.ref g0, .int (nI k)] (fun r => r = nI 1) := by
  refine r_pureI (by decide) (Nat.le_of_ble_eq_true rfl) ?_
  intro p e s m below meth c ls cx hr hlocks hK hP hl
  have hx := cx.1
  have hb := cx.2.1
  have hl : lv_has ls 2 [(0, .ref g0), (1, .int (nI k))] := hl
  refine lv_iload_n hx hb d_M_isCard_0 rfl (lv_at hl 1 rfl) ?_
  refine r_iflt (tgt := 16) hx hb d_M_isCard_1 (by decide) (by omega) ?_
  refine lv_iload_n hx hb d_M_isCard_4 rfl (lv_at hl 1 rfl) ?_
  refine lv_aload_n hx hb d_M_isCard_5 rfl (lv_at hl 0 rfl) ?_
  refine r_callPi (nA := 0) (rest := [.int (nI k)]) (ct_M_cards l D hN) cx (gd_callV mc_M_cards ml_M_20 ms_M_cards mv_M_cards mi_M) (by decide +kernel) rfl ⟨rfl, rfl⟩ ⟨Nat.le_of_ble_eq_true rfl, Nat.le_of_ble_eq_true rfl⟩ ⟨Nat.le_of_ble_eq_true rfl, Nat.le_of_ble_eq_true rfl⟩ hK hP [0, 1] [0] rfl rfl (ci := 2) rfl rfl rfl hl.1 rfl (Nat.le_of_ble_eq_true rfl) d_M_isCard_6 (fun r9 h9 => ?_)
  obtain rfl := h9
  refine r_ige (tgt := 16) hx hb d_M_isCard_9 (by decide) (by omega) (by omega) (fun z => by omega) (fun z => ?_)
  refine lv_iconst (v := nI 1) hx hb d_M_isCard_12 (by decide +kernel) ?_
  refine lv_goto (tgt := 17) hx hb d_M_isCard_13 (by decide) ?_
  exact e_pz cx hr hlocks nar1 rfl d_M_isCard_17
set_option maxHeartbeats 4000000 in
set_option maxRecDepth 100000 in
theorem cn_M_isCard (l : Launch) (D : va_G) {g0 g1 : Nat} {c3 : ClassId} {th : Int32} {N : Nat} {B : Nat → Bool} (hN : N ≤ 16384) {x : Int32} (h : x < 0 ∨ nI ((N + 31) / 32) ≤ x) : CpI l y_M_isCard c_M_isCard (rmL 1) D (wM g0 g1 c3 th (nI N) B) (tM c3) [.ref g0, .int x] (fun r => r = nI 0) := by
  refine r_pureI (by decide) (Nat.le_of_ble_eq_true rfl) ?_
  intro p e s m below meth c ls cx hr hlocks hK hP hl
  have hx := cx.1
  have hb := cx.2.1
  have hl : lv_has ls 2 [(0, .ref g0), (1, .int x)] := hl
  by_cases hc9 : x < 0
  · refine lv_iload_n hx hb d_M_isCard_0 rfl (lv_at hl 1 rfl) ?_
    refine lv_if_lt (tgt := 16) hx hb d_M_isCard_1 (by decide) (fun z => ?_) (fun z => absurd hc9 z)
    refine lv_iconst (v := nI 0) hx hb d_M_isCard_16 (by decide +kernel) ?_
    exact e_pz cx hr hlocks nar0 rfl d_M_isCard_17
  · refine lv_iload_n hx hb d_M_isCard_0 rfl (lv_at hl 1 rfl) ?_
    refine lv_if_lt (tgt := 16) hx hb d_M_isCard_1 (by decide) (fun z => absurd z hc9) (fun z => ?_)
    refine lv_iload_n hx hb d_M_isCard_4 rfl (lv_at hl 1 rfl) ?_
    refine lv_aload_n hx hb d_M_isCard_5 rfl (lv_at hl 0 rfl) ?_
    refine r_callPi (nA := 0) (rest := [.int x]) (ct_M_cards l D hN) cx (gd_callV mc_M_cards ml_M_20 ms_M_cards mv_M_cards mi_M) (by decide +kernel) rfl ⟨rfl, rfl⟩ ⟨Nat.le_of_ble_eq_true rfl, Nat.le_of_ble_eq_true rfl⟩ ⟨Nat.le_of_ble_eq_true rfl, Nat.le_of_ble_eq_true rfl⟩ hK hP [0, 1] [0] rfl rfl (ci := 2) rfl rfl rfl hl.1 rfl (Nat.le_of_ble_eq_true rfl) d_M_isCard_6 (fun r9 h9 => ?_)
    obtain rfl := h9
    refine lv_icmp_ge (tgt := 16) hx hb d_M_isCard_9 (by decide) (fun z => ?_) (fun z => absurd (h.resolve_left hc9) z)
    refine lv_iconst (v := nI 0) hx hb d_M_isCard_16 (by decide +kernel) ?_
    exact e_pz cx hr hlocks nar0 rfl d_M_isCard_17
set_option maxHeartbeats 4000000 in
set_option maxRecDepth 100000 in
theorem ct_M_from (l : Launch) (D : va_G) {g0 g1 : Nat} {c3 : ClassId} {th : Int32} {N : Nat} {B : Nat → Bool} (h0 : B 0 = true) {a : Nat} (ha : a ≤ 16384) : CpI l y_M_from c_M_from (rmL 0) D (wM g0 g1 c3 th (nI N) B) (tM c3) [.ref g0, .int (nI a)] (fun r => r = nI (pv B a)) := by
  refine r_pureI (by decide) (Nat.le_of_ble_eq_true rfl) ?_
  intro p e s m below meth c ls cx hr hlocks hK hP hl
  have hx := cx.1
  have hb := cx.2.1
  have hl : lv_has ls 3 [(0, .ref g0), (1, .int (nI a))] := hl
  refine lv_iload_n hx hb d_M_from_0 rfl (lv_at hl 1 rfl) ?_
  refine lv_istore_n (lv' := [(2, .int (nI a)), (0, .ref g0), (1, .int (nI a))]) hx hb d_M_from_1 rfl hl (by decide) rfl (fun ls hl => ?_)
  refine r_loopP (I := fun (q : Nat) ls => (q ≤ a ∧ pv B q = pv B a) ∧ lv_has ls 3 [(0, .ref g0), (1, .int (nI a)), (2, .int (nI q))]) (μ := fun q => q) ?_ a ⟨⟨Nat.le_refl a, rfl⟩, lv_sub hl [1, 2, 0] rfl⟩
  intro q ls ⟨⟨hq1, hq2⟩, hl⟩ ih
  refine lv_aload_n hx hb d_M_from_2 rfl (lv_at hl 0 rfl) ?_
  refine g_M2 cx hK hP 0 rfl d_M_from_3 ?_
  refine lv_iload_n hx hb d_M_from_6 rfl (lv_at hl 2 rfl) ?_
  refine r_zald hx hb hK hP 1 0 rfl rfl (show q < 16385 by omega) (by omega) d_M_from_7 ?_
  refine r_ifneB (tgt := 17) hx hb d_M_from_8 (by decide) (fun z1 => ?_) (fun z1 => ?_)
  · refine lv_iload_n hx hb d_M_from_17 rfl (lv_at hl 2 rfl) ?_
    exact e_pi cx hr hlocks (by rw [← hq2, pv_self h0 z1]) d_M_from_18
  · obtain ⟨d, rfl⟩ : ∃ d, q = d + 1 := ⟨q - 1, by
        rcases Nat.eq_zero_or_pos q with z | z
        · subst z; exact (bt_ne h0 z1).elim
        · omega⟩
    refine lv_iinc (v := nI d) (lv' := [(2, .int (nI d)), (0, .ref g0), (1, .int (nI a))]) hx hb d_M_from_11 hl (k := 2) rfl (dec1 _) (by decide) rfl (fun ls hl => ?_)
    refine lv_goto (tgt := 2) hx hb d_M_from_14 (by decide) ?_
    exact ih d ls (Nat.lt_succ_self d) ⟨⟨by omega, by rw [← hq2, pv_pred z1]⟩, lv_sub hl [1, 2, 0] rfl⟩
set_option maxHeartbeats 4000000 in
set_option maxRecDepth 100000 in
theorem ct_M_behind (l : Launch) (D : va_G) {g0 g1 : Nat} {c3 : ClassId} {th : Int32} {N : Nat} {B : Nat → Bool} (hN : N ≤ 16384) (hB : B N = true) {a : Nat} (ha : a < N) : CpI l y_M_behind c_M_behind (rmL 0) D (wM g0 g1 c3 th (nI N) B) (tM c3) [.ref g0, .int (nI a)] (fun r => r = nI (nx B N a)) := by
  refine r_pureI (by decide) (Nat.le_of_ble_eq_true rfl) ?_
  intro p e s m below meth c ls cx hr hlocks hK hP hl
  have hx := cx.1
  have hb := cx.2.1
  have hl : lv_has ls 3 [(0, .ref g0), (1, .int (nI a))] := hl
  refine lv_iload_n hx hb d_M_behind_0 rfl (lv_at hl 1 rfl) ?_
  refine lv_iconst (v := nI 1) hx hb d_M_behind_1 (by decide +kernel) ?_
  refine r_add hx hb d_M_behind_2 ?_
  refine lv_istore_n (lv' := [(2, .int (nI (a + 1))), (0, .ref g0), (1, .int (nI a))]) hx hb d_M_behind_3 rfl hl (by decide) rfl (fun ls hl => ?_)
  have hnl := nx_le hB ha
  have hng := nx_is hB ha
  refine r_loopP (I := fun (q : Nat) ls => (a < q ∧ q ≤ nx B N a) ∧ lv_has ls 3 [(0, .ref g0), (1, .int (nI a)), (2, .int (nI q))]) (μ := fun q => nx B N a - q) ?_ (a + 1) ⟨⟨Nat.lt_succ_self a, hng.1⟩, lv_sub hl [1, 2, 0] rfl⟩
  intro q ls ⟨⟨hq1, hq2⟩, hl⟩ ih
  refine lv_aload_n hx hb d_M_behind_4 rfl (lv_at hl 0 rfl) ?_
  refine g_M2 cx hK hP 0 rfl d_M_behind_5 ?_
  refine lv_iload_n hx hb d_M_behind_8 rfl (lv_at hl 2 rfl) ?_
  refine r_zald hx hb hK hP 1 0 rfl rfl (show q < 16385 by omega) (by omega) d_M_behind_9 ?_
  refine r_ifneB (tgt := 19) hx hb d_M_behind_10 (by decide) (fun z1 => ?_) (fun z1 => ?_)
  · refine lv_iload_n hx hb d_M_behind_19 rfl (lv_at hl 2 rfl) ?_
    have e9 : q = nx B N a := by
      rcases Nat.lt_or_ge q (nx B N a) with z | z
      · exact (bt_ne z1 (hng.2.2 q hq1 z)).elim
      · omega
    exact e_pi cx hr hlocks (by rw [e9]) d_M_behind_20
  · have hlt : q < nx B N a := by
      rcases Nat.lt_or_ge q (nx B N a) with z | z
      · exact z
      · exact (bt_ne (show B q = true by rw [show q = nx B N a by omega]; exact hng.2.1) z1).elim
    refine lv_iinc (v := nI (q + 1)) (lv' := [(2, .int (nI (q + 1))), (0, .ref g0), (1, .int (nI a))]) hx hb d_M_behind_13 hl (k := 2) rfl (inc1 _) (by decide) rfl (fun ls hl => ?_)
    refine lv_goto (tgt := 4) hx hb d_M_behind_16 (by decide) ?_
    exact ih (q + 1) ls (by omega) ⟨⟨by omega, by omega⟩, lv_sub hl [1, 2, 0] rfl⟩
set_option maxHeartbeats 4000000 in
set_option maxRecDepth 100000 in
theorem ct_M_pieces (l : Launch) (D : va_G) {g0 g1 : Nat} {c3 : ClassId} {th : Int32} {N : Nat} {B : Nat → Bool} (hN : N ≤ 16384) : CpI l y_M_pieces c_M_pieces (rmL 0) D (wM g0 g1 c3 th (nI N) B) (tM c3) [.ref g0] (fun r => r = nI (cnt B N)) := by
  refine r_pureI (by decide) (Nat.le_of_ble_eq_true rfl) ?_
  intro p e s m below meth c ls cx hr hlocks hK hP hl
  have hx := cx.1
  have hb := cx.2.1
  have hl : lv_has ls 3 [(0, .ref g0)] := hl
  refine lv_iconst (v := nI 0) hx hb d_M_pieces_0 (by decide +kernel) ?_
  refine lv_istore_n (lv' := [(1, .int (nI 0)), (0, .ref g0)]) hx hb d_M_pieces_1 rfl hl (by decide) rfl (fun ls hl => ?_)
  refine lv_iconst (v := nI 0) hx hb d_M_pieces_2 (by decide +kernel) ?_
  refine lv_istore_n (lv' := [(2, .int (nI 0)), (1, .int (nI 0)), (0, .ref g0)]) hx hb d_M_pieces_3 rfl hl (by decide) rfl (fun ls hl => ?_)
  refine r_loopP (I := fun (q : Nat) ls => q ≤ N ∧ lv_has ls 3 [(0, .ref g0), (1, .int (nI (cnt B q))), (2, .int (nI q))]) (μ := fun q => N - q) ?_ 0 ⟨Nat.zero_le N, lv_sub hl [2, 1, 0] rfl⟩
  intro q ls ⟨hq1, hl⟩ ih
  refine lv_iload_n hx hb d_M_pieces_4 rfl (lv_at hl 2 rfl) ?_
  refine lv_aload_n hx hb d_M_pieces_5 rfl (lv_at hl 0 rfl) ?_
  refine g_M1 cx hK hP 0 rfl d_M_pieces_6 ?_
  refine r_ige (tgt := 35) hx hb d_M_pieces_9 (by decide) (by omega) (by omega) (fun z1 => ?_) (fun z1 => ?_)
  · refine lv_iload_n hx hb d_M_pieces_35 rfl (lv_at hl 1 rfl) ?_
    exact e_pi cx hr hlocks (by rw [show q = N by omega]) d_M_pieces_36
  · refine lv_aload_n hx hb d_M_pieces_12 rfl (lv_at hl 0 rfl) ?_
    refine g_M2 cx hK hP 0 rfl d_M_pieces_13 ?_
    refine lv_iload_n hx hb d_M_pieces_16 rfl (lv_at hl 2 rfl) ?_
    refine r_zald hx hb hK hP 1 0 rfl rfl (show q < 16385 by omega) (by omega) d_M_pieces_17 ?_
    refine r_ifeqB (tgt := 27) hx hb d_M_pieces_18 (by decide) (fun z2 => ?_) (fun z2 => ?_)
    · have hcs := cnt_f z2
      refine lv_iload_n hx hb d_M_pieces_27 rfl (lv_at hl 1 rfl) ?_
      rw [← hcs]
      refine lv_istore_n (lv' := [(1, .int (nI (cnt B (q + 1)))), (0, .ref g0), (2, .int (nI q))]) hx hb d_M_pieces_28 rfl hl (by decide) rfl (fun ls hl => ?_)
      refine lv_iinc (v := nI (q + 1)) (lv' := [(2, .int (nI (q + 1))), (1, .int (nI (cnt B (q + 1)))), (0, .ref g0)]) hx hb d_M_pieces_29 hl (k := 2) rfl (inc1 _) (by decide) rfl (fun ls hl => ?_)
      refine lv_goto (tgt := 4) hx hb d_M_pieces_32 (by decide) ?_
      exact ih (q + 1) ls (by omega) ⟨by omega, lv_sub hl [2, 1, 0] rfl⟩
    · have hcs := cnt_t z2
      refine lv_iload_n hx hb d_M_pieces_21 rfl (lv_at hl 1 rfl) ?_
      refine lv_iconst (v := nI 1) hx hb d_M_pieces_22 (by decide +kernel) ?_
      refine r_add hx hb d_M_pieces_23 ?_
      refine lv_goto (tgt := 28) hx hb d_M_pieces_24 (by decide) ?_
      rw [← hcs]
      refine lv_istore_n (lv' := [(1, .int (nI (cnt B (q + 1)))), (0, .ref g0), (2, .int (nI q))]) hx hb d_M_pieces_28 rfl hl (by decide) rfl (fun ls hl => ?_)
      refine lv_iinc (v := nI (q + 1)) (lv' := [(2, .int (nI (q + 1))), (1, .int (nI (cnt B (q + 1)))), (0, .ref g0)]) hx hb d_M_pieces_29 hl (k := 2) rfl (inc1 _) (by decide) rfl (fun ls hl => ?_)
      refine lv_goto (tgt := 4) hx hb d_M_pieces_32 (by decide) ?_
      exact ih (q + 1) ls (by omega) ⟨by omega, lv_sub hl [2, 1, 0] rfl⟩
set_option maxHeartbeats 4000000 in
set_option maxRecDepth 100000 in
theorem ct_M_goes (l : Launch) (D : va_G) {g0 g1 : Nat} {th M : Int32} : CtI l y_M_goes c_M_goes (rmL 0) D (wG g0 g1 th M) [] [.ref g0, .int (nI 1)] (fun r (_ : Unit) => r = nI 1) (fun _ => []) (fun _ => wG g0 g1 (nI 0) M) := by
  refine r_metI (by decide) (Nat.le_of_ble_eq_true rfl) ?_
  intro p e s m below meth c ls A cx hr hlocks hin hK hP hD hA hl
  have hx := cx.1
  have hb := cx.2.1
  have hS : va_S A s.heap s.heap [] := va_S.rf
  have hl : lv_has ls 2 [(0, .ref g0), (1, .int (nI 1))] := hl
  refine lv_aload_n hx hb d_M_goes_0 rfl (lv_at hl 0 rfl) ?_
  refine lv_iload_n hx hb d_M_goes_1 rfl (lv_at hl 1 rfl) ?_
  refine r_ifeq (tgt := 9) hx hb d_M_goes_2 (by decide) (by omega) (fun z => by omega) (fun z => ?_)
  refine lv_iconst (v := nI 0) hx hb d_M_goes_5 (by decide +kernel) ?_
  refine lv_goto (tgt := 10) hx hb d_M_goes_6 (by decide) ?_
  refine p_M0 cx hK hP hD hS 0 rfl d_M_goes_10 (fun H locs hP hD hS => ?_)
  have hP : va_P D classes (wG g0 g1 (nI 0) M) H := hP
  have hD : va_D A (wG g0 g1 (nI 0) M) := hD
  refine lv_iload_n hx hb d_M_goes_13 rfl (lv_at hl 1 rfl) ?_
  exact e_z (w := fun _ : Unit => wG g0 g1 (nI 0) M) (tu := fun _ => []) cx hr hlocks () nar1 rfl (hK.sub [] rfl) hP hD hS d_M_goes_14
set_option maxHeartbeats 4000000 in
set_option maxRecDepth 100000 in
theorem cn_M_goes (l : Launch) (D : va_G) {g0 g1 : Nat} {th M : Int32} : CtI l y_M_goes c_M_goes (rmL 0) D (wG g0 g1 th M) [] [.ref g0, .int (nI 0)] (fun r (_ : Unit) => r = nI 0) (fun _ => []) (fun _ => wG g0 g1 (nI 1) M) := by
  refine r_metI (by decide) (Nat.le_of_ble_eq_true rfl) ?_
  intro p e s m below meth c ls A cx hr hlocks hin hK hP hD hA hl
  have hx := cx.1
  have hb := cx.2.1
  have hS : va_S A s.heap s.heap [] := va_S.rf
  have hl : lv_has ls 2 [(0, .ref g0), (1, .int (nI 0))] := hl
  refine lv_aload_n hx hb d_M_goes_0 rfl (lv_at hl 0 rfl) ?_
  refine lv_iload_n hx hb d_M_goes_1 rfl (lv_at hl 1 rfl) ?_
  refine r_ifeq (tgt := 9) hx hb d_M_goes_2 (by decide) (by omega) (fun z => ?_) (fun z => absurd rfl z)
  refine lv_iconst (v := nI 1) hx hb d_M_goes_9 (by decide +kernel) ?_
  refine p_M0 cx hK hP hD hS 0 rfl d_M_goes_10 (fun H locs hP hD hS => ?_)
  have hP : va_P D classes (wG g0 g1 (nI 1) M) H := hP
  have hD : va_D A (wG g0 g1 (nI 1) M) := hD
  refine lv_iload_n hx hb d_M_goes_13 rfl (lv_at hl 1 rfl) ?_
  exact e_z (w := fun _ : Unit => wG g0 g1 (nI 1) M) (tu := fun _ => []) cx hr hlocks () nar0 rfl (hK.sub [] rfl) hP hD hS d_M_goes_14
end
section
/-- begins while make is under way: cells from a up to q are written -/
def mkP (B : Nat → Bool) (a b q : Nat) : Nat → Bool := fun j => if a ≤ j ∧ j < q then (decide (j = a) || decide (j = b)) else B j
theorem mkP_0 (B : Nat → Bool) (a b : Nat) : mkP B a b a = B := by
  funext j
  simp only [mkP]
  rw [if_neg (by omega)]
theorem mkP_s {B : Nat → Bool} {a b q : Nat} (h : a ≤ q) : sB (mkP B a b q) q (decide (q = a) || decide (q = b)) = mkP B a b (q + 1) := by
  funext j
  by_cases hj : j = q
  · subst hj
    rw [sB_self]
    simp only [mkP]
    rw [if_pos ⟨h, by omega⟩]
  · rw [sB_ne hj]
    simp only [mkP]
    by_cases h1 : a ≤ j ∧ j < q
    · rw [if_pos h1, if_pos ⟨h1.1, by omega⟩]
    · rw [if_neg h1, if_neg (by omega)]
theorem mkP_e {B : Nat → Bool} {a b : Nat} : mkP B a b (b + 1) = mkB B a b := by
  funext j
  simp only [mkP, mkB]
  by_cases h1 : a ≤ j ∧ j < b + 1
  · rw [if_pos h1, if_pos ⟨h1.1, by omega⟩]
  · rw [if_neg h1, if_neg (by omega)]
theorem mkP_sp {B : Nat → Bool} {n : Nat} : mkP B 0 n 16385 = spB n B := by
  funext j
  simp only [mkP, spB]
  by_cases h1 : 0 ≤ j ∧ j < 16385
  · rw [if_pos h1, if_pos (by omega)]
  · rw [if_neg h1, if_neg (by omega)]
set_option maxHeartbeats 4000000 in
set_option maxRecDepth 100000 in
theorem cn_M_cut (l : Launch) (D : va_G) {g0 g1 : Nat} {c3 : ClassId} {th : Int32} {N : Nat} {B : Nat → Bool} (hN : N ≤ 16384) {x : Int32} (h : x < 0 ∨ nI N ≤ x) : CtI l y_M_cut c_M_cut (rmL 2) D (wM g0 g1 c3 th (nI N) B) (tM c3) [.ref g0, .int x] (fun r (_ : Unit) => r = nI 0) (fun _ => tM c3) (fun _ => wM g0 g1 c3 (nI 1) (nI N) B) := by
  refine r_metI (by decide) (Nat.le_of_ble_eq_true rfl) ?_
  intro p e s m below meth c ls A cx hr hlocks hin hK hP hD hA hl
  have hx := cx.1
  have hb := cx.2.1
  have hS : va_S A s.heap s.heap [] := va_S.rf
  have hl : lv_has ls 3 [(0, .ref g0), (1, .int x)] := hl
  refine lv_aload_n hx hb d_M_cut_0 rfl (lv_at hl 0 rfl) ?_
  refine lv_aload_n hx hb d_M_cut_1 rfl (lv_at hl 0 rfl) ?_
  refine lv_iload_n hx hb d_M_cut_2 rfl (lv_at hl 1 rfl) ?_
  refine r_callPi (nA := 1) (rest := [.ref g0]) (cn_M_isCell l D h) cx (gd_callV mc_M_isCell ml_M_28 ms_M_isCell mv_M_isCell mi_M) (by decide +kernel) rfl ⟨rfl, rfl⟩ ⟨Nat.le_of_ble_eq_true rfl, Nat.le_of_ble_eq_true rfl⟩ ⟨Nat.le_of_ble_eq_true rfl, Nat.le_of_ble_eq_true rfl⟩ hK hP [0, 1] [0] rfl rfl (ci := 2) rfl rfl rfl hl.1 rfl (Nat.le_of_ble_eq_true rfl) d_M_cut_3 (fun r9 h9 => ?_)
  obtain rfl := h9
  refine r_callVi (wr := List.filterMap (fun i : Nat => (wM g0 g1 c3 th (nI N) B : va_W)[i]?) [1]) (nA := 1) (rest := []) (cn_M_goes l D) cx (gd_callV mc_M_goes ml_M_24 ms_M_goes mv_M_goes mi_M) (by decide +kernel) rfl ⟨Nat.le_of_ble_eq_true rfl, Nat.le_of_ble_eq_true rfl⟩ ⟨Nat.le_of_ble_eq_true rfl, Nat.le_of_ble_eq_true rfl⟩ hK hP hD hS hA [0] [1] [] rfl rfl rfl (by decide) (by decide) (by decide) (ci := 2) rfl rfl rfl hl.1 rfl (Nat.le_of_ble_eq_true rfl) d_M_cut_6 (fun r9 u9 H locs hw9 hK9 hP hD hS => ?_)
  obtain rfl := hw9
  have hP : va_P D classes (wM g0 g1 c3 (nI 1) (nI N) B) H := hP.sub [1, 0] rfl
  have hD : va_D A (wM g0 g1 c3 (nI 1) (nI N) B) := hD.sub [1, 0] (by decide) rfl
  refine r_ifne (tgt := 14) hx hb d_M_cut_9 (by decide) (by omega) (fun z => absurd rfl z) (fun z => ?_)
  refine lv_iconst (v := nI 0) hx hb d_M_cut_12 (by decide +kernel) ?_
  exact e_i (w := fun _ : Unit => wM g0 g1 c3 (nI 1) (nI N) B) (tu := fun _ => tM c3) cx hr hlocks () (rfl) hK hP hD hS d_M_cut_13
set_option maxHeartbeats 4000000 in
set_option maxRecDepth 100000 in
theorem ct_M_cut (l : Launch) (D : va_G) {g0 g1 : Nat} {c3 : ClassId} {th : Int32} {N : Nat} {B : Nat → Bool} (hN : N ≤ 16384) (h0 : B 0 = true) (hB : B N = true) {a : Nat} (ha : a < N) : CtI l y_M_cut c_M_cut (rmL 2) D (wM g0 g1 c3 th (nI N) B) (tM c3) [.ref g0, .int (nI a)] (fun r (_ : Unit) => r = nI (a - pv B a)) (fun _ => tM c3) (fun _ => wM g0 g1 c3 (nI 0) (nI N) (sB B a true)) := by
  refine r_metI (by decide) (Nat.le_of_ble_eq_true rfl) ?_
  intro p e s m below meth c ls A cx hr hlocks hin hK hP hD hA hl
  have hx := cx.1
  have hb := cx.2.1
  have hS : va_S A s.heap s.heap [] := va_S.rf
  have hl : lv_has ls 3 [(0, .ref g0), (1, .int (nI a))] := hl
  refine lv_aload_n hx hb d_M_cut_0 rfl (lv_at hl 0 rfl) ?_
  refine lv_aload_n hx hb d_M_cut_1 rfl (lv_at hl 0 rfl) ?_
  refine lv_iload_n hx hb d_M_cut_2 rfl (lv_at hl 1 rfl) ?_
  refine r_callPi (nA := 1) (rest := [.ref g0]) (ct_M_isCell l D hN ha) cx (gd_callV mc_M_isCell ml_M_28 ms_M_isCell mv_M_isCell mi_M) (by decide +kernel) rfl ⟨rfl, rfl⟩ ⟨Nat.le_of_ble_eq_true rfl, Nat.le_of_ble_eq_true rfl⟩ ⟨Nat.le_of_ble_eq_true rfl, Nat.le_of_ble_eq_true rfl⟩ hK hP [0, 1] [0] rfl rfl (ci := 2) rfl rfl rfl hl.1 rfl (Nat.le_of_ble_eq_true rfl) d_M_cut_3 (fun r9 h9 => ?_)
  obtain rfl := h9
  refine r_callVi (wr := List.filterMap (fun i : Nat => (wM g0 g1 c3 th (nI N) B : va_W)[i]?) [1]) (nA := 1) (rest := []) (ct_M_goes l D) cx (gd_callV mc_M_goes ml_M_24 ms_M_goes mv_M_goes mi_M) (by decide +kernel) rfl ⟨Nat.le_of_ble_eq_true rfl, Nat.le_of_ble_eq_true rfl⟩ ⟨Nat.le_of_ble_eq_true rfl, Nat.le_of_ble_eq_true rfl⟩ hK hP hD hS hA [0] [1] [] rfl rfl rfl (by decide) (by decide) (by decide) (ci := 2) rfl rfl rfl hl.1 rfl (Nat.le_of_ble_eq_true rfl) d_M_cut_6 (fun r9 u9 H locs hw9 hK9 hP hD hS => ?_)
  obtain rfl := hw9
  have hP : va_P D classes (wM g0 g1 c3 (nI 0) (nI N) B) H := hP.sub [1, 0] rfl
  have hD : va_D A (wM g0 g1 c3 (nI 0) (nI N) B) := hD.sub [1, 0] (by decide) rfl
  refine r_ifne (tgt := 14) hx hb d_M_cut_9 (by decide) (by omega) (fun z => ?_) (fun z => by omega)
  refine lv_iload_n hx hb d_M_cut_14 rfl (lv_at hl 1 rfl) ?_
  refine lv_aload_n hx hb d_M_cut_15 rfl (lv_at hl 0 rfl) ?_
  refine lv_iload_n hx hb d_M_cut_16 rfl (lv_at hl 1 rfl) ?_
  refine r_callPi (nA := 1) (rest := [.int (nI a)]) (ct_M_from l D h0 (show a ≤ 16384 by omega)) cx (gd_callV mc_M_from ml_M_32 ms_M_from mv_M_from mi_M) (by decide +kernel) rfl ⟨rfl, rfl⟩ ⟨Nat.le_of_ble_eq_true rfl, Nat.le_of_ble_eq_true rfl⟩ ⟨Nat.le_of_ble_eq_true rfl, Nat.le_of_ble_eq_true rfl⟩ hK hP [0, 1] [0] rfl rfl (ci := 2) rfl rfl rfl hl.1 rfl (Nat.le_of_ble_eq_true rfl) d_M_cut_17 (fun r9 h9 => ?_)
  obtain rfl := h9
  have hpl := pv_le h0 a
  refine r_sub hx hb d_M_cut_20 (by omega) ?_
  refine lv_istore_n (lv' := [(2, .int (nI (a - (pv B a)))), (0, .ref g0), (1, .int (nI a))]) hx hb d_M_cut_21 rfl hl (by decide) rfl (fun ls hl => ?_)
  refine lv_aload_n hx hb d_M_cut_22 rfl (lv_at hl 1 rfl) ?_
  refine g_M2 cx hK hP 0 rfl d_M_cut_23 ?_
  refine lv_iload_n hx hb d_M_cut_26 rfl (lv_at hl 2 rfl) ?_
  refine lv_iconst (v := nI 1) hx hb d_M_cut_27 (by decide +kernel) ?_
  refine r_zast hx hb hK hP hD hS 1 0 (true) rfl rfl (rfl) (show a < 16385 by omega) (by omega) d_M_cut_28 (fun H locs hP hD hS => ?_)
  have hP : va_P D classes (wM g0 g1 c3 (nI 0) (nI N) (sB B a true)) H := hP
  have hD : va_D A (wM g0 g1 c3 (nI 0) (nI N) (sB B a true)) := hD
  refine lv_iload_n hx hb d_M_cut_29 rfl (lv_at hl 0 rfl) ?_
  exact e_i (w := fun _ : Unit => wM g0 g1 c3 (nI 0) (nI N) (sB B a true)) (tu := fun _ => tM c3) cx hr hlocks () (rfl) hK hP hD hS d_M_cut_30
set_option maxHeartbeats 4000000 in
set_option maxRecDepth 100000 in
theorem cn_M_join (l : Launch) (D : va_G) {g0 g1 : Nat} {c3 : ClassId} {th : Int32} {N : Nat} {B : Nat → Bool} (hN : N ≤ 16384) {x : Int32} (h : x < 0 ∨ nI N ≤ x) : CtI l y_M_join c_M_join (rmL 2) D (wM g0 g1 c3 th (nI N) B) (tM c3) [.ref g0, .int x] (fun r (_ : Unit) => r = nI 0) (fun _ => tM c3) (fun _ => wM g0 g1 c3 (nI 1) (nI N) B) := by
  refine r_metI (by decide) (Nat.le_of_ble_eq_true rfl) ?_
  intro p e s m below meth c ls A cx hr hlocks hin hK hP hD hA hl
  have hx := cx.1
  have hb := cx.2.1
  have hS : va_S A s.heap s.heap [] := va_S.rf
  have hl : lv_has ls 3 [(0, .ref g0), (1, .int x)] := hl
  refine lv_aload_n hx hb d_M_join_0 rfl (lv_at hl 0 rfl) ?_
  refine lv_aload_n hx hb d_M_join_1 rfl (lv_at hl 0 rfl) ?_
  refine lv_iload_n hx hb d_M_join_2 rfl (lv_at hl 1 rfl) ?_
  refine r_callPi (nA := 1) (rest := [.ref g0]) (cn_M_isCell l D h) cx (gd_callV mc_M_isCell ml_M_28 ms_M_isCell mv_M_isCell mi_M) (by decide +kernel) rfl ⟨rfl, rfl⟩ ⟨Nat.le_of_ble_eq_true rfl, Nat.le_of_ble_eq_true rfl⟩ ⟨Nat.le_of_ble_eq_true rfl, Nat.le_of_ble_eq_true rfl⟩ hK hP [0, 1] [0] rfl rfl (ci := 2) rfl rfl rfl hl.1 rfl (Nat.le_of_ble_eq_true rfl) d_M_join_3 (fun r9 h9 => ?_)
  obtain rfl := h9
  refine r_callVi (wr := List.filterMap (fun i : Nat => (wM g0 g1 c3 th (nI N) B : va_W)[i]?) [1]) (nA := 1) (rest := []) (cn_M_goes l D) cx (gd_callV mc_M_goes ml_M_24 ms_M_goes mv_M_goes mi_M) (by decide +kernel) rfl ⟨Nat.le_of_ble_eq_true rfl, Nat.le_of_ble_eq_true rfl⟩ ⟨Nat.le_of_ble_eq_true rfl, Nat.le_of_ble_eq_true rfl⟩ hK hP hD hS hA [0] [1] [] rfl rfl rfl (by decide) (by decide) (by decide) (ci := 2) rfl rfl rfl hl.1 rfl (Nat.le_of_ble_eq_true rfl) d_M_join_6 (fun r9 u9 H locs hw9 hK9 hP hD hS => ?_)
  obtain rfl := hw9
  have hP : va_P D classes (wM g0 g1 c3 (nI 1) (nI N) B) H := hP.sub [1, 0] rfl
  have hD : va_D A (wM g0 g1 c3 (nI 1) (nI N) B) := hD.sub [1, 0] (by decide) rfl
  refine r_ifne (tgt := 14) hx hb d_M_join_9 (by decide) (by omega) (fun z => absurd rfl z) (fun z => ?_)
  refine lv_iconst (v := nI 0) hx hb d_M_join_12 (by decide +kernel) ?_
  exact e_i (w := fun _ : Unit => wM g0 g1 c3 (nI 1) (nI N) B) (tu := fun _ => tM c3) cx hr hlocks () (rfl) hK hP hD hS d_M_join_13
set_option maxHeartbeats 4000000 in
set_option maxRecDepth 100000 in
theorem ct_M_join (l : Launch) (D : va_G) {g0 g1 : Nat} {c3 : ClassId} {th : Int32} {N : Nat} {B : Nat → Bool} (hN : N ≤ 16384) (h0 : B 0 = true) (hB : B N = true) {a : Nat} (ha : a < N) : CtI l y_M_join c_M_join (rmL 2) D (wM g0 g1 c3 th (nI N) B) (tM c3) [.ref g0, .int (nI a)] (fun r (_ : Unit) => r = jn_ans N B a) (fun _ => tM c3) (fun _ => wM g0 g1 c3 (nI 0) (nI N) (jn_B N B a)) := by
  refine r_metI (by decide) (Nat.le_of_ble_eq_true rfl) ?_
  intro p e s m below meth c ls A cx hr hlocks hin hK hP hD hA hl
  have hx := cx.1
  have hb := cx.2.1
  have hS : va_S A s.heap s.heap [] := va_S.rf
  have hl : lv_has ls 3 [(0, .ref g0), (1, .int (nI a))] := hl
  refine lv_aload_n hx hb d_M_join_0 rfl (lv_at hl 0 rfl) ?_
  refine lv_aload_n hx hb d_M_join_1 rfl (lv_at hl 0 rfl) ?_
  refine lv_iload_n hx hb d_M_join_2 rfl (lv_at hl 1 rfl) ?_
  refine r_callPi (nA := 1) (rest := [.ref g0]) (ct_M_isCell l D hN ha) cx (gd_callV mc_M_isCell ml_M_28 ms_M_isCell mv_M_isCell mi_M) (by decide +kernel) rfl ⟨rfl, rfl⟩ ⟨Nat.le_of_ble_eq_true rfl, Nat.le_of_ble_eq_true rfl⟩ ⟨Nat.le_of_ble_eq_true rfl, Nat.le_of_ble_eq_true rfl⟩ hK hP [0, 1] [0] rfl rfl (ci := 2) rfl rfl rfl hl.1 rfl (Nat.le_of_ble_eq_true rfl) d_M_join_3 (fun r9 h9 => ?_)
  obtain rfl := h9
  refine r_callVi (wr := List.filterMap (fun i : Nat => (wM g0 g1 c3 th (nI N) B : va_W)[i]?) [1]) (nA := 1) (rest := []) (ct_M_goes l D) cx (gd_callV mc_M_goes ml_M_24 ms_M_goes mv_M_goes mi_M) (by decide +kernel) rfl ⟨Nat.le_of_ble_eq_true rfl, Nat.le_of_ble_eq_true rfl⟩ ⟨Nat.le_of_ble_eq_true rfl, Nat.le_of_ble_eq_true rfl⟩ hK hP hD hS hA [0] [1] [] rfl rfl rfl (by decide) (by decide) (by decide) (ci := 2) rfl rfl rfl hl.1 rfl (Nat.le_of_ble_eq_true rfl) d_M_join_6 (fun r9 u9 H locs hw9 hK9 hP hD hS => ?_)
  obtain rfl := hw9
  have hP : va_P D classes (wM g0 g1 c3 (nI 0) (nI N) B) H := hP.sub [1, 0] rfl
  have hD : va_D A (wM g0 g1 c3 (nI 0) (nI N) B) := hD.sub [1, 0] (by decide) rfl
  refine r_ifne (tgt := 14) hx hb d_M_join_9 (by decide) (by omega) (fun z => ?_) (fun z => by omega)
  refine lv_aload_n hx hb d_M_join_14 rfl (lv_at hl 0 rfl) ?_
  refine lv_iload_n hx hb d_M_join_15 rfl (lv_at hl 1 rfl) ?_
  have hq1 := nx_gt hB ha
  have hq2 := nx_le hB ha
  refine r_callPi (nA := 1) (rest := []) (ct_M_behind l D hN hB ha) cx (gd_callV mc_M_behind ml_M_36 ms_M_behind mv_M_behind mi_M) (by decide +kernel) rfl ⟨rfl, rfl⟩ ⟨Nat.le_of_ble_eq_true rfl, Nat.le_of_ble_eq_true rfl⟩ ⟨Nat.le_of_ble_eq_true rfl, Nat.le_of_ble_eq_true rfl⟩ hK hP [0, 1] [0] rfl rfl (ci := 2) rfl rfl rfl hl.1 rfl (Nat.le_of_ble_eq_true rfl) d_M_join_16 (fun r9 h9 => ?_)
  obtain rfl := h9
  refine lv_istore_n (lv' := [(2, .int (nI (nx B N a))), (0, .ref g0), (1, .int (nI a))]) hx hb d_M_join_19 rfl hl (by decide) rfl (fun ls hl => ?_)
  refine lv_iload_n hx hb d_M_join_20 rfl (lv_at hl 0 rfl) ?_
  refine lv_aload_n hx hb d_M_join_21 rfl (lv_at hl 1 rfl) ?_
  refine g_M1 cx hK hP 0 rfl d_M_join_22 ?_
  refine r_ine (tgt := 30) hx hb d_M_join_25 (by decide) (by omega) (by omega) (fun z1 => ?_) (fun z1 => ?_)
  · have j1 : jn_ans N B a = nI (nx (sB B (nx B N a) false) N a - pv (sB B (nx B N a) false) a) := by simp only [jn_ans]; rw [if_neg z1]
    have j2 : jn_B N B a = sB B (nx B N a) false := by simp only [jn_B]; rw [if_neg z1]
    have k0 : sB B (nx B N a) false 0 = true := by rw [sB_ne (by omega)]; exact h0
    have kN : sB B (nx B N a) false N = true := by rw [sB_ne (by omega)]; exact hB
    refine lv_aload_n hx hb d_M_join_30 rfl (lv_at hl 1 rfl) ?_
    refine g_M2 cx hK hP 0 rfl d_M_join_31 ?_
    refine lv_iload_n hx hb d_M_join_34 rfl (lv_at hl 0 rfl) ?_
    refine lv_iconst (v := nI 0) hx hb d_M_join_35 (by decide +kernel) ?_
    refine r_zast hx hb hK hP hD hS 1 0 (false) rfl rfl (rfl) (show nx B N a < 16385 by omega) (by omega) d_M_join_36 (fun H locs hP hD hS => ?_)
    have hP : va_P D classes (wM g0 g1 c3 (nI 0) (nI N) (sB B (nx B N a) false)) H := hP
    have hD : va_D A (wM g0 g1 c3 (nI 0) (nI N) (sB B (nx B N a) false)) := hD
    refine lv_aload_n hx hb d_M_join_37 rfl (lv_at hl 1 rfl) ?_
    refine lv_iload_n hx hb d_M_join_38 rfl (lv_at hl 2 rfl) ?_
    rw [← j2] at hP hD j1 k0 kN
    refine r_callPi (nA := 1) (rest := []) (ct_M_behind l D hN kN ha) cx (gd_callV mc_M_behind ml_M_36 ms_M_behind mv_M_behind mi_M) (by decide +kernel) rfl ⟨rfl, rfl⟩ ⟨Nat.le_of_ble_eq_true rfl, Nat.le_of_ble_eq_true rfl⟩ ⟨Nat.le_of_ble_eq_true rfl, Nat.le_of_ble_eq_true rfl⟩ hK hP [0, 1] [0] rfl rfl (ci := 2) rfl rfl rfl hl.1 rfl (Nat.le_of_ble_eq_true rfl) d_M_join_39 (fun r9 h9 => ?_)
    obtain rfl := h9
    refine lv_aload_n hx hb d_M_join_42 rfl (lv_at hl 1 rfl) ?_
    refine lv_iload_n hx hb d_M_join_43 rfl (lv_at hl 2 rfl) ?_
    refine r_callPi (nA := 1) (rest := [.int (nI (nx (jn_B N B a) N a))]) (ct_M_from l D k0 (show a ≤ 16384 by omega)) cx (gd_callV mc_M_from ml_M_32 ms_M_from mv_M_from mi_M) (by decide +kernel) rfl ⟨rfl, rfl⟩ ⟨Nat.le_of_ble_eq_true rfl, Nat.le_of_ble_eq_true rfl⟩ ⟨Nat.le_of_ble_eq_true rfl, Nat.le_of_ble_eq_true rfl⟩ hK hP [0, 1] [0] rfl rfl (ci := 2) rfl rfl rfl hl.1 rfl (Nat.le_of_ble_eq_true rfl) d_M_join_44 (fun r9 h9 => ?_)
    obtain rfl := h9
    have e1 := nx_gt kN ha
    have e2 := pv_le k0 a
    refine r_sub hx hb d_M_join_47 (by omega) ?_
    exact e_i (w := fun _ : Unit => wM g0 g1 c3 (nI 0) (nI N) (jn_B N B a)) (tu := fun _ => tM c3) cx hr hlocks () (j1.symm) hK hP hD hS d_M_join_48
  · obtain ⟨j1, j2⟩ : jn_ans N B a = nI 0 ∧ jn_B N B a = B := jn_none z1
    refine lv_iconst (v := nI 0) hx hb d_M_join_28 (by decide +kernel) ?_
    exact e_i (w := fun _ : Unit => wM g0 g1 c3 (nI 0) (nI N) (jn_B N B a)) (tu := fun _ => tM c3) cx hr hlocks () (j1.symm) hK (by rw [j2]; exact hP) (by rw [j2]; exact hD) hS d_M_join_29
set_option maxHeartbeats 4000000 in
set_option maxRecDepth 100000 in
theorem cn_M_begin (l : Launch) (D : va_G) {g0 g1 : Nat} {c3 : ClassId} {th : Int32} {N : Nat} {B : Nat → Bool} (hN : N ≤ 16384) {x : Int32} (h : x < 0 ∨ nI N ≤ x) : CtI l y_M_begin c_M_begin (rmL 2) D (wM g0 g1 c3 th (nI N) B) (tM c3) [.ref g0, .int x] (fun r (_ : Unit) => r = nI 0) (fun _ => tM c3) (fun _ => wM g0 g1 c3 (nI 1) (nI N) B) := by
  refine r_metI (by decide) (Nat.le_of_ble_eq_true rfl) ?_
  intro p e s m below meth c ls A cx hr hlocks hin hK hP hD hA hl
  have hx := cx.1
  have hb := cx.2.1
  have hS : va_S A s.heap s.heap [] := va_S.rf
  have hl : lv_has ls 2 [(0, .ref g0), (1, .int x)] := hl
  refine lv_aload_n hx hb d_M_begin_0 rfl (lv_at hl 0 rfl) ?_
  refine lv_aload_n hx hb d_M_begin_1 rfl (lv_at hl 0 rfl) ?_
  refine lv_iload_n hx hb d_M_begin_2 rfl (lv_at hl 1 rfl) ?_
  refine r_callPi (nA := 1) (rest := [.ref g0]) (cn_M_isCell l D h) cx (gd_callV mc_M_isCell ml_M_28 ms_M_isCell mv_M_isCell mi_M) (by decide +kernel) rfl ⟨rfl, rfl⟩ ⟨Nat.le_of_ble_eq_true rfl, Nat.le_of_ble_eq_true rfl⟩ ⟨Nat.le_of_ble_eq_true rfl, Nat.le_of_ble_eq_true rfl⟩ hK hP [0, 1] [0] rfl rfl (ci := 2) rfl rfl rfl hl.1 rfl (Nat.le_of_ble_eq_true rfl) d_M_begin_3 (fun r9 h9 => ?_)
  obtain rfl := h9
  refine r_callVi (wr := List.filterMap (fun i : Nat => (wM g0 g1 c3 th (nI N) B : va_W)[i]?) [1]) (nA := 1) (rest := []) (cn_M_goes l D) cx (gd_callV mc_M_goes ml_M_24 ms_M_goes mv_M_goes mi_M) (by decide +kernel) rfl ⟨Nat.le_of_ble_eq_true rfl, Nat.le_of_ble_eq_true rfl⟩ ⟨Nat.le_of_ble_eq_true rfl, Nat.le_of_ble_eq_true rfl⟩ hK hP hD hS hA [0] [1] [] rfl rfl rfl (by decide) (by decide) (by decide) (ci := 2) rfl rfl rfl hl.1 rfl (Nat.le_of_ble_eq_true rfl) d_M_begin_6 (fun r9 u9 H locs hw9 hK9 hP hD hS => ?_)
  obtain rfl := hw9
  have hP : va_P D classes (wM g0 g1 c3 (nI 1) (nI N) B) H := hP.sub [1, 0] rfl
  have hD : va_D A (wM g0 g1 c3 (nI 1) (nI N) B) := hD.sub [1, 0] (by decide) rfl
  refine r_ifeq (tgt := 20) hx hb d_M_begin_9 (by decide) (by omega) (fun z => ?_) (fun z => absurd rfl z)
  refine lv_iconst (v := nI 0) hx hb d_M_begin_20 (by decide +kernel) ?_
  exact e_i (w := fun _ : Unit => wM g0 g1 c3 (nI 1) (nI N) B) (tu := fun _ => tM c3) cx hr hlocks () (rfl) hK hP hD hS d_M_begin_21
set_option maxHeartbeats 4000000 in
set_option maxRecDepth 100000 in
theorem ct_M_begin (l : Launch) (D : va_G) {g0 g1 : Nat} {c3 : ClassId} {th : Int32} {N : Nat} {B : Nat → Bool} (hN : N ≤ 16384) (h0 : B 0 = true) (hB : B N = true) {a : Nat} (ha : a < N) : CtI l y_M_begin c_M_begin (rmL 2) D (wM g0 g1 c3 th (nI N) B) (tM c3) [.ref g0, .int (nI a)] (fun r (_ : Unit) => r = nI (pv B a)) (fun _ => tM c3) (fun _ => wM g0 g1 c3 (nI 0) (nI N) B) := by
  refine r_metI (by decide) (Nat.le_of_ble_eq_true rfl) ?_
  intro p e s m below meth c ls A cx hr hlocks hin hK hP hD hA hl
  have hx := cx.1
  have hb := cx.2.1
  have hS : va_S A s.heap s.heap [] := va_S.rf
  have hl : lv_has ls 2 [(0, .ref g0), (1, .int (nI a))] := hl
  refine lv_aload_n hx hb d_M_begin_0 rfl (lv_at hl 0 rfl) ?_
  refine lv_aload_n hx hb d_M_begin_1 rfl (lv_at hl 0 rfl) ?_
  refine lv_iload_n hx hb d_M_begin_2 rfl (lv_at hl 1 rfl) ?_
  refine r_callPi (nA := 1) (rest := [.ref g0]) (ct_M_isCell l D hN ha) cx (gd_callV mc_M_isCell ml_M_28 ms_M_isCell mv_M_isCell mi_M) (by decide +kernel) rfl ⟨rfl, rfl⟩ ⟨Nat.le_of_ble_eq_true rfl, Nat.le_of_ble_eq_true rfl⟩ ⟨Nat.le_of_ble_eq_true rfl, Nat.le_of_ble_eq_true rfl⟩ hK hP [0, 1] [0] rfl rfl (ci := 2) rfl rfl rfl hl.1 rfl (Nat.le_of_ble_eq_true rfl) d_M_begin_3 (fun r9 h9 => ?_)
  obtain rfl := h9
  refine r_callVi (wr := List.filterMap (fun i : Nat => (wM g0 g1 c3 th (nI N) B : va_W)[i]?) [1]) (nA := 1) (rest := []) (ct_M_goes l D) cx (gd_callV mc_M_goes ml_M_24 ms_M_goes mv_M_goes mi_M) (by decide +kernel) rfl ⟨Nat.le_of_ble_eq_true rfl, Nat.le_of_ble_eq_true rfl⟩ ⟨Nat.le_of_ble_eq_true rfl, Nat.le_of_ble_eq_true rfl⟩ hK hP hD hS hA [0] [1] [] rfl rfl rfl (by decide) (by decide) (by decide) (ci := 2) rfl rfl rfl hl.1 rfl (Nat.le_of_ble_eq_true rfl) d_M_begin_6 (fun r9 u9 H locs hw9 hK9 hP hD hS => ?_)
  obtain rfl := hw9
  have hP : va_P D classes (wM g0 g1 c3 (nI 0) (nI N) B) H := hP.sub [1, 0] rfl
  have hD : va_D A (wM g0 g1 c3 (nI 0) (nI N) B) := hD.sub [1, 0] (by decide) rfl
  refine r_ifeq (tgt := 20) hx hb d_M_begin_9 (by decide) (by omega) (fun z => by omega) (fun z => ?_)
  refine lv_aload_n hx hb d_M_begin_12 rfl (lv_at hl 0 rfl) ?_
  refine lv_iload_n hx hb d_M_begin_13 rfl (lv_at hl 1 rfl) ?_
  refine r_callPi (nA := 1) (rest := []) (ct_M_from l D h0 (show a ≤ 16384 by omega)) cx (gd_callV mc_M_from ml_M_32 ms_M_from mv_M_from mi_M) (by decide +kernel) rfl ⟨rfl, rfl⟩ ⟨Nat.le_of_ble_eq_true rfl, Nat.le_of_ble_eq_true rfl⟩ ⟨Nat.le_of_ble_eq_true rfl, Nat.le_of_ble_eq_true rfl⟩ hK hP [0, 1] [0] rfl rfl (ci := 2) rfl rfl rfl hl.1 rfl (Nat.le_of_ble_eq_true rfl) d_M_begin_14 (fun r9 h9 => ?_)
  obtain rfl := h9
  refine lv_goto (tgt := 21) hx hb d_M_begin_17 (by decide) ?_
  exact e_i (w := fun _ : Unit => wM g0 g1 c3 (nI 0) (nI N) B) (tu := fun _ => tM c3) cx hr hlocks () (rfl) hK hP hD hS d_M_begin_21
set_option maxHeartbeats 4000000 in
set_option maxRecDepth 100000 in
theorem cn_M_size (l : Launch) (D : va_G) {g0 g1 : Nat} {c3 : ClassId} {th : Int32} {N : Nat} {B : Nat → Bool} (hN : N ≤ 16384) {x : Int32} (h : x < 0 ∨ nI N ≤ x) : CtI l y_M_size c_M_size (rmL 2) D (wM g0 g1 c3 th (nI N) B) (tM c3) [.ref g0, .int x] (fun r (_ : Unit) => r = nI 0) (fun _ => tM c3) (fun _ => wM g0 g1 c3 (nI 1) (nI N) B) := by
  refine r_metI (by decide) (Nat.le_of_ble_eq_true rfl) ?_
  intro p e s m below meth c ls A cx hr hlocks hin hK hP hD hA hl
  have hx := cx.1
  have hb := cx.2.1
  have hS : va_S A s.heap s.heap [] := va_S.rf
  have hl : lv_has ls 2 [(0, .ref g0), (1, .int x)] := hl
  refine lv_aload_n hx hb d_M_size_0 rfl (lv_at hl 0 rfl) ?_
  refine lv_aload_n hx hb d_M_size_1 rfl (lv_at hl 0 rfl) ?_
  refine lv_iload_n hx hb d_M_size_2 rfl (lv_at hl 1 rfl) ?_
  refine r_callPi (nA := 1) (rest := [.ref g0]) (cn_M_isCell l D h) cx (gd_callV mc_M_isCell ml_M_28 ms_M_isCell mv_M_isCell mi_M) (by decide +kernel) rfl ⟨rfl, rfl⟩ ⟨Nat.le_of_ble_eq_true rfl, Nat.le_of_ble_eq_true rfl⟩ ⟨Nat.le_of_ble_eq_true rfl, Nat.le_of_ble_eq_true rfl⟩ hK hP [0, 1] [0] rfl rfl (ci := 2) rfl rfl rfl hl.1 rfl (Nat.le_of_ble_eq_true rfl) d_M_size_3 (fun r9 h9 => ?_)
  obtain rfl := h9
  refine r_callVi (wr := List.filterMap (fun i : Nat => (wM g0 g1 c3 th (nI N) B : va_W)[i]?) [1]) (nA := 1) (rest := []) (cn_M_goes l D) cx (gd_callV mc_M_goes ml_M_24 ms_M_goes mv_M_goes mi_M) (by decide +kernel) rfl ⟨Nat.le_of_ble_eq_true rfl, Nat.le_of_ble_eq_true rfl⟩ ⟨Nat.le_of_ble_eq_true rfl, Nat.le_of_ble_eq_true rfl⟩ hK hP hD hS hA [0] [1] [] rfl rfl rfl (by decide) (by decide) (by decide) (ci := 2) rfl rfl rfl hl.1 rfl (Nat.le_of_ble_eq_true rfl) d_M_size_6 (fun r9 u9 H locs hw9 hK9 hP hD hS => ?_)
  obtain rfl := hw9
  have hP : va_P D classes (wM g0 g1 c3 (nI 1) (nI N) B) H := hP.sub [1, 0] rfl
  have hD : va_D A (wM g0 g1 c3 (nI 1) (nI N) B) := hD.sub [1, 0] (by decide) rfl
  refine r_ifeq (tgt := 26) hx hb d_M_size_9 (by decide) (by omega) (fun z => ?_) (fun z => absurd rfl z)
  refine lv_iconst (v := nI 0) hx hb d_M_size_26 (by decide +kernel) ?_
  exact e_i (w := fun _ : Unit => wM g0 g1 c3 (nI 1) (nI N) B) (tu := fun _ => tM c3) cx hr hlocks () (rfl) hK hP hD hS d_M_size_27
set_option maxHeartbeats 4000000 in
set_option maxRecDepth 100000 in
theorem ct_M_size (l : Launch) (D : va_G) {g0 g1 : Nat} {c3 : ClassId} {th : Int32} {N : Nat} {B : Nat → Bool} (hN : N ≤ 16384) (h0 : B 0 = true) (hB : B N = true) {a : Nat} (ha : a < N) : CtI l y_M_size c_M_size (rmL 2) D (wM g0 g1 c3 th (nI N) B) (tM c3) [.ref g0, .int (nI a)] (fun r (_ : Unit) => r = nI (nx B N a - pv B a)) (fun _ => tM c3) (fun _ => wM g0 g1 c3 (nI 0) (nI N) B) := by
  refine r_metI (by decide) (Nat.le_of_ble_eq_true rfl) ?_
  intro p e s m below meth c ls A cx hr hlocks hin hK hP hD hA hl
  have hx := cx.1
  have hb := cx.2.1
  have hS : va_S A s.heap s.heap [] := va_S.rf
  have hl : lv_has ls 2 [(0, .ref g0), (1, .int (nI a))] := hl
  refine lv_aload_n hx hb d_M_size_0 rfl (lv_at hl 0 rfl) ?_
  refine lv_aload_n hx hb d_M_size_1 rfl (lv_at hl 0 rfl) ?_
  refine lv_iload_n hx hb d_M_size_2 rfl (lv_at hl 1 rfl) ?_
  refine r_callPi (nA := 1) (rest := [.ref g0]) (ct_M_isCell l D hN ha) cx (gd_callV mc_M_isCell ml_M_28 ms_M_isCell mv_M_isCell mi_M) (by decide +kernel) rfl ⟨rfl, rfl⟩ ⟨Nat.le_of_ble_eq_true rfl, Nat.le_of_ble_eq_true rfl⟩ ⟨Nat.le_of_ble_eq_true rfl, Nat.le_of_ble_eq_true rfl⟩ hK hP [0, 1] [0] rfl rfl (ci := 2) rfl rfl rfl hl.1 rfl (Nat.le_of_ble_eq_true rfl) d_M_size_3 (fun r9 h9 => ?_)
  obtain rfl := h9
  refine r_callVi (wr := List.filterMap (fun i : Nat => (wM g0 g1 c3 th (nI N) B : va_W)[i]?) [1]) (nA := 1) (rest := []) (ct_M_goes l D) cx (gd_callV mc_M_goes ml_M_24 ms_M_goes mv_M_goes mi_M) (by decide +kernel) rfl ⟨Nat.le_of_ble_eq_true rfl, Nat.le_of_ble_eq_true rfl⟩ ⟨Nat.le_of_ble_eq_true rfl, Nat.le_of_ble_eq_true rfl⟩ hK hP hD hS hA [0] [1] [] rfl rfl rfl (by decide) (by decide) (by decide) (ci := 2) rfl rfl rfl hl.1 rfl (Nat.le_of_ble_eq_true rfl) d_M_size_6 (fun r9 u9 H locs hw9 hK9 hP hD hS => ?_)
  obtain rfl := hw9
  have hP : va_P D classes (wM g0 g1 c3 (nI 0) (nI N) B) H := hP.sub [1, 0] rfl
  have hD : va_D A (wM g0 g1 c3 (nI 0) (nI N) B) := hD.sub [1, 0] (by decide) rfl
  refine r_ifeq (tgt := 26) hx hb d_M_size_9 (by decide) (by omega) (fun z => by omega) (fun z => ?_)
  refine lv_aload_n hx hb d_M_size_12 rfl (lv_at hl 0 rfl) ?_
  refine lv_iload_n hx hb d_M_size_13 rfl (lv_at hl 1 rfl) ?_
  refine r_callPi (nA := 1) (rest := []) (ct_M_behind l D hN hB ha) cx (gd_callV mc_M_behind ml_M_36 ms_M_behind mv_M_behind mi_M) (by decide +kernel) rfl ⟨rfl, rfl⟩ ⟨Nat.le_of_ble_eq_true rfl, Nat.le_of_ble_eq_true rfl⟩ ⟨Nat.le_of_ble_eq_true rfl, Nat.le_of_ble_eq_true rfl⟩ hK hP [0, 1] [0] rfl rfl (ci := 2) rfl rfl rfl hl.1 rfl (Nat.le_of_ble_eq_true rfl) d_M_size_14 (fun r9 h9 => ?_)
  obtain rfl := h9
  refine lv_aload_n hx hb d_M_size_17 rfl (lv_at hl 0 rfl) ?_
  refine lv_iload_n hx hb d_M_size_18 rfl (lv_at hl 1 rfl) ?_
  refine r_callPi (nA := 1) (rest := [.int (nI (nx B N a))]) (ct_M_from l D h0 (show a ≤ 16384 by omega)) cx (gd_callV mc_M_from ml_M_32 ms_M_from mv_M_from mi_M) (by decide +kernel) rfl ⟨rfl, rfl⟩ ⟨Nat.le_of_ble_eq_true rfl, Nat.le_of_ble_eq_true rfl⟩ ⟨Nat.le_of_ble_eq_true rfl, Nat.le_of_ble_eq_true rfl⟩ hK hP [0, 1] [0] rfl rfl (ci := 2) rfl rfl rfl hl.1 rfl (Nat.le_of_ble_eq_true rfl) d_M_size_19 (fun r9 h9 => ?_)
  obtain rfl := h9
  have e1 := nx_gt hB ha
  have e2 := pv_le h0 a
  refine r_sub hx hb d_M_size_22 (by omega) ?_
  refine lv_goto (tgt := 27) hx hb d_M_size_23 (by decide) ?_
  exact e_i (w := fun _ : Unit => wM g0 g1 c3 (nI 0) (nI N) B) (tu := fun _ => tM c3) cx hr hlocks () (rfl) hK hP hD hS d_M_size_27
set_option maxHeartbeats 4000000 in
set_option maxRecDepth 100000 in
theorem cn_M_start (l : Launch) (D : va_G) {g0 g1 : Nat} {c3 : ClassId} {th : Int32} {N : Nat} {B : Nat → Bool} (hN : N ≤ 16384) {x : Int32} (h : x < 0 ∨ nI ((N + 31) / 32) ≤ x) : CtI l y_M_start c_M_start (rmL 2) D (wM g0 g1 c3 th (nI N) B) (tM c3) [.ref g0, .int x] (fun r (_ : Unit) => r = nI 0) (fun _ => tM c3) (fun _ => wM g0 g1 c3 (nI 1) (nI N) B) := by
  refine r_metI (by decide) (Nat.le_of_ble_eq_true rfl) ?_
  intro p e s m below meth c ls A cx hr hlocks hin hK hP hD hA hl
  have hx := cx.1
  have hb := cx.2.1
  have hS : va_S A s.heap s.heap [] := va_S.rf
  have hl : lv_has ls 2 [(0, .ref g0), (1, .int x)] := hl
  refine lv_aload_n hx hb d_M_start_0 rfl (lv_at hl 0 rfl) ?_
  refine lv_aload_n hx hb d_M_start_1 rfl (lv_at hl 0 rfl) ?_
  refine lv_iload_n hx hb d_M_start_2 rfl (lv_at hl 1 rfl) ?_
  refine r_callPi (nA := 1) (rest := [.ref g0]) (cn_M_isCard l D hN h) cx (gd_callV mc_M_isCard ml_M_42 ms_M_isCard mv_M_isCard mi_M) (by decide +kernel) rfl ⟨rfl, rfl⟩ ⟨Nat.le_of_ble_eq_true rfl, Nat.le_of_ble_eq_true rfl⟩ ⟨Nat.le_of_ble_eq_true rfl, Nat.le_of_ble_eq_true rfl⟩ hK hP [0, 1] [0] rfl rfl (ci := 2) rfl rfl rfl hl.1 rfl (Nat.le_of_ble_eq_true rfl) d_M_start_3 (fun r9 h9 => ?_)
  obtain rfl := h9
  refine r_callVi (wr := List.filterMap (fun i : Nat => (wM g0 g1 c3 th (nI N) B : va_W)[i]?) [1]) (nA := 1) (rest := []) (cn_M_goes l D) cx (gd_callV mc_M_goes ml_M_24 ms_M_goes mv_M_goes mi_M) (by decide +kernel) rfl ⟨Nat.le_of_ble_eq_true rfl, Nat.le_of_ble_eq_true rfl⟩ ⟨Nat.le_of_ble_eq_true rfl, Nat.le_of_ble_eq_true rfl⟩ hK hP hD hS hA [0] [1] [] rfl rfl rfl (by decide) (by decide) (by decide) (ci := 2) rfl rfl rfl hl.1 rfl (Nat.le_of_ble_eq_true rfl) d_M_start_6 (fun r9 u9 H locs hw9 hK9 hP hD hS => ?_)
  obtain rfl := hw9
  have hP : va_P D classes (wM g0 g1 c3 (nI 1) (nI N) B) H := hP.sub [1, 0] rfl
  have hD : va_D A (wM g0 g1 c3 (nI 1) (nI N) B) := hD.sub [1, 0] (by decide) rfl
  refine r_ifeq (tgt := 23) hx hb d_M_start_9 (by decide) (by omega) (fun z => ?_) (fun z => absurd rfl z)
  refine lv_iconst (v := nI 0) hx hb d_M_start_23 (by decide +kernel) ?_
  exact e_i (w := fun _ : Unit => wM g0 g1 c3 (nI 1) (nI N) B) (tu := fun _ => tM c3) cx hr hlocks () (rfl) hK hP hD hS d_M_start_24
set_option maxHeartbeats 4000000 in
set_option maxRecDepth 100000 in
theorem ct_M_start (l : Launch) (D : va_G) {g0 g1 : Nat} {c3 : ClassId} {th : Int32} {N : Nat} {B : Nat → Bool} (hN : N ≤ 16384) (h0 : B 0 = true) (hB : B N = true) {k : Nat} (ha : k < (N + 31) / 32) : CtI l y_M_start c_M_start (rmL 2) D (wM g0 g1 c3 th (nI N) B) (tM c3) [.ref g0, .int (nI k)] (fun r (_ : Unit) => r = nI (pv B (32 * k))) (fun _ => tM c3) (fun _ => wM g0 g1 c3 (nI 0) (nI N) B) := by
  refine r_metI (by decide) (Nat.le_of_ble_eq_true rfl) ?_
  intro p e s m below meth c ls A cx hr hlocks hin hK hP hD hA hl
  have hx := cx.1
  have hb := cx.2.1
  have hS : va_S A s.heap s.heap [] := va_S.rf
  have hl : lv_has ls 2 [(0, .ref g0), (1, .int (nI k))] := hl
  refine lv_aload_n hx hb d_M_start_0 rfl (lv_at hl 0 rfl) ?_
  refine lv_aload_n hx hb d_M_start_1 rfl (lv_at hl 0 rfl) ?_
  refine lv_iload_n hx hb d_M_start_2 rfl (lv_at hl 1 rfl) ?_
  refine r_callPi (nA := 1) (rest := [.ref g0]) (ct_M_isCard l D hN ha) cx (gd_callV mc_M_isCard ml_M_42 ms_M_isCard mv_M_isCard mi_M) (by decide +kernel) rfl ⟨rfl, rfl⟩ ⟨Nat.le_of_ble_eq_true rfl, Nat.le_of_ble_eq_true rfl⟩ ⟨Nat.le_of_ble_eq_true rfl, Nat.le_of_ble_eq_true rfl⟩ hK hP [0, 1] [0] rfl rfl (ci := 2) rfl rfl rfl hl.1 rfl (Nat.le_of_ble_eq_true rfl) d_M_start_3 (fun r9 h9 => ?_)
  obtain rfl := h9
  refine r_callVi (wr := List.filterMap (fun i : Nat => (wM g0 g1 c3 th (nI N) B : va_W)[i]?) [1]) (nA := 1) (rest := []) (ct_M_goes l D) cx (gd_callV mc_M_goes ml_M_24 ms_M_goes mv_M_goes mi_M) (by decide +kernel) rfl ⟨Nat.le_of_ble_eq_true rfl, Nat.le_of_ble_eq_true rfl⟩ ⟨Nat.le_of_ble_eq_true rfl, Nat.le_of_ble_eq_true rfl⟩ hK hP hD hS hA [0] [1] [] rfl rfl rfl (by decide) (by decide) (by decide) (ci := 2) rfl rfl rfl hl.1 rfl (Nat.le_of_ble_eq_true rfl) d_M_start_6 (fun r9 u9 H locs hw9 hK9 hP hD hS => ?_)
  obtain rfl := hw9
  have hP : va_P D classes (wM g0 g1 c3 (nI 0) (nI N) B) H := hP.sub [1, 0] rfl
  have hD : va_D A (wM g0 g1 c3 (nI 0) (nI N) B) := hD.sub [1, 0] (by decide) rfl
  refine r_ifeq (tgt := 23) hx hb d_M_start_9 (by decide) (by omega) (fun z => by omega) (fun z => ?_)
  refine lv_aload_n hx hb d_M_start_12 rfl (lv_at hl 0 rfl) ?_
  refine lv_bipush (v := nI 32) hx hb d_M_start_13 (by decide +kernel) ?_
  refine lv_iload_n hx hb d_M_start_15 rfl (lv_at hl 1 rfl) ?_
  refine r_mul hx hb d_M_start_16 ?_
  refine r_callPi (nA := 1) (rest := []) (ct_M_from l D h0 (show 32 * k ≤ 16384 by omega)) cx (gd_callV mc_M_from ml_M_32 ms_M_from mv_M_from mi_M) (by decide +kernel) rfl ⟨rfl, rfl⟩ ⟨Nat.le_of_ble_eq_true rfl, Nat.le_of_ble_eq_true rfl⟩ ⟨Nat.le_of_ble_eq_true rfl, Nat.le_of_ble_eq_true rfl⟩ hK hP [0, 1] [0] rfl rfl (ci := 2) rfl rfl rfl hl.1 rfl (Nat.le_of_ble_eq_true rfl) d_M_start_17 (fun r9 h9 => ?_)
  obtain rfl := h9
  refine lv_goto (tgt := 24) hx hb d_M_start_20 (by decide) ?_
  exact e_i (w := fun _ : Unit => wM g0 g1 c3 (nI 0) (nI N) B) (tu := fun _ => tM c3) cx hr hlocks () (rfl) hK hP hD hS d_M_start_24
set_option maxHeartbeats 4000000 in
set_option maxRecDepth 100000 in
theorem cn_M_begins (l : Launch) (D : va_G) {g0 g1 : Nat} {c3 : ClassId} {th : Int32} {N : Nat} {B : Nat → Bool} (hN : N ≤ 16384) {x : Int32} (h : x < 0 ∨ nI ((N + 31) / 32) ≤ x) : CtI l y_M_begins c_M_begins (rmL 2) D (wM g0 g1 c3 th (nI N) B) (tM c3) [.ref g0, .int x] (fun r (_ : Unit) => r = nI 0) (fun _ => tM c3) (fun _ => wM g0 g1 c3 (nI 1) (nI N) B) := by
  refine r_metI (by decide) (Nat.le_of_ble_eq_true rfl) ?_
  intro p e s m below meth c ls A cx hr hlocks hin hK hP hD hA hl
  have hx := cx.1
  have hb := cx.2.1
  have hS : va_S A s.heap s.heap [] := va_S.rf
  have hl : lv_has ls 4 [(0, .ref g0), (1, .int x)] := hl
  refine lv_aload_n hx hb d_M_begins_0 rfl (lv_at hl 0 rfl) ?_
  refine lv_aload_n hx hb d_M_begins_1 rfl (lv_at hl 0 rfl) ?_
  refine lv_iload_n hx hb d_M_begins_2 rfl (lv_at hl 1 rfl) ?_
  refine r_callPi (nA := 1) (rest := [.ref g0]) (cn_M_isCard l D hN h) cx (gd_callV mc_M_isCard ml_M_42 ms_M_isCard mv_M_isCard mi_M) (by decide +kernel) rfl ⟨rfl, rfl⟩ ⟨Nat.le_of_ble_eq_true rfl, Nat.le_of_ble_eq_true rfl⟩ ⟨Nat.le_of_ble_eq_true rfl, Nat.le_of_ble_eq_true rfl⟩ hK hP [0, 1] [0] rfl rfl (ci := 2) rfl rfl rfl hl.1 rfl (Nat.le_of_ble_eq_true rfl) d_M_begins_3 (fun r9 h9 => ?_)
  obtain rfl := h9
  refine r_callVi (wr := List.filterMap (fun i : Nat => (wM g0 g1 c3 th (nI N) B : va_W)[i]?) [1]) (nA := 1) (rest := []) (cn_M_goes l D) cx (gd_callV mc_M_goes ml_M_24 ms_M_goes mv_M_goes mi_M) (by decide +kernel) rfl ⟨Nat.le_of_ble_eq_true rfl, Nat.le_of_ble_eq_true rfl⟩ ⟨Nat.le_of_ble_eq_true rfl, Nat.le_of_ble_eq_true rfl⟩ hK hP hD hS hA [0] [1] [] rfl rfl rfl (by decide) (by decide) (by decide) (ci := 2) rfl rfl rfl hl.1 rfl (Nat.le_of_ble_eq_true rfl) d_M_begins_6 (fun r9 u9 H locs hw9 hK9 hP hD hS => ?_)
  obtain rfl := hw9
  have hP : va_P D classes (wM g0 g1 c3 (nI 1) (nI N) B) H := hP.sub [1, 0] rfl
  have hD : va_D A (wM g0 g1 c3 (nI 1) (nI N) B) := hD.sub [1, 0] (by decide) rfl
  refine r_ifne (tgt := 14) hx hb d_M_begins_9 (by decide) (by omega) (fun z => absurd rfl z) (fun z => ?_)
  refine lv_iconst (v := nI 0) hx hb d_M_begins_12 (by decide +kernel) ?_
  exact e_i (w := fun _ : Unit => wM g0 g1 c3 (nI 1) (nI N) B) (tu := fun _ => tM c3) cx hr hlocks () (rfl) hK hP hD hS d_M_begins_13
set_option maxHeartbeats 4000000 in
set_option maxRecDepth 100000 in
theorem ct_M_begins (l : Launch) (D : va_G) {g0 g1 : Nat} {c3 : ClassId} {th : Int32} {N : Nat} {B : Nat → Bool} (hN : N ≤ 16384) (h0 : B 0 = true) (hB : B N = true) {k : Nat} (ha : k < (N + 31) / 32) : CtI l y_M_begins c_M_begins (rmL 2) D (wM g0 g1 c3 th (nI N) B) (tM c3) [.ref g0, .int (nI k)] (fun r (_ : Unit) => r = nI (cnt B (bg_e N k) - cnt B (32 * k))) (fun _ => tM c3) (fun _ => wM g0 g1 c3 (nI 0) (nI N) B) := by
  refine r_metI (by decide) (Nat.le_of_ble_eq_true rfl) ?_
  intro p e s m below meth c ls A cx hr hlocks hin hK hP hD hA hl
  have hx := cx.1
  have hb := cx.2.1
  have hS : va_S A s.heap s.heap [] := va_S.rf
  have hl : lv_has ls 4 [(0, .ref g0), (1, .int (nI k))] := hl
  refine lv_aload_n hx hb d_M_begins_0 rfl (lv_at hl 0 rfl) ?_
  refine lv_aload_n hx hb d_M_begins_1 rfl (lv_at hl 0 rfl) ?_
  refine lv_iload_n hx hb d_M_begins_2 rfl (lv_at hl 1 rfl) ?_
  refine r_callPi (nA := 1) (rest := [.ref g0]) (ct_M_isCard l D hN ha) cx (gd_callV mc_M_isCard ml_M_42 ms_M_isCard mv_M_isCard mi_M) (by decide +kernel) rfl ⟨rfl, rfl⟩ ⟨Nat.le_of_ble_eq_true rfl, Nat.le_of_ble_eq_true rfl⟩ ⟨Nat.le_of_ble_eq_true rfl, Nat.le_of_ble_eq_true rfl⟩ hK hP [0, 1] [0] rfl rfl (ci := 2) rfl rfl rfl hl.1 rfl (Nat.le_of_ble_eq_true rfl) d_M_begins_3 (fun r9 h9 => ?_)
  obtain rfl := h9
  refine r_callVi (wr := List.filterMap (fun i : Nat => (wM g0 g1 c3 th (nI N) B : va_W)[i]?) [1]) (nA := 1) (rest := []) (ct_M_goes l D) cx (gd_callV mc_M_goes ml_M_24 ms_M_goes mv_M_goes mi_M) (by decide +kernel) rfl ⟨Nat.le_of_ble_eq_true rfl, Nat.le_of_ble_eq_true rfl⟩ ⟨Nat.le_of_ble_eq_true rfl, Nat.le_of_ble_eq_true rfl⟩ hK hP hD hS hA [0] [1] [] rfl rfl rfl (by decide) (by decide) (by decide) (ci := 2) rfl rfl rfl hl.1 rfl (Nat.le_of_ble_eq_true rfl) d_M_begins_6 (fun r9 u9 H locs hw9 hK9 hP hD hS => ?_)
  obtain rfl := hw9
  have hP : va_P D classes (wM g0 g1 c3 (nI 0) (nI N) B) H := hP.sub [1, 0] rfl
  have hD : va_D A (wM g0 g1 c3 (nI 0) (nI N) B) := hD.sub [1, 0] (by decide) rfl
  refine r_ifne (tgt := 14) hx hb d_M_begins_9 (by decide) (by omega) (fun z => ?_) (fun z => by omega)
  refine lv_iconst (v := nI 0) hx hb d_M_begins_14 (by decide +kernel) ?_
  refine lv_istore_n (lv' := [(2, .int (nI 0)), (0, .ref g0), (1, .int (nI k))]) hx hb d_M_begins_15 rfl hl (by decide) rfl (fun ls hl => ?_)
  refine lv_bipush (v := nI 32) hx hb d_M_begins_16 (by decide +kernel) ?_
  refine lv_iload_n hx hb d_M_begins_18 rfl (lv_at hl 2 rfl) ?_
  refine r_mul hx hb d_M_begins_19 ?_
  refine lv_istore_n (lv' := [(3, .int (nI (32 * k))), (2, .int (nI 0)), (0, .ref g0), (1, .int (nI k))]) hx hb d_M_begins_20 rfl hl (by decide) rfl (fun ls hl => ?_)
  have hen : bg_e N k = if 32 * k + 32 < N then 32 * k + 32 else N := rfl
  have hen2 : 32 * k < bg_e N k ∧ bg_e N k ≤ N ∧ bg_e N k ≤ 32 * k + 32 ∧ (bg_e N k = N ∨ bg_e N k = 32 * k + 32) := by rw [hen]; split <;> omega
  generalize bg_e N k = en at hen hen2 ⊢
  refine r_loopP (I := fun (q : Nat) ls => (32 * k ≤ q ∧ q ≤ en) ∧ lv_has ls 4 [(0, .ref g0), (1, .int (nI k)), (2, .int (nI (cnt B q - cnt B (32 * k)))), (3, .int (nI q))]) (μ := fun q => en - q) ?_ (32 * k) ⟨⟨Nat.le_refl _, by omega⟩, by rw [Nat.sub_self]; exact lv_sub hl [2, 3, 1, 0] rfl⟩
  intro q ls ⟨⟨hq1, hq2⟩, hl⟩ ih
  refine lv_iload_n hx hb d_M_begins_21 rfl (lv_at hl 3 rfl) ?_
  refine lv_bipush (v := nI 32) hx hb d_M_begins_22 (by decide +kernel) ?_
  refine lv_iload_n hx hb d_M_begins_24 rfl (lv_at hl 1 rfl) ?_
  refine r_mul hx hb d_M_begins_25 ?_
  refine lv_bipush (v := nI 32) hx hb d_M_begins_26 (by decide +kernel) ?_
  refine r_add hx hb d_M_begins_28 ?_
  refine r_ige (tgt := 63) hx hb d_M_begins_29 (by decide) (by omega) (by omega) (fun z1 => ?_) (fun z1 => ?_)
  · refine lv_iload_n hx hb d_M_begins_63 rfl (lv_at hl 2 rfl) ?_
    obtain rfl : q = en := by omega
    exact e_i (w := fun _ : Unit => wM g0 g1 c3 (nI 0) (nI N) B) (tu := fun _ => tM c3) cx hr hlocks () (rfl) hK hP hD hS d_M_begins_64
  · refine lv_iload_n hx hb d_M_begins_32 rfl (lv_at hl 3 rfl) ?_
    refine lv_aload_n hx hb d_M_begins_33 rfl (lv_at hl 0 rfl) ?_
    refine g_M1 cx hK hP 0 rfl d_M_begins_34 ?_
    refine r_ige (tgt := 63) hx hb d_M_begins_37 (by decide) (by omega) (by omega) (fun z2 => ?_) (fun z2 => ?_)
    · refine lv_iload_n hx hb d_M_begins_63 rfl (lv_at hl 2 rfl) ?_
      obtain rfl : q = en := by omega
      exact e_i (w := fun _ : Unit => wM g0 g1 c3 (nI 0) (nI N) B) (tu := fun _ => tM c3) cx hr hlocks () (rfl) hK hP hD hS d_M_begins_64
    · have hm := cnt_mono (B := B) hq1
      refine lv_aload_n hx hb d_M_begins_40 rfl (lv_at hl 0 rfl) ?_
      refine g_M2 cx hK hP 0 rfl d_M_begins_41 ?_
      refine lv_iload_n hx hb d_M_begins_44 rfl (lv_at hl 3 rfl) ?_
      refine r_zald hx hb hK hP 1 0 rfl rfl (show q < 16385 by omega) (by omega) d_M_begins_45 ?_
      refine r_ifeqB (tgt := 55) hx hb d_M_begins_46 (by decide) (fun z3 => ?_) (fun z3 => ?_)
      · have hcs := cnt_f z3
        refine lv_iload_n hx hb d_M_begins_55 rfl (lv_at hl 2 rfl) ?_
        rw [show cnt B q - cnt B (32 * k) = cnt B (q + 1) - cnt B (32 * k) by omega]
        refine lv_istore_n (lv' := [(2, .int (nI (cnt B (q + 1) - cnt B (32 * k)))), (0, .ref g0), (1, .int (nI k)), (3, .int (nI q))]) hx hb d_M_begins_56 rfl hl (by decide) rfl (fun ls hl => ?_)
        refine lv_iinc (v := nI (q + 1)) (lv' := [(3, .int (nI (q + 1))), (2, .int (nI (cnt B (q + 1) - cnt B (32 * k)))), (0, .ref g0), (1, .int (nI k))]) hx hb d_M_begins_57 hl (k := 3) rfl (inc1 _) (by decide) rfl (fun ls hl => ?_)
        refine lv_goto (tgt := 21) hx hb d_M_begins_60 (by decide) ?_
        exact ih (q + 1) ls (by omega) ⟨⟨by omega, by omega⟩, lv_sub hl [2, 3, 1, 0] rfl⟩
      · have hcs := cnt_t z3
        refine lv_iload_n hx hb d_M_begins_49 rfl (lv_at hl 2 rfl) ?_
        refine lv_iconst (v := nI 1) hx hb d_M_begins_50 (by decide +kernel) ?_
        refine r_add hx hb d_M_begins_51 ?_
        refine lv_goto (tgt := 56) hx hb d_M_begins_52 (by decide) ?_
        rw [show (cnt B q - cnt B (32 * k)) + 1 = cnt B (q + 1) - cnt B (32 * k) by omega]
        refine lv_istore_n (lv' := [(2, .int (nI (cnt B (q + 1) - cnt B (32 * k)))), (0, .ref g0), (1, .int (nI k)), (3, .int (nI q))]) hx hb d_M_begins_56 rfl hl (by decide) rfl (fun ls hl => ?_)
        refine lv_iinc (v := nI (q + 1)) (lv' := [(3, .int (nI (q + 1))), (2, .int (nI (cnt B (q + 1) - cnt B (32 * k)))), (0, .ref g0), (1, .int (nI k))]) hx hb d_M_begins_57 hl (k := 3) rfl (inc1 _) (by decide) rfl (fun ls hl => ?_)
        refine lv_goto (tgt := 21) hx hb d_M_begins_60 (by decide) ?_
        exact ih (q + 1) ls (by omega) ⟨⟨by omega, by omega⟩, lv_sub hl [2, 3, 1, 0] rfl⟩
theorem nlt_of {x y : Int32} (h : y < x) (z : ¬ y < x) : False := z h
set_option maxHeartbeats 4000000 in
set_option maxRecDepth 100000 in
theorem cn_M_space (l : Launch) (D : va_G) {g0 g1 : Nat} {c3 : ClassId} {th : Int32} {N : Nat} {B : Nat → Bool} {x : Int32} (h : x < nI 1 ∨ nI 16384 < x) : CtI l y_M_space c_M_space (rmL 2) D (wM g0 g1 c3 th (nI N) B) (tM c3) [.ref g0, .int x] (fun r (_ : Unit) => r = nI 0) (fun _ => tM c3) (fun _ => wM g0 g1 c3 (nI 1) (nI N) B) := by
  refine r_metI (by decide) (Nat.le_of_ble_eq_true rfl) ?_
  intro p e s m below meth c ls A cx hr hlocks hin hK hP hD hA hl
  have hx := cx.1
  have hb := cx.2.1
  have hS : va_S A s.heap s.heap [] := va_S.rf
  have hl : lv_has ls 4 [(0, .ref g0), (1, .int x)] := hl
  by_cases hc9 : x < nI 1
  · refine lv_aload_n hx hb d_M_space_0 rfl (lv_at hl 0 rfl) ?_
    refine lv_iload_n hx hb d_M_space_1 rfl (lv_at hl 1 rfl) ?_
    refine lv_iconst (v := nI 1) hx hb d_M_space_2 (by decide +kernel) ?_
    refine lv_icmp_lt (tgt := 17) hx hb d_M_space_3 (by decide) (fun z => ?_) (fun z => absurd hc9 z)
    refine lv_iconst (v := nI 0) hx hb d_M_space_17 (by decide +kernel) ?_
    refine r_callVi (wr := List.filterMap (fun i : Nat => (wM g0 g1 c3 th (nI N) B : va_W)[i]?) [1]) (nA := 1) (rest := []) (cn_M_goes l D) cx (gd_callV mc_M_goes ml_M_24 ms_M_goes mv_M_goes mi_M) (by decide +kernel) rfl ⟨Nat.le_of_ble_eq_true rfl, Nat.le_of_ble_eq_true rfl⟩ ⟨Nat.le_of_ble_eq_true rfl, Nat.le_of_ble_eq_true rfl⟩ hK hP hD hS hA [0] [1] [] rfl rfl rfl (by decide) (by decide) (by decide) (ci := 2) rfl rfl rfl hl.1 rfl (Nat.le_of_ble_eq_true rfl) d_M_space_18 (fun r9 u9 H locs hw9 hK9 hP hD hS => ?_)
    obtain rfl := hw9
    have hP : va_P D classes (wM g0 g1 c3 (nI 1) (nI N) B) H := hP.sub [1, 0] rfl
    have hD : va_D A (wM g0 g1 c3 (nI 1) (nI N) B) := hD.sub [1, 0] (by decide) rfl
    refine r_ifne (tgt := 26) hx hb d_M_space_21 (by decide) (by omega) (fun z => absurd rfl z) (fun z => ?_)
    refine lv_iconst (v := nI 0) hx hb d_M_space_24 (by decide +kernel) ?_
    exact e_i (w := fun _ : Unit => wM g0 g1 c3 (nI 1) (nI N) B) (tu := fun _ => tM c3) cx hr hlocks () (rfl) hK hP hD hS d_M_space_25
  · refine lv_aload_n hx hb d_M_space_0 rfl (lv_at hl 0 rfl) ?_
    refine lv_iload_n hx hb d_M_space_1 rfl (lv_at hl 1 rfl) ?_
    refine lv_iconst (v := nI 1) hx hb d_M_space_2 (by decide +kernel) ?_
    refine lv_icmp_lt (tgt := 17) hx hb d_M_space_3 (by decide) (fun z => absurd z hc9) (fun z => ?_)
    refine lv_iload_n hx hb d_M_space_6 rfl (lv_at hl 1 rfl) ?_
    refine lv_sipush (v := nI 16384) hx hb d_M_space_7 (by decide +kernel) ?_
    refine lv_icmp_gt (tgt := 17) hx hb d_M_space_10 (by decide) (fun z => ?_) (fun z => absurd (h.resolve_left hc9) z)
    refine lv_iconst (v := nI 0) hx hb d_M_space_17 (by decide +kernel) ?_
    refine r_callVi (wr := List.filterMap (fun i : Nat => (wM g0 g1 c3 th (nI N) B : va_W)[i]?) [1]) (nA := 1) (rest := []) (cn_M_goes l D) cx (gd_callV mc_M_goes ml_M_24 ms_M_goes mv_M_goes mi_M) (by decide +kernel) rfl ⟨Nat.le_of_ble_eq_true rfl, Nat.le_of_ble_eq_true rfl⟩ ⟨Nat.le_of_ble_eq_true rfl, Nat.le_of_ble_eq_true rfl⟩ hK hP hD hS hA [0] [1] [] rfl rfl rfl (by decide) (by decide) (by decide) (ci := 2) rfl rfl rfl hl.1 rfl (Nat.le_of_ble_eq_true rfl) d_M_space_18 (fun r9 u9 H locs hw9 hK9 hP hD hS => ?_)
    obtain rfl := hw9
    have hP : va_P D classes (wM g0 g1 c3 (nI 1) (nI N) B) H := hP.sub [1, 0] rfl
    have hD : va_D A (wM g0 g1 c3 (nI 1) (nI N) B) := hD.sub [1, 0] (by decide) rfl
    refine r_ifne (tgt := 26) hx hb d_M_space_21 (by decide) (by omega) (fun z => absurd rfl z) (fun z => ?_)
    refine lv_iconst (v := nI 0) hx hb d_M_space_24 (by decide +kernel) ?_
    exact e_i (w := fun _ : Unit => wM g0 g1 c3 (nI 1) (nI N) B) (tu := fun _ => tM c3) cx hr hlocks () (rfl) hK hP hD hS d_M_space_25
set_option maxHeartbeats 4000000 in
set_option maxRecDepth 100000 in
theorem ct_M_space (l : Launch) (D : va_G) {g0 g1 : Nat} {c3 : ClassId} {th : Int32} {N : Nat} {B : Nat → Bool} {n : Nat} (hn1 : 1 ≤ n) (hn2 : n ≤ 16384) : CtI l y_M_space c_M_space (rmL 2) D (wM g0 g1 c3 th (nI N) B) (tM c3) [.ref g0, .int (nI n)] (fun r (_ : Unit) => r = nI N) (fun _ => tM c3) (fun _ => wM g0 g1 c3 (nI 0) (nI n) (spB n B)) := by
  refine r_metI (by decide) (Nat.le_of_ble_eq_true rfl) ?_
  intro p e s m below meth c ls A cx hr hlocks hin hK hP hD hA hl
  have hx := cx.1
  have hb := cx.2.1
  have hS : va_S A s.heap s.heap [] := va_S.rf
  have hl : lv_has ls 4 [(0, .ref g0), (1, .int (nI n))] := hl
  refine lv_aload_n hx hb d_M_space_0 rfl (lv_at hl 0 rfl) ?_
  refine lv_iload_n hx hb d_M_space_1 rfl (lv_at hl 1 rfl) ?_
  refine lv_iconst (v := nI 1) hx hb d_M_space_2 (by decide +kernel) ?_
  refine r_ilt (tgt := 17) hx hb d_M_space_3 (by decide) (by omega) (by omega) (fun z => by omega) (fun z => ?_)
  refine lv_iload_n hx hb d_M_space_6 rfl (lv_at hl 1 rfl) ?_
  refine lv_sipush (v := nI 16384) hx hb d_M_space_7 (by decide +kernel) ?_
  refine r_igt (tgt := 17) hx hb d_M_space_10 (by decide) (by omega) (by omega) (fun z => by omega) (fun z => ?_)
  refine lv_iconst (v := nI 1) hx hb d_M_space_13 (by decide +kernel) ?_
  refine lv_goto (tgt := 18) hx hb d_M_space_14 (by decide) ?_
  refine r_callVi (wr := List.filterMap (fun i : Nat => (wM g0 g1 c3 th (nI N) B : va_W)[i]?) [1]) (nA := 1) (rest := []) (ct_M_goes l D) cx (gd_callV mc_M_goes ml_M_24 ms_M_goes mv_M_goes mi_M) (by decide +kernel) rfl ⟨Nat.le_of_ble_eq_true rfl, Nat.le_of_ble_eq_true rfl⟩ ⟨Nat.le_of_ble_eq_true rfl, Nat.le_of_ble_eq_true rfl⟩ hK hP hD hS hA [0] [1] [] rfl rfl rfl (by decide) (by decide) (by decide) (ci := 2) rfl rfl rfl hl.1 rfl (Nat.le_of_ble_eq_true rfl) d_M_space_18 (fun r9 u9 H locs hw9 hK9 hP hD hS => ?_)
  obtain rfl := hw9
  have hP : va_P D classes (wM g0 g1 c3 (nI 0) (nI N) B) H := hP.sub [1, 0] rfl
  have hD : va_D A (wM g0 g1 c3 (nI 0) (nI N) B) := hD.sub [1, 0] (by decide) rfl
  refine r_ifne (tgt := 26) hx hb d_M_space_21 (by decide) (by omega) (fun z => ?_) (fun z => by omega)
  refine lv_aload_n hx hb d_M_space_26 rfl (lv_at hl 0 rfl) ?_
  refine g_M1 cx hK hP 0 rfl d_M_space_27 ?_
  refine lv_istore_n (lv' := [(2, .int (nI N)), (0, .ref g0), (1, .int (nI n))]) hx hb d_M_space_30 rfl hl (by decide) rfl (fun ls hl => ?_)
  refine lv_iconst (v := nI 0) hx hb d_M_space_31 (by decide +kernel) ?_
  refine lv_istore_n (lv' := [(3, .int (nI 0)), (2, .int (nI N)), (0, .ref g0), (1, .int (nI n))]) hx hb d_M_space_32 rfl hl (by decide) rfl (fun ls hl => ?_)
  refine r_loopW (I := fun (q : Nat) H locs ls => q ≤ 16385 ∧ va_P D classes (wM g0 g1 c3 (nI 0) (nI N) (mkP B 0 n q)) H ∧ va_D A (wM g0 g1 c3 (nI 0) (nI N) (mkP B 0 n q)) ∧ va_S A s.heap H locs ∧ lv_has ls 4 [(0, .ref g0), (1, .int (nI n)), (2, .int (nI N)), (3, .int (nI q))]) (μ := fun q => 16385 - q) ?_ 0 ⟨Nat.zero_le _, by rw [mkP_0]; exact hP, by rw [mkP_0]; exact hD, hS, lv_sub hl [2, 3, 1, 0] rfl⟩
  intro q H locs ls ⟨hq1, hP, hD, hS, hl⟩ ih
  refine lv_iload_n hx hb d_M_space_33 rfl (lv_at hl 3 rfl) ?_
  refine lv_sipush (v := nI 16384) hx hb d_M_space_34 (by decide +kernel) ?_
  refine r_igt (tgt := 66) hx hb d_M_space_37 (by decide) (by omega) (by omega) (fun z1 => ?_) (fun z1 => ?_)
  · obtain rfl : q = 16385 := by omega
    rw [mkP_sp] at hP hD
    refine lv_aload_n hx hb d_M_space_66 rfl (lv_at hl 0 rfl) ?_
    refine lv_iload_n hx hb d_M_space_67 rfl (lv_at hl 1 rfl) ?_
    refine p_M1 cx hK hP hD hS 0 rfl d_M_space_68 (fun H locs hP hD hS => ?_)
    have hP : va_P D classes (wM g0 g1 c3 (nI 0) (nI n) (spB n B)) H := hP
    have hD : va_D A (wM g0 g1 c3 (nI 0) (nI n) (spB n B)) := hD
    refine lv_iload_n hx hb d_M_space_71 rfl (lv_at hl 2 rfl) ?_
    exact e_i (w := fun _ : Unit => wM g0 g1 c3 (nI 0) (nI n) (spB n B)) (tu := fun _ => tM c3) cx hr hlocks () (rfl) hK hP hD hS d_M_space_72
  · refine lv_aload_n hx hb d_M_space_40 rfl (lv_at hl 0 rfl) ?_
    refine g_M2 cx hK hP 0 rfl d_M_space_41 ?_
    refine lv_iload_n hx hb d_M_space_44 rfl (lv_at hl 3 rfl) ?_
    refine lv_iload_n hx hb d_M_space_45 rfl (lv_at hl 3 rfl) ?_
    refine r_ifeq (tgt := 54) hx hb d_M_space_46 (by decide) (by omega) (fun z2 => ?_) (fun z2 => ?_)
    · refine lv_iconst (v := nI 1) hx hb d_M_space_54 (by decide +kernel) ?_
      refine lv_goto (tgt := 59) hx hb d_M_space_55 (by decide) ?_
      refine r_zast hx hb hK hP hD hS 1 0 ((decide (q = 0) || decide (q = n))) rfl rfl (by rw [show (decide (q = 0) || decide (q = n)) = true by simp [z2]]; rfl) (show q < 16385 by omega) (by omega) d_M_space_59 (fun H locs hP hD hS => ?_)
      have hP : va_P D classes (wM g0 g1 c3 (nI 0) (nI N) (sB (mkP B 0 n q) q (decide (q = 0) || decide (q = n)))) H := hP
      have hD : va_D A (wM g0 g1 c3 (nI 0) (nI N) (sB (mkP B 0 n q) q (decide (q = 0) || decide (q = n)))) := hD
      rw [mkP_s (by omega)] at hP hD
      refine lv_iinc (v := nI (q + 1)) (lv' := [(3, .int (nI (q + 1))), (0, .ref g0), (1, .int (nI n)), (2, .int (nI N))]) hx hb d_M_space_60 hl (k := 3) rfl (inc1 _) (by decide) rfl (fun ls hl => ?_)
      refine lv_goto (tgt := 33) hx hb d_M_space_63 (by decide) ?_
      exact ih (q + 1) H locs ls (by omega) ⟨by omega, hP, hD, hS, lv_sub hl [1, 2, 3, 0] rfl⟩
    · refine lv_iload_n hx hb d_M_space_49 rfl (lv_at hl 3 rfl) ?_
      refine lv_iload_n hx hb d_M_space_50 rfl (lv_at hl 1 rfl) ?_
      refine r_ine (tgt := 58) hx hb d_M_space_51 (by decide) (by omega) (by omega) (fun z3 => ?_) (fun z3 => ?_)
      · refine lv_iconst (v := nI 0) hx hb d_M_space_58 (by decide +kernel) ?_
        refine r_zast hx hb hK hP hD hS 1 0 ((decide (q = 0) || decide (q = n))) rfl rfl (by rw [show (decide (q = 0) || decide (q = n)) = false by simp [z2, z3]]; rfl) (show q < 16385 by omega) (by omega) d_M_space_59 (fun H locs hP hD hS => ?_)
        have hP : va_P D classes (wM g0 g1 c3 (nI 0) (nI N) (sB (mkP B 0 n q) q (decide (q = 0) || decide (q = n)))) H := hP
        have hD : va_D A (wM g0 g1 c3 (nI 0) (nI N) (sB (mkP B 0 n q) q (decide (q = 0) || decide (q = n)))) := hD
        rw [mkP_s (by omega)] at hP hD
        refine lv_iinc (v := nI (q + 1)) (lv' := [(3, .int (nI (q + 1))), (0, .ref g0), (1, .int (nI n)), (2, .int (nI N))]) hx hb d_M_space_60 hl (k := 3) rfl (inc1 _) (by decide) rfl (fun ls hl => ?_)
        refine lv_goto (tgt := 33) hx hb d_M_space_63 (by decide) ?_
        exact ih (q + 1) H locs ls (by omega) ⟨by omega, hP, hD, hS, lv_sub hl [1, 2, 3, 0] rfl⟩
      · refine lv_iconst (v := nI 1) hx hb d_M_space_54 (by decide +kernel) ?_
        refine lv_goto (tgt := 59) hx hb d_M_space_55 (by decide) ?_
        refine r_zast hx hb hK hP hD hS 1 0 ((decide (q = 0) || decide (q = n))) rfl rfl (by rw [show (decide (q = 0) || decide (q = n)) = true by simp [z3]]; rfl) (show q < 16385 by omega) (by omega) d_M_space_59 (fun H locs hP hD hS => ?_)
        have hP : va_P D classes (wM g0 g1 c3 (nI 0) (nI N) (sB (mkP B 0 n q) q (decide (q = 0) || decide (q = n)))) H := hP
        have hD : va_D A (wM g0 g1 c3 (nI 0) (nI N) (sB (mkP B 0 n q) q (decide (q = 0) || decide (q = n)))) := hD
        rw [mkP_s (by omega)] at hP hD
        refine lv_iinc (v := nI (q + 1)) (lv' := [(3, .int (nI (q + 1))), (0, .ref g0), (1, .int (nI n)), (2, .int (nI N))]) hx hb d_M_space_60 hl (k := 3) rfl (inc1 _) (by decide) rfl (fun ls hl => ?_)
        refine lv_goto (tgt := 33) hx hb d_M_space_63 (by decide) ?_
        exact ih (q + 1) H locs ls (by omega) ⟨by omega, hP, hD, hS, lv_sub hl [1, 2, 3, 0] rfl⟩
set_option maxHeartbeats 4000000 in
set_option maxRecDepth 100000 in
theorem cn_M_make1 (l : Launch) (D : va_G) {g0 g1 : Nat} {c3 : ClassId} {th : Int32} {N : Nat} {B : Nat → Bool} {x y : Int32} (h : x < 0 ∨ nI N ≤ x) : CtI l y_M_make c_M_make (rmL 2) D (wM g0 g1 c3 th (nI N) B) (tM c3) [.ref g0, .int x, .int y] (fun r (_ : Unit) => r = nI 0) (fun _ => tM c3) (fun _ => wM g0 g1 c3 (nI 1) (nI N) B) := by
  refine r_metI (by decide) (Nat.le_of_ble_eq_true rfl) ?_
  intro p e s m below meth c ls A cx hr hlocks hin hK hP hD hA hl
  have hx := cx.1
  have hb := cx.2.1
  have hS : va_S A s.heap s.heap [] := va_S.rf
  have hl : lv_has ls 4 [(0, .ref g0), (1, .int x), (2, .int y)] := hl
  refine lv_aload_n hx hb d_M_make_0 rfl (lv_at hl 0 rfl) ?_
  refine lv_aload_n hx hb d_M_make_1 rfl (lv_at hl 0 rfl) ?_
  refine lv_iload_n hx hb d_M_make_2 rfl (lv_at hl 1 rfl) ?_
  refine r_callPi (nA := 1) (rest := [.ref g0]) (cn_M_isCell l D h) cx (gd_callV mc_M_isCell ml_M_28 ms_M_isCell mv_M_isCell mi_M) (by decide +kernel) rfl ⟨rfl, rfl⟩ ⟨Nat.le_of_ble_eq_true rfl, Nat.le_of_ble_eq_true rfl⟩ ⟨Nat.le_of_ble_eq_true rfl, Nat.le_of_ble_eq_true rfl⟩ hK hP [0, 1] [0] rfl rfl (ci := 2) rfl rfl rfl hl.1 rfl (Nat.le_of_ble_eq_true rfl) d_M_make_3 (fun r9 h9 => ?_)
  obtain rfl := h9
  refine r_ifeq (tgt := 26) hx hb d_M_make_6 (by decide) (by omega) (fun z => ?_) (fun z => absurd rfl z)
  refine lv_iconst (v := nI 0) hx hb d_M_make_26 (by decide +kernel) ?_
  refine r_callVi (wr := List.filterMap (fun i : Nat => (wM g0 g1 c3 th (nI N) B : va_W)[i]?) [1]) (nA := 1) (rest := []) (cn_M_goes l D) cx (gd_callV mc_M_goes ml_M_24 ms_M_goes mv_M_goes mi_M) (by decide +kernel) rfl ⟨Nat.le_of_ble_eq_true rfl, Nat.le_of_ble_eq_true rfl⟩ ⟨Nat.le_of_ble_eq_true rfl, Nat.le_of_ble_eq_true rfl⟩ hK hP hD hS hA [0] [1] [] rfl rfl rfl (by decide) (by decide) (by decide) (ci := 2) rfl rfl rfl hl.1 rfl (Nat.le_of_ble_eq_true rfl) d_M_make_27 (fun r9 u9 H locs hw9 hK9 hP hD hS => ?_)
  obtain rfl := hw9
  have hP : va_P D classes (wM g0 g1 c3 (nI 1) (nI N) B) H := hP.sub [1, 0] rfl
  have hD : va_D A (wM g0 g1 c3 (nI 1) (nI N) B) := hD.sub [1, 0] (by decide) rfl
  refine r_ifne (tgt := 35) hx hb d_M_make_30 (by decide) (by omega) (fun z => absurd rfl z) (fun z => ?_)
  refine lv_iconst (v := nI 0) hx hb d_M_make_33 (by decide +kernel) ?_
  exact e_i (w := fun _ : Unit => wM g0 g1 c3 (nI 1) (nI N) B) (tu := fun _ => tM c3) cx hr hlocks () (rfl) hK hP hD hS d_M_make_34
set_option maxHeartbeats 4000000 in
set_option maxRecDepth 100000 in
theorem cn_M_make2 (l : Launch) (D : va_G) {g0 g1 : Nat} {c3 : ClassId} {th : Int32} {N : Nat} {B : Nat → Bool} (hN : N ≤ 16384) {a : Nat} (ha : a < N) {y : Int32} (h : y ≤ nI a ∨ nI N < y) : CtI l y_M_make c_M_make (rmL 2) D (wM g0 g1 c3 th (nI N) B) (tM c3) [.ref g0, .int (nI a), .int y] (fun r (_ : Unit) => r = nI 0) (fun _ => tM c3) (fun _ => wM g0 g1 c3 (nI 1) (nI N) B) := by
  refine r_metI (by decide) (Nat.le_of_ble_eq_true rfl) ?_
  intro p e s m below meth c ls A cx hr hlocks hin hK hP hD hA hl
  have hx := cx.1
  have hb := cx.2.1
  have hS : va_S A s.heap s.heap [] := va_S.rf
  have hl : lv_has ls 4 [(0, .ref g0), (1, .int (nI a)), (2, .int y)] := hl
  refine lv_aload_n hx hb d_M_make_0 rfl (lv_at hl 0 rfl) ?_
  refine lv_aload_n hx hb d_M_make_1 rfl (lv_at hl 0 rfl) ?_
  refine lv_iload_n hx hb d_M_make_2 rfl (lv_at hl 1 rfl) ?_
  refine r_callPi (nA := 1) (rest := [.ref g0]) (ct_M_isCell l D hN ha) cx (gd_callV mc_M_isCell ml_M_28 ms_M_isCell mv_M_isCell mi_M) (by decide +kernel) rfl ⟨rfl, rfl⟩ ⟨Nat.le_of_ble_eq_true rfl, Nat.le_of_ble_eq_true rfl⟩ ⟨Nat.le_of_ble_eq_true rfl, Nat.le_of_ble_eq_true rfl⟩ hK hP [0, 1] [0] rfl rfl (ci := 2) rfl rfl rfl hl.1 rfl (Nat.le_of_ble_eq_true rfl) d_M_make_3 (fun r9 h9 => ?_)
  obtain rfl := h9
  refine r_ifeq (tgt := 26) hx hb d_M_make_6 (by decide) (by omega) (fun z => by omega) (fun z => ?_)
  by_cases hc9 : y ≤ nI a
  · refine lv_iload_n hx hb d_M_make_9 rfl (lv_at hl 2 rfl) ?_
    refine lv_iload_n hx hb d_M_make_10 rfl (lv_at hl 1 rfl) ?_
    refine lv_icmp_le (tgt := 26) hx hb d_M_make_11 (by decide) (fun z => ?_) (fun z => absurd hc9 z)
    refine lv_iconst (v := nI 0) hx hb d_M_make_26 (by decide +kernel) ?_
    refine r_callVi (wr := List.filterMap (fun i : Nat => (wM g0 g1 c3 th (nI N) B : va_W)[i]?) [1]) (nA := 1) (rest := []) (cn_M_goes l D) cx (gd_callV mc_M_goes ml_M_24 ms_M_goes mv_M_goes mi_M) (by decide +kernel) rfl ⟨Nat.le_of_ble_eq_true rfl, Nat.le_of_ble_eq_true rfl⟩ ⟨Nat.le_of_ble_eq_true rfl, Nat.le_of_ble_eq_true rfl⟩ hK hP hD hS hA [0] [1] [] rfl rfl rfl (by decide) (by decide) (by decide) (ci := 2) rfl rfl rfl hl.1 rfl (Nat.le_of_ble_eq_true rfl) d_M_make_27 (fun r9 u9 H locs hw9 hK9 hP hD hS => ?_)
    obtain rfl := hw9
    have hP : va_P D classes (wM g0 g1 c3 (nI 1) (nI N) B) H := hP.sub [1, 0] rfl
    have hD : va_D A (wM g0 g1 c3 (nI 1) (nI N) B) := hD.sub [1, 0] (by decide) rfl
    refine r_ifne (tgt := 35) hx hb d_M_make_30 (by decide) (by omega) (fun z => absurd rfl z) (fun z => ?_)
    refine lv_iconst (v := nI 0) hx hb d_M_make_33 (by decide +kernel) ?_
    exact e_i (w := fun _ : Unit => wM g0 g1 c3 (nI 1) (nI N) B) (tu := fun _ => tM c3) cx hr hlocks () (rfl) hK hP hD hS d_M_make_34
  · refine lv_iload_n hx hb d_M_make_9 rfl (lv_at hl 2 rfl) ?_
    refine lv_iload_n hx hb d_M_make_10 rfl (lv_at hl 1 rfl) ?_
    refine lv_icmp_le (tgt := 26) hx hb d_M_make_11 (by decide) (fun z => absurd z hc9) (fun z => ?_)
    refine lv_iload_n hx hb d_M_make_14 rfl (lv_at hl 2 rfl) ?_
    refine lv_aload_n hx hb d_M_make_15 rfl (lv_at hl 0 rfl) ?_
    refine g_M1 cx hK hP 0 rfl d_M_make_16 ?_
    refine lv_icmp_gt (tgt := 26) hx hb d_M_make_19 (by decide) (fun z => ?_) (fun z => absurd (h.resolve_left hc9) z)
    refine lv_iconst (v := nI 0) hx hb d_M_make_26 (by decide +kernel) ?_
    refine r_callVi (wr := List.filterMap (fun i : Nat => (wM g0 g1 c3 th (nI N) B : va_W)[i]?) [1]) (nA := 1) (rest := []) (cn_M_goes l D) cx (gd_callV mc_M_goes ml_M_24 ms_M_goes mv_M_goes mi_M) (by decide +kernel) rfl ⟨Nat.le_of_ble_eq_true rfl, Nat.le_of_ble_eq_true rfl⟩ ⟨Nat.le_of_ble_eq_true rfl, Nat.le_of_ble_eq_true rfl⟩ hK hP hD hS hA [0] [1] [] rfl rfl rfl (by decide) (by decide) (by decide) (ci := 2) rfl rfl rfl hl.1 rfl (Nat.le_of_ble_eq_true rfl) d_M_make_27 (fun r9 u9 H locs hw9 hK9 hP hD hS => ?_)
    obtain rfl := hw9
    have hP : va_P D classes (wM g0 g1 c3 (nI 1) (nI N) B) H := hP.sub [1, 0] rfl
    have hD : va_D A (wM g0 g1 c3 (nI 1) (nI N) B) := hD.sub [1, 0] (by decide) rfl
    refine r_ifne (tgt := 35) hx hb d_M_make_30 (by decide) (by omega) (fun z => absurd rfl z) (fun z => ?_)
    refine lv_iconst (v := nI 0) hx hb d_M_make_33 (by decide +kernel) ?_
    exact e_i (w := fun _ : Unit => wM g0 g1 c3 (nI 1) (nI N) B) (tu := fun _ => tM c3) cx hr hlocks () (rfl) hK hP hD hS d_M_make_34
set_option maxHeartbeats 4000000 in
set_option maxRecDepth 100000 in
theorem ct_M_make (l : Launch) (D : va_G) {g0 g1 : Nat} {c3 : ClassId} {th : Int32} {N : Nat} {B : Nat → Bool} (hN : N ≤ 16384) {a b : Nat} (hab : a < b) (hbN : b ≤ N) : CtI l y_M_make c_M_make (rmL 2) D (wM g0 g1 c3 th (nI N) B) (tM c3) [.ref g0, .int (nI a), .int (nI b)] (fun r (_ : Unit) => r = nI (cnt (mkB B a b) N)) (fun _ => tM c3) (fun _ => wM g0 g1 c3 (nI 0) (nI N) (mkB B a b)) := by
  refine r_metI (by decide) (Nat.le_of_ble_eq_true rfl) ?_
  intro p e s m below meth c ls A cx hr hlocks hin hK hP hD hA hl
  have hx := cx.1
  have hb := cx.2.1
  have hS : va_S A s.heap s.heap [] := va_S.rf
  have hl : lv_has ls 4 [(0, .ref g0), (1, .int (nI a)), (2, .int (nI b))] := hl
  have ha : a < N := by omega
  refine lv_aload_n hx hb d_M_make_0 rfl (lv_at hl 0 rfl) ?_
  refine lv_aload_n hx hb d_M_make_1 rfl (lv_at hl 0 rfl) ?_
  refine lv_iload_n hx hb d_M_make_2 rfl (lv_at hl 1 rfl) ?_
  refine r_callPi (nA := 1) (rest := [.ref g0]) (ct_M_isCell l D hN ha) cx (gd_callV mc_M_isCell ml_M_28 ms_M_isCell mv_M_isCell mi_M) (by decide +kernel) rfl ⟨rfl, rfl⟩ ⟨Nat.le_of_ble_eq_true rfl, Nat.le_of_ble_eq_true rfl⟩ ⟨Nat.le_of_ble_eq_true rfl, Nat.le_of_ble_eq_true rfl⟩ hK hP [0, 1] [0] rfl rfl (ci := 2) rfl rfl rfl hl.1 rfl (Nat.le_of_ble_eq_true rfl) d_M_make_3 (fun r9 h9 => ?_)
  obtain rfl := h9
  refine r_ifeq (tgt := 26) hx hb d_M_make_6 (by decide) (by omega) (fun z => by omega) (fun z => ?_)
  refine lv_iload_n hx hb d_M_make_9 rfl (lv_at hl 2 rfl) ?_
  refine lv_iload_n hx hb d_M_make_10 rfl (lv_at hl 1 rfl) ?_
  refine r_ile (tgt := 26) hx hb d_M_make_11 (by decide) (by omega) (by omega) (fun z => by omega) (fun z => ?_)
  refine lv_iload_n hx hb d_M_make_14 rfl (lv_at hl 2 rfl) ?_
  refine lv_aload_n hx hb d_M_make_15 rfl (lv_at hl 0 rfl) ?_
  refine g_M1 cx hK hP 0 rfl d_M_make_16 ?_
  refine r_igt (tgt := 26) hx hb d_M_make_19 (by decide) (by omega) (by omega) (fun z => by omega) (fun z => ?_)
  refine lv_iconst (v := nI 1) hx hb d_M_make_22 (by decide +kernel) ?_
  refine lv_goto (tgt := 27) hx hb d_M_make_23 (by decide) ?_
  refine r_callVi (wr := List.filterMap (fun i : Nat => (wM g0 g1 c3 th (nI N) B : va_W)[i]?) [1]) (nA := 1) (rest := []) (ct_M_goes l D) cx (gd_callV mc_M_goes ml_M_24 ms_M_goes mv_M_goes mi_M) (by decide +kernel) rfl ⟨Nat.le_of_ble_eq_true rfl, Nat.le_of_ble_eq_true rfl⟩ ⟨Nat.le_of_ble_eq_true rfl, Nat.le_of_ble_eq_true rfl⟩ hK hP hD hS hA [0] [1] [] rfl rfl rfl (by decide) (by decide) (by decide) (ci := 2) rfl rfl rfl hl.1 rfl (Nat.le_of_ble_eq_true rfl) d_M_make_27 (fun r9 u9 H locs hw9 hK9 hP hD hS => ?_)
  obtain rfl := hw9
  have hP : va_P D classes (wM g0 g1 c3 (nI 0) (nI N) B) H := hP.sub [1, 0] rfl
  have hD : va_D A (wM g0 g1 c3 (nI 0) (nI N) B) := hD.sub [1, 0] (by decide) rfl
  refine r_ifne (tgt := 35) hx hb d_M_make_30 (by decide) (by omega) (fun z => ?_) (fun z => by omega)
  refine lv_iload_n hx hb d_M_make_35 rfl (lv_at hl 1 rfl) ?_
  refine lv_istore_n (lv' := [(3, .int (nI a)), (0, .ref g0), (1, .int (nI a)), (2, .int (nI b))]) hx hb d_M_make_36 rfl hl (by decide) rfl (fun ls hl => ?_)
  refine r_loopW (I := fun (q : Nat) H locs ls => (a ≤ q ∧ q ≤ b + 1) ∧ va_P D classes (wM g0 g1 c3 (nI 0) (nI N) (mkP B a b q)) H ∧ va_D A (wM g0 g1 c3 (nI 0) (nI N) (mkP B a b q)) ∧ va_S A s.heap H locs ∧ lv_has ls 4 [(0, .ref g0), (1, .int (nI a)), (2, .int (nI b)), (3, .int (nI q))]) (μ := fun q => b + 1 - q) ?_ a ⟨⟨Nat.le_refl a, by omega⟩, by rw [mkP_0]; exact hP, by rw [mkP_0]; exact hD, hS, lv_sub hl [1, 2, 3, 0] rfl⟩
  intro q H locs ls ⟨⟨hq1, hq2⟩, hP, hD, hS, hl⟩ ih
  refine lv_iload_n hx hb d_M_make_37 rfl (lv_at hl 3 rfl) ?_
  refine lv_iload_n hx hb d_M_make_38 rfl (lv_at hl 2 rfl) ?_
  refine r_igt (tgt := 69) hx hb d_M_make_39 (by decide) (by omega) (by omega) (fun z1 => ?_) (fun z1 => ?_)
  · obtain rfl : q = b + 1 := by omega
    rw [mkP_e] at hP hD
    refine lv_aload_n hx hb d_M_make_69 rfl (lv_at hl 0 rfl) ?_
    refine r_callPi (nA := 0) (rest := []) (ct_M_pieces l D hN) cx (gd_callV mc_M_pieces ml_M_39 ms_M_pieces mv_M_pieces mi_M) (by decide +kernel) rfl ⟨rfl, rfl⟩ ⟨Nat.le_of_ble_eq_true rfl, Nat.le_of_ble_eq_true rfl⟩ ⟨Nat.le_of_ble_eq_true rfl, Nat.le_of_ble_eq_true rfl⟩ hK hP [0, 1] [0] rfl rfl (ci := 2) rfl rfl rfl hl.1 rfl (Nat.le_of_ble_eq_true rfl) d_M_make_70 (fun r9 h9 => ?_)
    obtain rfl := h9
    exact e_i (w := fun _ : Unit => wM g0 g1 c3 (nI 0) (nI N) (mkB B a b)) (tu := fun _ => tM c3) cx hr hlocks () (rfl) hK hP hD hS d_M_make_73
  · refine lv_aload_n hx hb d_M_make_42 rfl (lv_at hl 0 rfl) ?_
    refine g_M2 cx hK hP 0 rfl d_M_make_43 ?_
    refine lv_iload_n hx hb d_M_make_46 rfl (lv_at hl 3 rfl) ?_
    refine lv_iload_n hx hb d_M_make_47 rfl (lv_at hl 3 rfl) ?_
    refine lv_iload_n hx hb d_M_make_48 rfl (lv_at hl 1 rfl) ?_
    refine r_ieq (tgt := 57) hx hb d_M_make_49 (by decide) (by omega) (by omega) (fun z2 => ?_) (fun z2 => ?_)
    · refine lv_iconst (v := nI 1) hx hb d_M_make_57 (by decide +kernel) ?_
      refine lv_goto (tgt := 62) hx hb d_M_make_58 (by decide) ?_
      refine r_zast hx hb hK hP hD hS 1 0 ((decide (q = a) || decide (q = b))) rfl rfl (by rw [show (decide (q = a) || decide (q = b)) = true by simp [z2]]; rfl) (show q < 16385 by omega) (by omega) d_M_make_62 (fun H locs hP hD hS => ?_)
      have hP : va_P D classes (wM g0 g1 c3 (nI 0) (nI N) (sB (mkP B a b q) q (decide (q = a) || decide (q = b)))) H := hP
      have hD : va_D A (wM g0 g1 c3 (nI 0) (nI N) (sB (mkP B a b q) q (decide (q = a) || decide (q = b)))) := hD
      rw [mkP_s (by omega)] at hP hD
      refine lv_iinc (v := nI (q + 1)) (lv' := [(3, .int (nI (q + 1))), (0, .ref g0), (1, .int (nI a)), (2, .int (nI b))]) hx hb d_M_make_63 hl (k := 3) rfl (inc1 _) (by decide) rfl (fun ls hl => ?_)
      refine lv_goto (tgt := 37) hx hb d_M_make_66 (by decide) ?_
      exact ih (q + 1) H locs ls (by omega) ⟨⟨by omega, by omega⟩, hP, hD, hS, lv_sub hl [1, 2, 3, 0] rfl⟩
    · refine lv_iload_n hx hb d_M_make_52 rfl (lv_at hl 3 rfl) ?_
      refine lv_iload_n hx hb d_M_make_53 rfl (lv_at hl 2 rfl) ?_
      refine r_ine (tgt := 61) hx hb d_M_make_54 (by decide) (by omega) (by omega) (fun z3 => ?_) (fun z3 => ?_)
      · refine lv_iconst (v := nI 0) hx hb d_M_make_61 (by decide +kernel) ?_
        refine r_zast hx hb hK hP hD hS 1 0 ((decide (q = a) || decide (q = b))) rfl rfl (by rw [show (decide (q = a) || decide (q = b)) = false by simp [z2, z3]]; rfl) (show q < 16385 by omega) (by omega) d_M_make_62 (fun H locs hP hD hS => ?_)
        have hP : va_P D classes (wM g0 g1 c3 (nI 0) (nI N) (sB (mkP B a b q) q (decide (q = a) || decide (q = b)))) H := hP
        have hD : va_D A (wM g0 g1 c3 (nI 0) (nI N) (sB (mkP B a b q) q (decide (q = a) || decide (q = b)))) := hD
        rw [mkP_s (by omega)] at hP hD
        refine lv_iinc (v := nI (q + 1)) (lv' := [(3, .int (nI (q + 1))), (0, .ref g0), (1, .int (nI a)), (2, .int (nI b))]) hx hb d_M_make_63 hl (k := 3) rfl (inc1 _) (by decide) rfl (fun ls hl => ?_)
        refine lv_goto (tgt := 37) hx hb d_M_make_66 (by decide) ?_
        exact ih (q + 1) H locs ls (by omega) ⟨⟨by omega, by omega⟩, hP, hD, hS, lv_sub hl [1, 2, 3, 0] rfl⟩
      · refine lv_iconst (v := nI 1) hx hb d_M_make_57 (by decide +kernel) ?_
        refine lv_goto (tgt := 62) hx hb d_M_make_58 (by decide) ?_
        refine r_zast hx hb hK hP hD hS 1 0 ((decide (q = a) || decide (q = b))) rfl rfl (by rw [show (decide (q = a) || decide (q = b)) = true by simp [z3]]; rfl) (show q < 16385 by omega) (by omega) d_M_make_62 (fun H locs hP hD hS => ?_)
        have hP : va_P D classes (wM g0 g1 c3 (nI 0) (nI N) (sB (mkP B a b q) q (decide (q = a) || decide (q = b)))) H := hP
        have hD : va_D A (wM g0 g1 c3 (nI 0) (nI N) (sB (mkP B a b q) q (decide (q = a) || decide (q = b)))) := hD
        rw [mkP_s (by omega)] at hP hD
        refine lv_iinc (v := nI (q + 1)) (lv' := [(3, .int (nI (q + 1))), (0, .ref g0), (1, .int (nI a)), (2, .int (nI b))]) hx hb d_M_make_63 hl (k := 3) rfl (inc1 _) (by decide) rfl (fun ls hl => ?_)
        refine lv_goto (tgt := 37) hx hb d_M_make_66 (by decide) ?_
        exact ih (q + 1) H locs ls (by omega) ⟨⟨by omega, by omega⟩, hP, hD, hS, lv_sub hl [1, 2, 3, 0] rfl⟩
set_option maxHeartbeats 4000000 in
set_option maxRecDepth 100000 in
theorem cn_M_count (l : Launch) (D : va_G) {g0 g1 : Nat} {c3 : ClassId} {th : Int32} {N : Nat} {B : Nat → Bool} {x : Int32} (h : x < 0 ∨ nI 4 < x) : CtI l y_M_count c_M_count (rmL 2) D (wM g0 g1 c3 th (nI N) B) (tM c3) [.ref g0, .int x] (fun r (_ : Unit) => r = nI 0) (fun _ => tM c3) (fun _ => wM g0 g1 c3 (nI 1) (nI N) B) := by
  refine r_metI (by decide) (Nat.le_of_ble_eq_true rfl) ?_
  intro p e s m below meth c ls A cx hr hlocks hin hK hP hD hA hl
  have hx := cx.1
  have hb := cx.2.1
  have hS : va_S A s.heap s.heap [] := va_S.rf
  have hl : lv_has ls 6 [(0, .ref g0), (1, .int x)] := hl
  by_cases hc9 : x < 0
  · refine lv_aload_n hx hb d_M_count_0 rfl (lv_at hl 0 rfl) ?_
    refine lv_iload_n hx hb d_M_count_1 rfl (lv_at hl 1 rfl) ?_
    refine lv_if_lt (tgt := 14) hx hb d_M_count_2 (by decide) (fun z => ?_) (fun z => absurd hc9 z)
    refine lv_iconst (v := nI 0) hx hb d_M_count_14 (by decide +kernel) ?_
    refine r_callVi (wr := List.filterMap (fun i : Nat => (wM g0 g1 c3 th (nI N) B : va_W)[i]?) [1]) (nA := 1) (rest := []) (cn_M_goes l D) cx (gd_callV mc_M_goes ml_M_24 ms_M_goes mv_M_goes mi_M) (by decide +kernel) rfl ⟨Nat.le_of_ble_eq_true rfl, Nat.le_of_ble_eq_true rfl⟩ ⟨Nat.le_of_ble_eq_true rfl, Nat.le_of_ble_eq_true rfl⟩ hK hP hD hS hA [0] [1] [] rfl rfl rfl (by decide) (by decide) (by decide) (ci := 2) rfl rfl rfl hl.1 rfl (Nat.le_of_ble_eq_true rfl) d_M_count_15 (fun r9 u9 H locs hw9 hK9 hP hD hS => ?_)
    obtain rfl := hw9
    have hP : va_P D classes (wM g0 g1 c3 (nI 1) (nI N) B) H := hP.sub [1, 0] rfl
    have hD : va_D A (wM g0 g1 c3 (nI 1) (nI N) B) := hD.sub [1, 0] (by decide) rfl
    refine r_ifne (tgt := 23) hx hb d_M_count_18 (by decide) (by omega) (fun z => absurd rfl z) (fun z => ?_)
    refine lv_iconst (v := nI 0) hx hb d_M_count_21 (by decide +kernel) ?_
    exact e_i (w := fun _ : Unit => wM g0 g1 c3 (nI 1) (nI N) B) (tu := fun _ => tM c3) cx hr hlocks () (rfl) hK hP hD hS d_M_count_22
  · refine lv_aload_n hx hb d_M_count_0 rfl (lv_at hl 0 rfl) ?_
    refine lv_iload_n hx hb d_M_count_1 rfl (lv_at hl 1 rfl) ?_
    refine lv_if_lt (tgt := 14) hx hb d_M_count_2 (by decide) (fun z => absurd z hc9) (fun z => ?_)
    refine lv_iload_n hx hb d_M_count_5 rfl (lv_at hl 1 rfl) ?_
    refine lv_iconst (v := nI 4) hx hb d_M_count_6 (by decide +kernel) ?_
    refine lv_icmp_gt (tgt := 14) hx hb d_M_count_7 (by decide) (fun z => ?_) (fun z => absurd (h.resolve_left hc9) z)
    refine lv_iconst (v := nI 0) hx hb d_M_count_14 (by decide +kernel) ?_
    refine r_callVi (wr := List.filterMap (fun i : Nat => (wM g0 g1 c3 th (nI N) B : va_W)[i]?) [1]) (nA := 1) (rest := []) (cn_M_goes l D) cx (gd_callV mc_M_goes ml_M_24 ms_M_goes mv_M_goes mi_M) (by decide +kernel) rfl ⟨Nat.le_of_ble_eq_true rfl, Nat.le_of_ble_eq_true rfl⟩ ⟨Nat.le_of_ble_eq_true rfl, Nat.le_of_ble_eq_true rfl⟩ hK hP hD hS hA [0] [1] [] rfl rfl rfl (by decide) (by decide) (by decide) (ci := 2) rfl rfl rfl hl.1 rfl (Nat.le_of_ble_eq_true rfl) d_M_count_15 (fun r9 u9 H locs hw9 hK9 hP hD hS => ?_)
    obtain rfl := hw9
    have hP : va_P D classes (wM g0 g1 c3 (nI 1) (nI N) B) H := hP.sub [1, 0] rfl
    have hD : va_D A (wM g0 g1 c3 (nI 1) (nI N) B) := hD.sub [1, 0] (by decide) rfl
    refine r_ifne (tgt := 23) hx hb d_M_count_18 (by decide) (by omega) (fun z => absurd rfl z) (fun z => ?_)
    refine lv_iconst (v := nI 0) hx hb d_M_count_21 (by decide +kernel) ?_
    exact e_i (w := fun _ : Unit => wM g0 g1 c3 (nI 1) (nI N) B) (tu := fun _ => tM c3) cx hr hlocks () (rfl) hK hP hD hS d_M_count_22
set_option maxHeartbeats 4000000 in
set_option maxRecDepth 100000 in
theorem ct_M_count (l : Launch) (D : va_G) {g0 g1 : Nat} {c3 : ClassId} {th : Int32} {N : Nat} {B : Nat → Bool} (hN : N ≤ 16384) (h0 : B 0 = true) (hB : B N = true) {k : Nat} (hk : k ≤ 4) : CtI l y_M_count c_M_count (rmL 2) D (wM g0 g1 c3 th (nI N) B) (tM c3) [.ref g0, .int (nI k)] (fun r (_ : Unit) => r = co_ans N B k) (fun _ => tM c3) (fun _ => wM g0 g1 c3 (nI 0) (nI N) B) := by
  refine r_metI (by decide) (Nat.le_of_ble_eq_true rfl) ?_
  intro p e s m below meth c ls A cx hr hlocks hin hK hP hD hA hl
  have hx := cx.1
  have hb := cx.2.1
  have hS : va_S A s.heap s.heap [] := va_S.rf
  have hl : lv_has ls 6 [(0, .ref g0), (1, .int (nI k))] := hl
  refine lv_aload_n hx hb d_M_count_0 rfl (lv_at hl 0 rfl) ?_
  refine lv_iload_n hx hb d_M_count_1 rfl (lv_at hl 1 rfl) ?_
  refine r_iflt (tgt := 14) hx hb d_M_count_2 (by decide) (by omega) ?_
  refine lv_iload_n hx hb d_M_count_5 rfl (lv_at hl 1 rfl) ?_
  refine lv_iconst (v := nI 4) hx hb d_M_count_6 (by decide +kernel) ?_
  refine r_igt (tgt := 14) hx hb d_M_count_7 (by decide) (by omega) (by omega) (fun z => by omega) (fun z => ?_)
  refine lv_iconst (v := nI 1) hx hb d_M_count_10 (by decide +kernel) ?_
  refine lv_goto (tgt := 15) hx hb d_M_count_11 (by decide) ?_
  refine r_callVi (wr := List.filterMap (fun i : Nat => (wM g0 g1 c3 th (nI N) B : va_W)[i]?) [1]) (nA := 1) (rest := []) (ct_M_goes l D) cx (gd_callV mc_M_goes ml_M_24 ms_M_goes mv_M_goes mi_M) (by decide +kernel) rfl ⟨Nat.le_of_ble_eq_true rfl, Nat.le_of_ble_eq_true rfl⟩ ⟨Nat.le_of_ble_eq_true rfl, Nat.le_of_ble_eq_true rfl⟩ hK hP hD hS hA [0] [1] [] rfl rfl rfl (by decide) (by decide) (by decide) (ci := 2) rfl rfl rfl hl.1 rfl (Nat.le_of_ble_eq_true rfl) d_M_count_15 (fun r9 u9 H locs hw9 hK9 hP hD hS => ?_)
  obtain rfl := hw9
  have hP : va_P D classes (wM g0 g1 c3 (nI 0) (nI N) B) H := hP.sub [1, 0] rfl
  have hD : va_D A (wM g0 g1 c3 (nI 0) (nI N) B) := hD.sub [1, 0] (by decide) rfl
  refine r_ifne (tgt := 23) hx hb d_M_count_18 (by decide) (by omega) (fun z => ?_) (fun z => by omega)
  refine lv_iconst (v := nI 0) hx hb d_M_count_23 (by decide +kernel) ?_
  refine lv_istore_n (lv' := [(2, .int (nI 0)), (0, .ref g0), (1, .int (nI k))]) hx hb d_M_count_24 rfl hl (by decide) rfl (fun ls hl => ?_)
  refine lv_sipush (v := nI 16384) hx hb d_M_count_25 (by decide +kernel) ?_
  refine lv_istore_n (lv' := [(3, .int (nI 16384)), (2, .int (nI 0)), (0, .ref g0), (1, .int (nI k))]) hx hb d_M_count_28 rfl hl (by decide) rfl (fun ls hl => ?_)
  refine lv_iconst (v := nI 0) hx hb d_M_count_29 (by decide +kernel) ?_
  refine lv_istore (lv' := [(4, .int (nI 0)), (3, .int (nI 16384)), (2, .int (nI 0)), (0, .ref g0), (1, .int (nI k))]) hx hb d_M_count_30 hl (by decide) rfl (fun ls hl => ?_)
  refine r_loopP (I := fun (x : Nat × Nat × Nat × Nat) ls => (x.2.1 ≤ N ∧ (x.2.1 < N → B x.2.1 = true) ∧ N ≤ x.2.1 + x.1 ∧ x.2.2.1 ≤ 16384 ∧ x.2.2.2 ≤ 16384 ∧ wk fmx B N x.1 x.2.1 x.2.2.1 = wk fmx B N N 0 0 ∧ wk fmn B N x.1 x.2.1 x.2.2.2 = wk fmn B N N 0 16384) ∧ lv_has ls 6 [(0, .ref g0), (1, .int (nI k)), (2, .int (nI x.2.2.1)), (3, .int (nI x.2.2.2)), (4, .int (nI x.2.1))]) (μ := fun x => x.1) ?_ (N, 0, 0, 16384) ⟨⟨Nat.zero_le N, fun _ => h0, by show N ≤ 0 + N; omega, Nat.zero_le _, Nat.le_refl _, rfl, rfl⟩, lv_sub hl [3, 4, 2, 1, 0] rfl⟩
  intro ⟨n, q, mo, le⟩ ls ⟨⟨hq1, hq2, hq3, hq4, hq5, hq6, hq7⟩, hl⟩ ih
  dsimp only at hq1 hq2 hq3 hq4 hq5 hq6 hq7 hl
  refine lv_iload hx hb d_M_count_32 (lv_at hl 4 rfl) ?_
  refine lv_aload_n hx hb d_M_count_34 rfl (lv_at hl 0 rfl) ?_
  refine g_M1 cx hK hP 0 rfl d_M_count_35 ?_
  refine r_ige (tgt := 89) hx hb d_M_count_38 (by decide) (by omega) (by omega) (fun z1 => ?_) (fun z1 => ?_)
  · have w1 := wk_stop (by omega) hq6
    have w2 := wk_stop (by omega) hq7
    refine lv_iload_n hx hb d_M_count_89 rfl (lv_at hl 1 rfl) ?_
    rcases (show k = 0 ∨ k = 1 ∨ k = 2 ∨ k = 3 ∨ k = 4 by omega) with rfl | rfl | rfl | rfl | rfl
    · refine lv_tableIn (off := 30) (tgt := 120) hx hb d_M_count_90 (by decide +kernel) (by decide +kernel) (by decide +kernel) (by decide) ?_
      refine lv_aload_n hx hb d_M_count_120 rfl (lv_at hl 0 rfl) ?_
      refine g_M1 cx hK hP 0 rfl d_M_count_121 ?_
      exact e_i (w := fun _ : Unit => wM g0 g1 c3 (nI 0) (nI N) B) (tu := fun _ => tM c3) cx hr hlocks () (rfl) hK hP hD hS d_M_count_124
    · refine lv_tableIn (off := 35) (tgt := 125) hx hb d_M_count_90 (by decide +kernel) (by decide +kernel) (by decide +kernel) (by decide) ?_
      refine lv_aload_n hx hb d_M_count_125 rfl (lv_at hl 0 rfl) ?_
      refine r_callPi (nA := 0) (rest := []) (ct_M_cards l D hN) cx (gd_callV mc_M_cards ml_M_20 ms_M_cards mv_M_cards mi_M) (by decide +kernel) rfl ⟨rfl, rfl⟩ ⟨Nat.le_of_ble_eq_true rfl, Nat.le_of_ble_eq_true rfl⟩ ⟨Nat.le_of_ble_eq_true rfl, Nat.le_of_ble_eq_true rfl⟩ hK hP [0, 1] [0] rfl rfl (ci := 2) rfl rfl rfl hl.1 rfl (Nat.le_of_ble_eq_true rfl) d_M_count_126 (fun r9 h9 => ?_)
      obtain rfl := h9
      exact e_i (w := fun _ : Unit => wM g0 g1 c3 (nI 0) (nI N) B) (tu := fun _ => tM c3) cx hr hlocks () (rfl) hK hP hD hS d_M_count_129
    · refine lv_tableIn (off := 40) (tgt := 130) hx hb d_M_count_90 (by decide +kernel) (by decide +kernel) (by decide +kernel) (by decide) ?_
      refine lv_aload_n hx hb d_M_count_130 rfl (lv_at hl 0 rfl) ?_
      refine r_callPi (nA := 0) (rest := []) (ct_M_pieces l D hN) cx (gd_callV mc_M_pieces ml_M_39 ms_M_pieces mv_M_pieces mi_M) (by decide +kernel) rfl ⟨rfl, rfl⟩ ⟨Nat.le_of_ble_eq_true rfl, Nat.le_of_ble_eq_true rfl⟩ ⟨Nat.le_of_ble_eq_true rfl, Nat.le_of_ble_eq_true rfl⟩ hK hP [0, 1] [0] rfl rfl (ci := 2) rfl rfl rfl hl.1 rfl (Nat.le_of_ble_eq_true rfl) d_M_count_131 (fun r9 h9 => ?_)
      obtain rfl := h9
      exact e_i (w := fun _ : Unit => wM g0 g1 c3 (nI 0) (nI N) B) (tu := fun _ => tM c3) cx hr hlocks () (rfl) hK hP hD hS d_M_count_134
    · refine lv_tableIn (off := 45) (tgt := 135) hx hb d_M_count_90 (by decide +kernel) (by decide +kernel) (by decide +kernel) (by decide) ?_
      refine lv_iload_n hx hb d_M_count_135 rfl (lv_at hl 2 rfl) ?_
      exact e_i (w := fun _ : Unit => wM g0 g1 c3 (nI 0) (nI N) B) (tu := fun _ => tM c3) cx hr hlocks () (by rw [w1]; rfl) hK hP hD hS d_M_count_136
    · refine lv_tableOut (tgt := 137) hx hb d_M_count_90 (by decide +kernel) (by decide) ?_
      refine lv_iload_n hx hb d_M_count_137 rfl (lv_at hl 3 rfl) ?_
      exact e_i (w := fun _ : Unit => wM g0 g1 c3 (nI 0) (nI N) B) (tu := fun _ => tM c3) cx hr hlocks () (by rw [w2]; rfl) hK hP hD hS d_M_count_138
  · have hg := nx_gt hB (show q < N by omega)
    have hle := nx_le hB (show q < N by omega)
    obtain ⟨n, rfl⟩ : ∃ k, n = k + 1 := ⟨n - 1, by omega⟩
    rw [wk_in (show q < N by omega)] at hq6 hq7
    refine lv_aload_n hx hb d_M_count_41 rfl (lv_at hl 0 rfl) ?_
    refine lv_iload hx hb d_M_count_42 (lv_at hl 4 rfl) ?_
    refine r_callPi (nA := 1) (rest := []) (ct_M_behind l D hN hB (show q < N by omega)) cx (gd_callV mc_M_behind ml_M_36 ms_M_behind mv_M_behind mi_M) (by decide +kernel) rfl ⟨rfl, rfl⟩ ⟨Nat.le_of_ble_eq_true rfl, Nat.le_of_ble_eq_true rfl⟩ ⟨Nat.le_of_ble_eq_true rfl, Nat.le_of_ble_eq_true rfl⟩ hK hP [0, 1] [0] rfl rfl (ci := 2) rfl rfl rfl hl.1 rfl (Nat.le_of_ble_eq_true rfl) d_M_count_44 (fun r9 h9 => ?_)
    obtain rfl := h9
    refine lv_iload hx hb d_M_count_47 (lv_at hl 4 rfl) ?_
    refine r_sub hx hb d_M_count_49 (by omega) ?_
    refine lv_istore (lv' := [(5, .int (nI ((nx B N q) - q))), (0, .ref g0), (1, .int (nI k)), (2, .int (nI mo)), (3, .int (nI le)), (4, .int (nI q))]) hx hb d_M_count_50 hl (by decide) rfl (fun ls hl => ?_)
    refine lv_iload hx hb d_M_count_52 (lv_at hl 0 rfl) ?_
    refine lv_iload_n hx hb d_M_count_54 rfl (lv_at hl 3 rfl) ?_
    refine r_ile (tgt := 63) hx hb d_M_count_55 (by decide) (by omega) (by omega) (fun z2 => ?_) (fun z2 => ?_)
    · refine lv_iload_n hx hb d_M_count_63 rfl (lv_at hl 3 rfl) ?_
      refine lv_istore_n (lv' := [(2, .int (nI mo)), (5, .int (nI ((nx B N q) - q))), (0, .ref g0), (1, .int (nI k)), (3, .int (nI le)), (4, .int (nI q))]) hx hb d_M_count_64 rfl hl (by decide) rfl (fun ls hl => ?_)
      refine lv_iload hx hb d_M_count_65 (lv_at hl 1 rfl) ?_
      refine lv_iload_n hx hb d_M_count_67 rfl (lv_at hl 4 rfl) ?_
      refine r_ige (tgt := 76) hx hb d_M_count_68 (by decide) (by omega) (by omega) (fun z3 => ?_) (fun z3 => ?_)
      · refine lv_iload_n hx hb d_M_count_76 rfl (lv_at hl 4 rfl) ?_
        refine lv_istore_n (lv' := [(3, .int (nI le)), (2, .int (nI mo)), (5, .int (nI ((nx B N q) - q))), (0, .ref g0), (1, .int (nI k)), (4, .int (nI q))]) hx hb d_M_count_77 rfl hl (by decide) rfl (fun ls hl => ?_)
        refine lv_aload_n hx hb d_M_count_78 rfl (lv_at hl 3 rfl) ?_
        refine lv_iload hx hb d_M_count_79 (lv_at hl 5 rfl) ?_
        refine r_callPi (nA := 1) (rest := []) (ct_M_behind l D hN hB (show q < N by omega)) cx (gd_callV mc_M_behind ml_M_36 ms_M_behind mv_M_behind mi_M) (by decide +kernel) rfl ⟨rfl, rfl⟩ ⟨Nat.le_of_ble_eq_true rfl, Nat.le_of_ble_eq_true rfl⟩ ⟨Nat.le_of_ble_eq_true rfl, Nat.le_of_ble_eq_true rfl⟩ hK hP [0, 1] [0] rfl rfl (ci := 2) rfl rfl rfl hl.1 rfl (Nat.le_of_ble_eq_true rfl) d_M_count_81 (fun r9 h9 => ?_)
        obtain rfl := h9
        refine lv_istore (lv' := [(4, .int (nI (nx B N q))), (3, .int (nI le)), (2, .int (nI mo)), (5, .int (nI ((nx B N q) - q))), (0, .ref g0), (1, .int (nI k))]) hx hb d_M_count_84 hl (by decide) rfl (fun ls hl => ?_)
        refine lv_goto (tgt := 32) hx hb d_M_count_86 (by decide) ?_
        exact ih (n, nx B N q, mo, le) ls (Nat.lt_succ_self n) ⟨⟨by show nx B N q ≤ N; omega, fun _ => nx_b hB (by omega), by show N ≤ nx B N q + n; omega, by show mo ≤ 16384; omega, by show le ≤ 16384; omega, by rw [← hq6]; show _ = wk fmx B N n (nx B N q) (fmx mo (nx B N q - q)); rw [fmx, if_neg (by omega)], by rw [← hq7]; show _ = wk fmn B N n (nx B N q) (fmn le (nx B N q - q)); rw [fmn, if_neg (by omega)]⟩, lv_sub hl [4, 5, 2, 1, 0] rfl⟩
      · refine lv_iload hx hb d_M_count_71 (lv_at hl 1 rfl) ?_
        refine lv_goto (tgt := 77) hx hb d_M_count_73 (by decide) ?_
        refine lv_istore_n (lv' := [(3, .int (nI ((nx B N q) - q))), (2, .int (nI mo)), (5, .int (nI ((nx B N q) - q))), (0, .ref g0), (1, .int (nI k)), (4, .int (nI q))]) hx hb d_M_count_77 rfl hl (by decide) rfl (fun ls hl => ?_)
        refine lv_aload_n hx hb d_M_count_78 rfl (lv_at hl 3 rfl) ?_
        refine lv_iload hx hb d_M_count_79 (lv_at hl 5 rfl) ?_
        refine r_callPi (nA := 1) (rest := []) (ct_M_behind l D hN hB (show q < N by omega)) cx (gd_callV mc_M_behind ml_M_36 ms_M_behind mv_M_behind mi_M) (by decide +kernel) rfl ⟨rfl, rfl⟩ ⟨Nat.le_of_ble_eq_true rfl, Nat.le_of_ble_eq_true rfl⟩ ⟨Nat.le_of_ble_eq_true rfl, Nat.le_of_ble_eq_true rfl⟩ hK hP [0, 1] [0] rfl rfl (ci := 2) rfl rfl rfl hl.1 rfl (Nat.le_of_ble_eq_true rfl) d_M_count_81 (fun r9 h9 => ?_)
        obtain rfl := h9
        refine lv_istore (lv' := [(4, .int (nI (nx B N q))), (3, .int (nI ((nx B N q) - q))), (2, .int (nI mo)), (5, .int (nI ((nx B N q) - q))), (0, .ref g0), (1, .int (nI k))]) hx hb d_M_count_84 hl (by decide) rfl (fun ls hl => ?_)
        refine lv_goto (tgt := 32) hx hb d_M_count_86 (by decide) ?_
        exact ih (n, nx B N q, mo, (nx B N q - q)) ls (Nat.lt_succ_self n) ⟨⟨by show nx B N q ≤ N; omega, fun _ => nx_b hB (by omega), by show N ≤ nx B N q + n; omega, by show mo ≤ 16384; omega, by show (nx B N q - q) ≤ 16384; omega, by rw [← hq6]; show _ = wk fmx B N n (nx B N q) (fmx mo (nx B N q - q)); rw [fmx, if_neg (by omega)], by rw [← hq7]; show _ = wk fmn B N n (nx B N q) (fmn le (nx B N q - q)); rw [fmn, if_pos (by omega)]⟩, lv_sub hl [4, 5, 2, 1, 0] rfl⟩
    · refine lv_iload hx hb d_M_count_58 (lv_at hl 0 rfl) ?_
      refine lv_goto (tgt := 64) hx hb d_M_count_60 (by decide) ?_
      refine lv_istore_n (lv' := [(2, .int (nI ((nx B N q) - q))), (5, .int (nI ((nx B N q) - q))), (0, .ref g0), (1, .int (nI k)), (3, .int (nI le)), (4, .int (nI q))]) hx hb d_M_count_64 rfl hl (by decide) rfl (fun ls hl => ?_)
      refine lv_iload hx hb d_M_count_65 (lv_at hl 1 rfl) ?_
      refine lv_iload_n hx hb d_M_count_67 rfl (lv_at hl 4 rfl) ?_
      refine r_ige (tgt := 76) hx hb d_M_count_68 (by decide) (by omega) (by omega) (fun z3 => ?_) (fun z3 => ?_)
      · refine lv_iload_n hx hb d_M_count_76 rfl (lv_at hl 4 rfl) ?_
        refine lv_istore_n (lv' := [(3, .int (nI le)), (2, .int (nI ((nx B N q) - q))), (5, .int (nI ((nx B N q) - q))), (0, .ref g0), (1, .int (nI k)), (4, .int (nI q))]) hx hb d_M_count_77 rfl hl (by decide) rfl (fun ls hl => ?_)
        refine lv_aload_n hx hb d_M_count_78 rfl (lv_at hl 3 rfl) ?_
        refine lv_iload hx hb d_M_count_79 (lv_at hl 5 rfl) ?_
        refine r_callPi (nA := 1) (rest := []) (ct_M_behind l D hN hB (show q < N by omega)) cx (gd_callV mc_M_behind ml_M_36 ms_M_behind mv_M_behind mi_M) (by decide +kernel) rfl ⟨rfl, rfl⟩ ⟨Nat.le_of_ble_eq_true rfl, Nat.le_of_ble_eq_true rfl⟩ ⟨Nat.le_of_ble_eq_true rfl, Nat.le_of_ble_eq_true rfl⟩ hK hP [0, 1] [0] rfl rfl (ci := 2) rfl rfl rfl hl.1 rfl (Nat.le_of_ble_eq_true rfl) d_M_count_81 (fun r9 h9 => ?_)
        obtain rfl := h9
        refine lv_istore (lv' := [(4, .int (nI (nx B N q))), (3, .int (nI le)), (2, .int (nI ((nx B N q) - q))), (5, .int (nI ((nx B N q) - q))), (0, .ref g0), (1, .int (nI k))]) hx hb d_M_count_84 hl (by decide) rfl (fun ls hl => ?_)
        refine lv_goto (tgt := 32) hx hb d_M_count_86 (by decide) ?_
        exact ih (n, nx B N q, (nx B N q - q), le) ls (Nat.lt_succ_self n) ⟨⟨by show nx B N q ≤ N; omega, fun _ => nx_b hB (by omega), by show N ≤ nx B N q + n; omega, by show (nx B N q - q) ≤ 16384; omega, by show le ≤ 16384; omega, by rw [← hq6]; show _ = wk fmx B N n (nx B N q) (fmx mo (nx B N q - q)); rw [fmx, if_pos (by omega)], by rw [← hq7]; show _ = wk fmn B N n (nx B N q) (fmn le (nx B N q - q)); rw [fmn, if_neg (by omega)]⟩, lv_sub hl [4, 5, 2, 1, 0] rfl⟩
      · refine lv_iload hx hb d_M_count_71 (lv_at hl 1 rfl) ?_
        refine lv_goto (tgt := 77) hx hb d_M_count_73 (by decide) ?_
        refine lv_istore_n (lv' := [(3, .int (nI ((nx B N q) - q))), (2, .int (nI ((nx B N q) - q))), (5, .int (nI ((nx B N q) - q))), (0, .ref g0), (1, .int (nI k)), (4, .int (nI q))]) hx hb d_M_count_77 rfl hl (by decide) rfl (fun ls hl => ?_)
        refine lv_aload_n hx hb d_M_count_78 rfl (lv_at hl 3 rfl) ?_
        refine lv_iload hx hb d_M_count_79 (lv_at hl 5 rfl) ?_
        refine r_callPi (nA := 1) (rest := []) (ct_M_behind l D hN hB (show q < N by omega)) cx (gd_callV mc_M_behind ml_M_36 ms_M_behind mv_M_behind mi_M) (by decide +kernel) rfl ⟨rfl, rfl⟩ ⟨Nat.le_of_ble_eq_true rfl, Nat.le_of_ble_eq_true rfl⟩ ⟨Nat.le_of_ble_eq_true rfl, Nat.le_of_ble_eq_true rfl⟩ hK hP [0, 1] [0] rfl rfl (ci := 2) rfl rfl rfl hl.1 rfl (Nat.le_of_ble_eq_true rfl) d_M_count_81 (fun r9 h9 => ?_)
        obtain rfl := h9
        refine lv_istore (lv' := [(4, .int (nI (nx B N q))), (3, .int (nI ((nx B N q) - q))), (2, .int (nI ((nx B N q) - q))), (5, .int (nI ((nx B N q) - q))), (0, .ref g0), (1, .int (nI k))]) hx hb d_M_count_84 hl (by decide) rfl (fun ls hl => ?_)
        refine lv_goto (tgt := 32) hx hb d_M_count_86 (by decide) ?_
        exact ih (n, nx B N q, (nx B N q - q), (nx B N q - q)) ls (Nat.lt_succ_self n) ⟨⟨by show nx B N q ≤ N; omega, fun _ => nx_b hB (by omega), by show N ≤ nx B N q + n; omega, by show (nx B N q - q) ≤ 16384; omega, by show (nx B N q - q) ≤ 16384; omega, by rw [← hq6]; show _ = wk fmx B N n (nx B N q) (fmx mo (nx B N q - q)); rw [fmx, if_pos (by omega)], by rw [← hq7]; show _ = wk fmn B N n (nx B N q) (fmn le (nx B N q - q)); rw [fmn, if_pos (by omega)]⟩, lv_sub hl [4, 5, 2, 1, 0] rfl⟩
theorem cs_M_cut (l : Launch) (D : va_G) {g0 g1 : Nat} {c3 : ClassId} {th : Int32} {N : Nat} {B : Nat → Bool} (hN : N ≤ 16384) (h0 : B 0 = true) (hB : B N = true) {x : Int32} : CtI l y_M_cut c_M_cut (rmL 2) D (wM g0 g1 c3 th (nI N) B) (tM c3) [.ref g0, .int x] (fun r (_ : Unit) => r = (sp_cut N B x).2.1) (fun _ => tM c3) (fun _ => wM g0 g1 c3 ((sp_cut N B x).1) (nI (sp_cut N B x).2.2.1) ((sp_cut N B x).2.2.2)) := by
  rcases ix_case x (show N ≤ 16384 by omega) with h | ⟨a, ha, rfl⟩
  · rw [sp_cut_no hN h]; exact cn_M_cut l D hN h
  · rw [sp_cut_ok hN ha]; exact ct_M_cut l D hN h0 hB ha
theorem cs_M_join (l : Launch) (D : va_G) {g0 g1 : Nat} {c3 : ClassId} {th : Int32} {N : Nat} {B : Nat → Bool} (hN : N ≤ 16384) (h0 : B 0 = true) (hB : B N = true) {x : Int32} : CtI l y_M_join c_M_join (rmL 2) D (wM g0 g1 c3 th (nI N) B) (tM c3) [.ref g0, .int x] (fun r (_ : Unit) => r = (sp_join N B x).2.1) (fun _ => tM c3) (fun _ => wM g0 g1 c3 ((sp_join N B x).1) (nI (sp_join N B x).2.2.1) ((sp_join N B x).2.2.2)) := by
  rcases ix_case x (show N ≤ 16384 by omega) with h | ⟨a, ha, rfl⟩
  · rw [sp_join_no hN h]; exact cn_M_join l D hN h
  · rw [sp_join_ok hN ha]; exact ct_M_join l D hN h0 hB ha
theorem cs_M_begin (l : Launch) (D : va_G) {g0 g1 : Nat} {c3 : ClassId} {th : Int32} {N : Nat} {B : Nat → Bool} (hN : N ≤ 16384) (h0 : B 0 = true) (hB : B N = true) {x : Int32} : CtI l y_M_begin c_M_begin (rmL 2) D (wM g0 g1 c3 th (nI N) B) (tM c3) [.ref g0, .int x] (fun r (_ : Unit) => r = (sp_begin N B x).2.1) (fun _ => tM c3) (fun _ => wM g0 g1 c3 ((sp_begin N B x).1) (nI (sp_begin N B x).2.2.1) ((sp_begin N B x).2.2.2)) := by
  rcases ix_case x (show N ≤ 16384 by omega) with h | ⟨a, ha, rfl⟩
  · rw [sp_begin_no hN h]; exact cn_M_begin l D hN h
  · rw [sp_begin_ok hN ha]; exact ct_M_begin l D hN h0 hB ha
theorem cs_M_size (l : Launch) (D : va_G) {g0 g1 : Nat} {c3 : ClassId} {th : Int32} {N : Nat} {B : Nat → Bool} (hN : N ≤ 16384) (h0 : B 0 = true) (hB : B N = true) {x : Int32} : CtI l y_M_size c_M_size (rmL 2) D (wM g0 g1 c3 th (nI N) B) (tM c3) [.ref g0, .int x] (fun r (_ : Unit) => r = (sp_size N B x).2.1) (fun _ => tM c3) (fun _ => wM g0 g1 c3 ((sp_size N B x).1) (nI (sp_size N B x).2.2.1) ((sp_size N B x).2.2.2)) := by
  rcases ix_case x (show N ≤ 16384 by omega) with h | ⟨a, ha, rfl⟩
  · rw [sp_size_no hN h]; exact cn_M_size l D hN h
  · rw [sp_size_ok hN ha]; exact ct_M_size l D hN h0 hB ha
theorem cs_M_start (l : Launch) (D : va_G) {g0 g1 : Nat} {c3 : ClassId} {th : Int32} {N : Nat} {B : Nat → Bool} (hN : N ≤ 16384) (h0 : B 0 = true) (hB : B N = true) {x : Int32} : CtI l y_M_start c_M_start (rmL 2) D (wM g0 g1 c3 th (nI N) B) (tM c3) [.ref g0, .int x] (fun r (_ : Unit) => r = (sp_start N B x).2.1) (fun _ => tM c3) (fun _ => wM g0 g1 c3 ((sp_start N B x).1) (nI (sp_start N B x).2.2.1) ((sp_start N B x).2.2.2)) := by
  rcases ix_case x (show (N + 31) / 32 ≤ 16384 by omega) with h | ⟨a, ha, rfl⟩
  · rw [sp_start_no hN h]; exact cn_M_start l D hN h
  · rw [sp_start_ok hN ha]; exact ct_M_start l D hN h0 hB ha
theorem cs_M_begins (l : Launch) (D : va_G) {g0 g1 : Nat} {c3 : ClassId} {th : Int32} {N : Nat} {B : Nat → Bool} (hN : N ≤ 16384) (h0 : B 0 = true) (hB : B N = true) {x : Int32} : CtI l y_M_begins c_M_begins (rmL 2) D (wM g0 g1 c3 th (nI N) B) (tM c3) [.ref g0, .int x] (fun r (_ : Unit) => r = (sp_begins N B x).2.1) (fun _ => tM c3) (fun _ => wM g0 g1 c3 ((sp_begins N B x).1) (nI (sp_begins N B x).2.2.1) ((sp_begins N B x).2.2.2)) := by
  rcases ix_case x (show (N + 31) / 32 ≤ 16384 by omega) with h | ⟨a, ha, rfl⟩
  · rw [sp_begins_no hN h]; exact cn_M_begins l D hN h
  · rw [sp_begins_ok hN ha]; exact ct_M_begins l D hN h0 hB ha
theorem cs_M_space (l : Launch) (D : va_G) {g0 g1 : Nat} {c3 : ClassId} {th : Int32} {N : Nat} {B : Nat → Bool} {x : Int32} : CtI l y_M_space c_M_space (rmL 2) D (wM g0 g1 c3 th (nI N) B) (tM c3) [.ref g0, .int x] (fun r (_ : Unit) => r = (sp_space N B x).2.1) (fun _ => tM c3) (fun _ => wM g0 g1 c3 ((sp_space N B x).1) (nI (sp_space N B x).2.2.1) ((sp_space N B x).2.2.2)) := by
  rcases ix_case1 x (Nat.le_refl 16384) with h | ⟨n, hn1, hn2, rfl⟩
  · rw [sp_space_no h]; exact cn_M_space l D h
  · rw [sp_space_ok hn1 hn2]; exact ct_M_space l D hn1 hn2
theorem cs_M_count (l : Launch) (D : va_G) {g0 g1 : Nat} {c3 : ClassId} {th : Int32} {N : Nat} {B : Nat → Bool} (hN : N ≤ 16384) (h0 : B 0 = true) (hB : B N = true) {x : Int32} : CtI l y_M_count c_M_count (rmL 2) D (wM g0 g1 c3 th (nI N) B) (tM c3) [.ref g0, .int x] (fun r (_ : Unit) => r = (sp_count N B x).2.1) (fun _ => tM c3) (fun _ => wM g0 g1 c3 ((sp_count N B x).1) (nI (sp_count N B x).2.2.1) ((sp_count N B x).2.2.2)) := by
  rcases ix_case4 x with h | ⟨k, hk, rfl⟩
  · rw [sp_count_no h]; exact cn_M_count l D h
  · rw [sp_count_ok hk]; exact ct_M_count l D hN h0 hB hk
theorem cs_M_make (l : Launch) (D : va_G) {g0 g1 : Nat} {c3 : ClassId} {th : Int32} {N : Nat} {B : Nat → Bool} (hN : N ≤ 16384) {x y : Int32} : CtI l y_M_make c_M_make (rmL 2) D (wM g0 g1 c3 th (nI N) B) (tM c3) [.ref g0, .int x, .int y] (fun r (_ : Unit) => r = (sp_make N B x y).2.1) (fun _ => tM c3) (fun _ => wM g0 g1 c3 ((sp_make N B x y).1) (nI (sp_make N B x y).2.2.1) ((sp_make N B x y).2.2.2)) := by
  rcases ix_case x hN with h | ⟨a, ha, rfl⟩
  · rw [sp_make_no1 hN h]; exact cn_M_make1 l D h
  · rcases ix_case2 y ha hN with h | ⟨b, hab, hbN, rfl⟩
    · rw [sp_make_no2 hN ha h]; exact cn_M_make2 l D hN ha h
    · rw [sp_make_ok hN hab hbN]; exact ct_M_make l D hN hab hbN
end
section
section RWi
variable {p : Program} {l : Launch} {e : Env} {R : Room} {s : State} {m : MethodId} {args : Array Value} {below : List Frame} {meth : Method} {c : Code} {H : Heap} {locs : List Loc} {cells slots nL : Nat} {Q : State → Prop}
variable {cc : ByteArray} {pc : Nat} {ls : Array Slot} {rest : List Value} {D : va_G} {A : Nat → Prop} {ad : Nat} {tys : List (ClassId × FieldType)} {ws : va_W} {H0 : Heap}
theorem p_T0F (S : CallFix p m c cc nL s args lw_gd R_T) (hin : meth.name = "<init>") (hK : va_K D classes tys s) (hP : va_P D classes ws H) (hD : va_D A ws) (hS : va_S A H0 H locs) (q0 : Nat) {v0 v1 v2 v3 : Value} {x : Nat} (he : ws[q0]? = some (ad, .inr (0, [v0, v1, v2, v3]))) (hdg : decode cc pc = .ok (.putfield 14, 3))
    (k : ∀ (H1 : Heap) (locs1 : List Loc), va_P D classes (ws.set q0 (ad, .inr (0, [.ref x, v1, v2, v3]))) H1 → va_D A (ws.set q0 (ad, .inr (0, [.ref x, v1, v2, v3]))) → va_S A H0 H1 locs1 → W p l e R s m args below meth c H1 locs1 cells slots Q (F0 m (pc + 3) ls rest)) : W p l e R s m args below meth c H locs cells slots Q (F0 m pc ls (.ref x :: .ref ad :: rest)) :=
  va_putF (ci := 0) (v := .ref x) (ty := .object "StartTable$Offsets") (C := R_T) (T := F_T) (N := 4) S.1 S.2.1 S.2.2.2.2 i_T t_T0 t_T_ok n_T S.2.2.2.1 hK hP hD hS q0 he rfl 0 (by decide) (S.2.2.2.2 _ mf_T_14) (fun _ h9 => h9) rfl hin rfl (by decide +kernel) rfl rfl (Nat.le_of_ble_eq_true rfl) hdg k
theorem p_T1F (S : CallFix p m c cc nL s args lw_gd R_T) (hin : meth.name = "<init>") (hK : va_K D classes tys s) (hP : va_P D classes ws H) (hD : va_D A ws) (hS : va_S A H0 H locs) (q0 : Nat) {v0 v1 v2 v3 : Value} {x : Nat} (he : ws[q0]? = some (ad, .inr (0, [v0, v1, v2, v3]))) (hdg : decode cc pc = .ok (.putfield 18, 3))
    (k : ∀ (H1 : Heap) (locs1 : List Loc), va_P D classes (ws.set q0 (ad, .inr (0, [v0, .ref x, v2, v3]))) H1 → va_D A (ws.set q0 (ad, .inr (0, [v0, .ref x, v2, v3]))) → va_S A H0 H1 locs1 → W p l e R s m args below meth c H1 locs1 cells slots Q (F0 m (pc + 3) ls rest)) : W p l e R s m args below meth c H locs cells slots Q (F0 m pc ls (.ref x :: .ref ad :: rest)) :=
  va_putF (ci := 0) (v := .ref x) (ty := .array .int) (C := R_T) (T := F_T) (N := 4) S.1 S.2.1 S.2.2.2.2 i_T t_T0 t_T_ok n_T S.2.2.2.1 hK hP hD hS q0 he rfl 1 (by decide) (S.2.2.2.2 _ mf_T_18) (fun _ h9 => h9) rfl hin rfl (by decide +kernel) rfl rfl (Nat.le_of_ble_eq_true rfl) hdg k
theorem p_O0F (S : CallFix p m c cc nL s args lw_gd R_O) (hin : meth.name = "<init>") (hK : va_K D classes tys s) (hP : va_P D classes ws H) (hD : va_D A ws) (hS : va_S A H0 H locs) (q0 : Nat) {v0 : Value} {x : Nat} (he : ws[q0]? = some (ad, .inr (1, [v0]))) (hdg : decode cc pc = .ok (.putfield 7, 3))
    (k : ∀ (H1 : Heap) (locs1 : List Loc), va_P D classes (ws.set q0 (ad, .inr (1, [.ref x]))) H1 → va_D A (ws.set q0 (ad, .inr (1, [.ref x]))) → va_S A H0 H1 locs1 → W p l e R s m args below meth c H1 locs1 cells slots Q (F0 m (pc + 3) ls rest)) : W p l e R s m args below meth c H locs cells slots Q (F0 m pc ls (.ref x :: .ref ad :: rest)) :=
  va_putF (ci := 1) (v := .ref x) (ty := .array .int) (C := R_O) (T := F_O) (N := 1) S.1 S.2.1 S.2.2.2.2 i_O t_O0 t_O_ok n_O S.2.2.2.1 hK hP hD hS q0 he rfl 0 (by decide) (S.2.2.2.2 _ mf_O_7) (fun _ h9 => h9) rfl hin rfl (by decide +kernel) rfl rfl (Nat.le_of_ble_eq_true rfl) hdg k
theorem p_M2F (S : CallFix p m c cc nL s args lw_gd R_M) (hin : meth.name = "<init>") (hK : va_K D classes tys s) (hP : va_P D classes ws H) (hD : va_D A ws) (hS : va_S A H0 H locs) (q0 : Nat) {v0 v1 v2 : Value} {x : Nat} (he : ws[q0]? = some (ad, .inr (2, [v0, v1, v2]))) (hdg : decode cc pc = .ok (.putfield 13, 3))
    (k : ∀ (H1 : Heap) (locs1 : List Loc), va_P D classes (ws.set q0 (ad, .inr (2, [v0, v1, .ref x]))) H1 → va_D A (ws.set q0 (ad, .inr (2, [v0, v1, .ref x]))) → va_S A H0 H1 locs1 → W p l e R s m args below meth c H1 locs1 cells slots Q (F0 m (pc + 3) ls rest)) : W p l e R s m args below meth c H locs cells slots Q (F0 m pc ls (.ref x :: .ref ad :: rest)) :=
  va_putF (ci := 2) (v := .ref x) (ty := .array .boolean) (C := R_M) (T := F_M) (N := 3) S.1 S.2.1 S.2.2.2.2 i_M t_M0 t_M_ok n_M S.2.2.2.1 hK hP hD hS q0 he rfl 2 (by decide) (S.2.2.2.2 _ mf_M_13) (fun _ h9 => h9) rfl hin rfl (by decide +kernel) rfl rfl (Nat.le_of_ble_eq_true rfl) hdg k
end RWi
set_option maxHeartbeats 4000000 in
set_option maxRecDepth 100000 in
theorem ct_O_init (l : Launch) (D : va_G) {h1 : Nat} : CtV l y_O_init c_O_init ({ frames := 1, cells := 1, slots := 512, locals := 25 } : Room) D [(h1, .inr (1, [.null]))] [] [.ref h1, .int (nI 16384)] (fun _ : Nat × ClassId => True) (fun u => tO u.2) (fun u => wO h1 u.1 u.2 (fun _ => 0)) := by
  refine r_metV (by decide) (Nat.le_of_ble_eq_true rfl) ?_
  intro p e s m below meth c ls A cx hr hlocks hin hK hP hD hA hl
  have hx := cx.1
  have hb := cx.2.1
  have hS : va_S A s.heap s.heap [] := va_S.rf
  have hl : lv_has ls 2 [(0, .ref h1), (1, .int (nI 16384))] := hl
  refine lv_aload_n hx hb d_O_init_0 rfl (lv_at hl 0 rfl) ?_
  refine W.objInit hx hb cx.2.2.2.1 (cx.2.2.2.2 _ ml_O_1) (cx.2.2.2.2 _ ms_Obj_init) (cx.2.2.2.2 _ mc_Obj_init) rfl (by rw [cx.2.2.1]; exact hl.1) rfl d_O_init_1 (Nat.le_of_ble_eq_true rfl) (Nat.le_of_ble_eq_true rfl) ?_
  refine W.eq (g2 := F0 m 4 ls []) rfl ?_
  refine lv_aload_n hx hb d_O_init_4 rfl (lv_at hl 0 rfl) ?_
  refine lv_iload_n hx hb d_O_init_5 rfl (lv_at hl 1 rfl) ?_
  refine lv_bipush (v := nI 31) hx hb d_O_init_6 (by decide +kernel) ?_
  refine r_add hx hb d_O_init_8 ?_
  refine lv_iconst (v := nI 5) hx hb d_O_init_9 (by decide +kernel) ?_
  refine r_shr5 hx hb d_O_init_10 (by omega) ?_
  rw [show (16384 + 31) / 32 = 512 from rfl]
  refine va_newa (atype := .int) (ty := .int) hx hb (cx.2.2.2.2 _ ma_int) rfl hK hP hD hS hA (n := nI 512) (N' := 512) (a0 := (512, .inl (fun _ => 0))) (fun cA => rfl) (nI_pos (by omega)) (nI_clamp (by omega)) (Nat.le_of_ble_eq_true rfl) (Nat.le_of_ble_eq_true rfl) (Nat.le_of_ble_eq_true rfl) d_O_init_11 (fun h2 c1 H hK hP hD hS => ?_)
  refine p_O0F cx hin hK hP hD hS 0 rfl d_O_init_13 (fun H locs hP hD hS => ?_)
  have hP : va_P D classes (wO h1 h2 c1 (fun _ => 0)) H := hP
  have hD : va_D A (wO h1 h2 c1 (fun _ => 0)) := hD
  exact e_v (post := fun _ => True) (w := fun u : Nat × ClassId => wO h1 u.1 u.2 (fun _ => 0)) (tu := fun u => tO u.2) cx hr hlocks (h2, c1) trivial hK hP hD hS d_O_init_16
set_option maxHeartbeats 4000000 in
set_option maxRecDepth 100000 in
theorem ct_T_init (l : Launch) (D : va_G) {h0 : Nat} : CtV l y_T_init c_T_init ({ frames := 2, cells := 3, slots := 16897, locals := 50 } : Room) D [(h0, .inr (0, [.null, .null, .int 0, .int 0]))] [] [.ref h0] (fun _ : (Nat × Nat × Nat) × (ClassId × ClassId) => True) (fun u => tT u.2.1 u.2.2) (fun u => wT h0 u.1.1 u.1.2.1 u.1.2.2 u.2.1 u.2.2 (nI 1024) (nI 1) (stS (fun _ => 0) 0 1024) (upd (fun _ => 0) 0 (nI 1024))) := by
  refine r_metV (by decide) (Nat.le_of_ble_eq_true rfl) ?_
  intro p e s m below meth c ls A cx hr hlocks hin hK hP hD hA hl
  have hx := cx.1
  have hb := cx.2.1
  have hS : va_S A s.heap s.heap [] := va_S.rf
  have hl : lv_has ls 1 [(0, .ref h0)] := hl
  refine lv_aload_n hx hb d_T_init_0 rfl (lv_at hl 0 rfl) ?_
  refine W.objInit hx hb cx.2.2.2.1 (cx.2.2.2.2 _ ml_T_1) (cx.2.2.2.2 _ ms_Obj_init) (cx.2.2.2.2 _ mc_Obj_init) rfl (by rw [cx.2.2.1]; exact hl.1) rfl d_T_init_1 (Nat.le_of_ble_eq_true rfl) (Nat.le_of_ble_eq_true rfl) ?_
  refine W.eq (g2 := F0 m 4 ls []) rfl ?_
  refine lv_aload_n hx hb d_T_init_4 rfl (lv_at hl 0 rfl) ?_
  refine va_new (ci := 1) (fs := [.null]) (C := R_O) (T := F_O) (N := 1) hx hb cx.2.2.2.2 i_O t_O0 t_O_ok cx.2.2.2.1 (cx.2.2.2.2 _ mk_T_7) (cx.2.2.2.2 _ mn_O) (cx.2.2.2.2 _ mi_O) hK hP hD hS hA rfl (fun j hj => by rcases (show j = 0 by omega) with rfl; rfl) (Nat.le_of_ble_eq_true rfl) (Nat.le_of_ble_eq_true rfl) d_T_init_5 (fun h1 H hP hD hS => ?_)
  have hP : va_P D classes ([(h0, .inr (0, [.null, .null, .int 0, .int 0])), (h1, .inr (1, [.null]))]) H := hP
  have hD : va_D A ([(h0, .inr (0, [.null, .null, .int 0, .int 0])), (h1, .inr (1, [.null]))]) := hD
  refine lv_dup hx hb d_T_init_8 rfl ?_
  refine lv_sipush (v := nI 16384) hx hb d_T_init_9 (by decide +kernel) ?_
  refine r_callIv (wr := List.filterMap (fun i : Nat => ([(h0, .inr (0, [.null, .null, .int 0, .int 0])), (h1, .inr (1, [.null]))] : va_W)[i]?) [0]) (nA := 1) (rest := [.ref h1, .ref h0]) (ct_O_init l D) cx mc_O_init ml_T_11 ms_O_init mi_O rfl (by decide +kernel) rfl ⟨Nat.le_of_ble_eq_true rfl, Nat.le_of_ble_eq_true rfl⟩ ⟨Nat.le_of_ble_eq_true rfl, Nat.le_of_ble_eq_true rfl⟩ hK hP hD hS hA [1] [0] [] rfl rfl rfl (by decide) (by decide) (by decide) hl.1 rfl (Nat.le_of_ble_eq_true rfl) d_T_init_12 (fun u9 H locs hw9 hK9 hP hD hS => ?_)
  obtain ⟨h2, c1⟩ := u9
  have hK : va_K D classes (tO c1) s := hK9
  have hP : va_P D classes ([(h0, .inr (0, [.null, .null, .int 0, .int 0])), (h1, .inr (1, [.ref h2])), (h2, .inl (c1, 512, .inl (fun _ => 0)))]) H := hP
  have hD : va_D A ([(h0, .inr (0, [.null, .null, .int 0, .int 0])), (h1, .inr (1, [.ref h2])), (h2, .inl (c1, 512, .inl (fun _ => 0)))]) := hD
  refine p_T0F cx hin hK hP hD hS 0 rfl d_T_init_15 (fun H locs hP hD hS => ?_)
  have hP : va_P D classes ([(h0, .inr (0, [.ref h1, .null, .int 0, .int 0])), (h1, .inr (1, [.ref h2])), (h2, .inl (c1, 512, .inl (fun _ => 0)))]) H := hP
  have hD : va_D A ([(h0, .inr (0, [.ref h1, .null, .int 0, .int 0])), (h1, .inr (1, [.ref h2])), (h2, .inl (c1, 512, .inl (fun _ => 0)))]) := hD
  refine lv_aload_n hx hb d_T_init_18 rfl (lv_at hl 0 rfl) ?_
  refine lv_sipush (v := nI 16384) hx hb d_T_init_19 (by decide +kernel) ?_
  refine va_newa (atype := .int) (ty := .int) hx hb (cx.2.2.2.2 _ ma_int) rfl hK hP hD hS hA (n := nI 16384) (N' := 16384) (a0 := (16384, .inl (fun _ => 0))) (fun cA => rfl) (nI_pos (by omega)) (nI_clamp (by omega)) (Nat.le_of_ble_eq_true rfl) (Nat.le_of_ble_eq_true rfl) (Nat.le_of_ble_eq_true rfl) d_T_init_22 (fun h3 c2 H hK hP hD hS => ?_)
  have hK : va_K D classes (tT c1 c2) s := hK
  refine p_T1F cx hin hK hP hD hS 0 rfl d_T_init_24 (fun H locs hP hD hS => ?_)
  have hP : va_P D classes ([(h0, .inr (0, [.ref h1, .ref h3, .int 0, .int 0])), (h1, .inr (1, [.ref h2])), (h2, .inl (c1, 512, .inl (fun _ => 0))), (h3, .inl (c2, 16384, .inl (fun _ => 0)))]) H := hP
  have hD : va_D A ([(h0, .inr (0, [.ref h1, .ref h3, .int 0, .int 0])), (h1, .inr (1, [.ref h2])), (h2, .inl (c1, 512, .inl (fun _ => 0))), (h3, .inl (c2, 16384, .inl (fun _ => 0)))]) := hD
  refine lv_aload_n hx hb d_T_init_27 rfl (lv_at hl 0 rfl) ?_
  refine lv_sipush (v := nI 1024) hx hb d_T_init_28 (by decide +kernel) ?_
  refine p_T2 cx hK hP hD hS 0 rfl d_T_init_31 (fun H locs hP hD hS => ?_)
  have hP : va_P D classes (wT h0 h1 h2 h3 c1 c2 (nI 1024) 0 (fun _ => 0) (fun _ => 0)) H := hP
  have hD : va_D A (wT h0 h1 h2 h3 c1 c2 (nI 1024) 0 (fun _ => 0) (fun _ => 0)) := hD
  refine lv_aload_n hx hb d_T_init_34 rfl (lv_at hl 0 rfl) ?_
  refine lv_iconst (v := nI 1) hx hb d_T_init_35 (by decide +kernel) ?_
  refine p_T3 cx hK hP hD hS 0 rfl d_T_init_36 (fun H locs hP hD hS => ?_)
  have hP : va_P D classes (wT h0 h1 h2 h3 c1 c2 (nI 1024) (nI 1) (fun _ => 0) (fun _ => 0)) H := hP
  have hD : va_D A (wT h0 h1 h2 h3 c1 c2 (nI 1024) (nI 1) (fun _ => 0) (fun _ => 0)) := hD
  refine lv_aload_n hx hb d_T_init_39 rfl (lv_at hl 0 rfl) ?_
  refine lv_iconst (v := nI 0) hx hb d_T_init_40 (by decide +kernel) ?_
  refine lv_aload_n hx hb d_T_init_41 rfl (lv_at hl 0 rfl) ?_
  refine g_T2 cx hK hP 0 rfl d_T_init_42 ?_
  refine r_callVv (wr := List.filterMap (fun i : Nat => (wT h0 h1 h2 h3 c1 c2 (nI 1024) (nI 1) (fun _ => 0) (fun _ => 0) : va_W)[i]?) []) (nA := 2) (rest := []) (ct_T_piece l D (a := 0) (z := 1024) (by omega) (by omega)) cx (gd_callV mc_T_piece ml_T_29 ms_T_piece mv_T_piece mi_T) (by decide +kernel) rfl ⟨Nat.le_of_ble_eq_true rfl, Nat.le_of_ble_eq_true rfl⟩ ⟨Nat.le_of_ble_eq_true rfl, Nat.le_of_ble_eq_true rfl⟩ hK hP hD hS hA [0, 1, 2, 3] [] [0, 1] rfl rfl rfl (by decide) (by decide) (by decide) (ci := 0) rfl rfl rfl hl.1 rfl (Nat.le_of_ble_eq_true rfl) d_T_init_45 (fun u9 H locs hw9 hK9 hP hD hS => ?_)
  have hP : va_P D classes (wT h0 h1 h2 h3 c1 c2 (nI 1024) (nI 1) (stS (fun _ => 0) 0 (0 + 1024)) (upd (fun _ => 0) 0 (nI 1024))) H := hP.sub [0, 1, 2, 3] rfl
  have hD : va_D A (wT h0 h1 h2 h3 c1 c2 (nI 1024) (nI 1) (stS (fun _ => 0) 0 (0 + 1024)) (upd (fun _ => 0) 0 (nI 1024))) := hD.sub [0, 1, 2, 3] (by decide) rfl
  exact e_v (post := fun _ => True) (w := fun u : (Nat × Nat × Nat) × (ClassId × ClassId) => wT h0 u.1.1 u.1.2.1 u.1.2.2 u.2.1 u.2.2 (nI 1024) (nI 1) (stS (fun _ => 0) 0 1024) (upd (fun _ => 0) 0 (nI 1024))) (tu := fun u => tT u.2.1 u.2.2) cx hr hlocks ((h1, h2, h3), (c1, c2)) trivial hK hP hD hS d_T_init_48
theorem bz0 (cA : ClassId) : vp_cell cA (16385, .inl (bz (fun _ => false))) = arrV cA 16385 (fun _ => defaultValue .boolean) := by
  show arrV cA 16385 (fun j => .int (bz (fun _ => false) j)) = _
  congr 1
set_option maxHeartbeats 4000000 in
set_option maxRecDepth 100000 in
theorem ct_M_init (l : Launch) (D : va_G) {g0 : Nat} : CtV l y_M_init c_M_init ({ frames := 1, cells := 1, slots := 16385, locals := 25 } : Room) D [(g0, .inr (2, [.int 0, .int 0, .null]))] [] [.ref g0] (fun _ : Nat × ClassId => True) (fun u => tM u.2) (fun u => wM g0 u.1 u.2 0 (nI 1024) (sB (sB (fun _ => false) 0 true) 1024 true)) := by
  refine r_metV (by decide) (Nat.le_of_ble_eq_true rfl) ?_
  intro p e s m below meth c ls A cx hr hlocks hin hK hP hD hA hl
  have hx := cx.1
  have hb := cx.2.1
  have hS : va_S A s.heap s.heap [] := va_S.rf
  have hl : lv_has ls 1 [(0, .ref g0)] := hl
  refine lv_aload_n hx hb d_M_init_0 rfl (lv_at hl 0 rfl) ?_
  refine W.objInit hx hb cx.2.2.2.1 (cx.2.2.2.2 _ ml_M_1) (cx.2.2.2.2 _ ms_Obj_init) (cx.2.2.2.2 _ mc_Obj_init) rfl (by rw [cx.2.2.1]; exact hl.1) rfl d_M_init_1 (Nat.le_of_ble_eq_true rfl) (Nat.le_of_ble_eq_true rfl) ?_
  refine W.eq (g2 := F0 m 4 ls []) rfl ?_
  refine lv_aload_n hx hb d_M_init_4 rfl (lv_at hl 0 rfl) ?_
  refine lv_sipush (v := nI 1024) hx hb d_M_init_5 (by decide +kernel) ?_
  refine p_M1 cx hK hP hD hS 0 rfl d_M_init_8 (fun H locs hP hD hS => ?_)
  have hP : va_P D classes ([(g0, .inr (2, [.int 0, .int (nI 1024), .null]))]) H := hP
  have hD : va_D A ([(g0, .inr (2, [.int 0, .int (nI 1024), .null]))]) := hD
  refine lv_aload_n hx hb d_M_init_11 rfl (lv_at hl 0 rfl) ?_
  refine lv_sipush (v := nI 16385) hx hb d_M_init_12 (by decide +kernel) ?_
  refine va_newa (atype := .boolean) (ty := .boolean) hx hb (cx.2.2.2.2 _ ma_boolean) rfl hK hP hD hS hA (n := nI 16385) (N' := 16385) (a0 := (16385, .inl (bz (fun _ => false)))) (bz0) (nI_pos (by omega)) (nI_clamp (by omega)) (Nat.le_of_ble_eq_true rfl) (Nat.le_of_ble_eq_true rfl) (Nat.le_of_ble_eq_true rfl) d_M_init_15 (fun g1 c3 H hK hP hD hS => ?_)
  refine p_M2F cx hin hK hP hD hS 0 rfl d_M_init_17 (fun H locs hP hD hS => ?_)
  have hP : va_P D classes (wM g0 g1 c3 0 (nI 1024) (fun _ => false)) H := hP
  have hD : va_D A (wM g0 g1 c3 0 (nI 1024) (fun _ => false)) := hD
  refine lv_aload_n hx hb d_M_init_20 rfl (lv_at hl 0 rfl) ?_
  refine g_M2 cx hK hP 0 rfl d_M_init_21 ?_
  refine lv_iconst (v := nI 0) hx hb d_M_init_24 (by decide +kernel) ?_
  refine lv_iconst (v := nI 1) hx hb d_M_init_25 (by decide +kernel) ?_
  refine r_zast hx hb hK hP hD hS 1 0 (true) rfl rfl (rfl) (show 0 < 16385 by omega) (by omega) d_M_init_26 (fun H locs hP hD hS => ?_)
  have hP : va_P D classes (wM g0 g1 c3 0 (nI 1024) (sB (fun _ => false) 0 true)) H := hP
  have hD : va_D A (wM g0 g1 c3 0 (nI 1024) (sB (fun _ => false) 0 true)) := hD
  refine lv_aload_n hx hb d_M_init_27 rfl (lv_at hl 0 rfl) ?_
  refine g_M2 cx hK hP 0 rfl d_M_init_28 ?_
  refine lv_sipush (v := nI 1024) hx hb d_M_init_31 (by decide +kernel) ?_
  refine lv_iconst (v := nI 1) hx hb d_M_init_34 (by decide +kernel) ?_
  refine r_zast hx hb hK hP hD hS 1 0 (true) rfl rfl (rfl) (show 1024 < 16385 by omega) (by omega) d_M_init_35 (fun H locs hP hD hS => ?_)
  have hP : va_P D classes (wM g0 g1 c3 0 (nI 1024) (sB (sB (fun _ => false) 0 true) 1024 true)) H := hP
  have hD : va_D A (wM g0 g1 c3 0 (nI 1024) (sB (sB (fun _ => false) 0 true) 1024 true)) := hD
  exact e_v (post := fun _ => True) (w := fun u : Nat × ClassId => wM g0 u.1 u.2 0 (nI 1024) (sB (sB (fun _ => false) 0 true) 1024 true)) (tu := fun u => tM u.2) cx hr hlocks (g1, c3) trivial hK hP hD hS d_M_init_36
end
section
/-! THE LAW'S OWN STATIC METHODS: with a handler, their world the table and the long that holds the answer -/
abbrev wX (h0 h1 h2 h3 : Nat) (c1 c2 : ClassId) (N P : Int32) (st sz : Nat → Int32) (oa : Nat) (c4 : ClassId) (f : Nat → Int64) : va_W := [(h0, .inr (0, [.ref h1, .ref h3, .int N, .int P])), (h1, .inr (1, [.ref h2])), (h2, .inl (c1, 512, .inl st)), (h3, .inl (c2, 16384, .inl sz)), (oa, .inl (c4, 1, .inr (.inl f)))]
abbrev tX (c1 c2 c4 : ClassId) : List (ClassId × FieldType) := [(c1, .int), (c2, .int), (c4, .long)]
def cPW (D : va_G) (wc : va_W) (tc : List (ClassId × FieldType)) (av : List Value) (sz : Nat) : Array Value → State → Prop := va_Pc av (fun U => U.heap.size = sz ∧ va_P D classes wc U.heap ∧ va_K D classes tc U ∧ va_D (fun _ => True) wc ∧ tS U U.heap)
def CtW {S : Type} (l : Launch) (y : MethodName) (wd : Cond) (rm : Room) (D : va_G) (wc : va_W) (tc : List (ClassId × FieldType)) (av : List Value) (post : Int32 → S → Prop) (tu : S → List (ClassId × FieldType)) (w : S → va_W) : Prop :=
  ∀ sz, Met l y (wd :: lw_gd) rm (cPW D wc tc av sz) (va_Qi post (cB D (va_A wc sz) tu w) (va_A wc sz)) rm.cells rm.slots (va_A wc sz)
theorem cPW_blind {D : va_G} {wc : va_W} {tc : List (ClassId × FieldType)} {av : List Value} {sz : Nat} : FrameBlind (cPW D wc tc av sz) := fun a U g mk q => by
  obtain ⟨q0, q1, qP, qK, qD, qZ⟩ := q
  exact ⟨q0, q1, qP, va_K.moved (u := U) (U := U.calling g mk a) (Vm.Alike.refl U.vm) qK, qD, tS.moved (u := U) (U := U.calling g mk a) (Vm.Alike.refl U.vm) qZ⟩
theorem r_metW {l : Launch} {S : Type} {y : MethodName} {b : ByteArray} {n : Nat} {ret : Option FieldType} {hs : List (Nat × Nat × Nat × Nat)} {rm : Room} {D : va_G} {wc : va_W} {tc : List (ClassId × FieldType)} {av : List Value} {tu : S → List (ClassId × FieldType)} {w : S → va_W} {post : Int32 → S → Prop} (hy : plainName y.cls = true) (hlen : (lg_sl av).length ≤ n)
    (body : ∀ (p : Program) (e : Env) (s : State) (m : MethodId) (below : List Frame) (meth : Method) (c : Code) (ls : Array Slot) (A : Nat → Prop),
      CallFix p m c b n s av.toArray lw_gd y.cls → meth.sig.returnType = ret → meth.locks = false → c.exceptionTable.toList.map (fun h => (h.startPc, h.endPc, h.handlerPc, h.catchType)) = hs → va_K D classes tc s → va_P D classes wc s.heap → va_D A wc → (∀ q, s.heap.size ≤ q → A q) → tS s s.heap → lv_has ls n (lv_args 0 av) →
      W p l e rm s m av.toArray below meth c s.heap [] 0 0 (MQ below (va_Qi post (cB D A tu w) A) av.toArray s rm.cells rm.slots A) (F0 m 0 ls [])) :
    CtW l y (.codeWith y b n ret hs) rm D wc tc av post tu w := by
  intro sz
  unfold Met
  refine MetFree.of_bodyS (code := b) (maxLocals := n) (ret := ret) hy ?_ ?_
  · intro args s m h hn
    obtain ⟨m', meth, c, hn', h1, h2, h3, h4, -, h5, h6, -⟩ := Cond.codeWith_spec (atoms_spec (ws := .codeWith y b n ret hs :: lw_gd) h _ List.mem_cons_self)
    cases hn.symm.trans hn'
    exact ⟨meth, c, h1, h2, h3, h4, h5, h6⟩
  · intro p e s m args below meth c s₁ B hml hv _
    obtain ⟨rfl, hsz, hP, hK, hD0, hZ⟩ := hv
    subst hsz
    have hts := atoms_spec (ws := .codeWith y b n ret hs :: lw_gd) B.pre
    have hh0 : s₁.heap = s.heap := by rw [B.state]; rfl
    have hl := lv_entry av (n := n) hlen
    obtain ⟨m', meth', c', hn', h1, h2, -, -, hex, -, -, -⟩ := Cond.codeWith_spec (hts _ List.mem_cons_self)
    cases B.named.symm.trans hn'
    cases B.method.symm.trans h1
    cases (Stand.of_body B).code.symm.trans h2
    have K : W p l e rm s m av.toArray below meth c s₁.heap [] 0 0 (MQ below (va_Qi post (cB D (va_A wc s.heap.size) tu w) (va_A wc s.heap.size)) av.toArray s rm.cells rm.slots (va_A wc s.heap.size)) (entryFrame m av.toArray n) := by
      rw [hh0, lg_entry_eq]
      generalize (lg_sl av ++ List.replicate (n - (lg_sl av).length) Slot.unset).toArray = ls at hl ⊢
      exact body p e s m below meth c ls _ ⟨B.exec, B.bytes, hml, findClass_of_methodNamed B.named, fun w hw => hts w (List.mem_cons_of_mem _ hw)⟩ B.returns B.notSynchronized hex hK hP (hD0.self (sz := s.heap.size)) (fun q h => Or.inr h) hZ hl
    obtain ⟨t, a1, o, b1, b2, b3⟩ := K s₁ rfl (Stand.of_body B)
    exact ⟨t, o, a1, b1, b2, b3.1, b3.2⟩
section WLa
variable {p : Program} {l : Launch} {e : Env} {R : Room} {s : State} {m : MethodId} {args : Array Value} {below : List Frame} {meth : Method} {c : Code} {H : Heap} {locs : List Loc} {cells slots nL : Nat} {Q : State → Prop}
variable {cc : ByteArray} {pc : Nat} {ls : Array Slot} {rest st0 : List Value} {D : va_G} {A : Nat → Prop} {own : String} {S : Type} {tu : S → List (ClassId × FieldType)} {w : S → va_W} {ad : Nat} {cl : List vw_C} {H0 : Heap}
variable {y : MethodName} {b : ByteArray} {n nA i : Nat} {ret : Option FieldType} {rm : Room} {wc wr ws : va_W} {tc tys : List (ClassId × FieldType)} {as : List Value} {hs : List (Nat × Nat × Nat × Nat)}
theorem r_last (hexec : p.tables.exec = Jvm.exec) (hb : c.code = cc) (hK : va_K D cl tys s) (hP : va_P D cl ws H) (hD : va_D A ws) (hS : va_S A H0 H locs) (q0 t0 : Nat) {cA : ClassId} {n : Nat} {f : Nat → Int64} (ha : ws[q0]? = some (ad, .inl (cA, n, .inr (.inl f)))) (ht : tys[t0]? = some (cA, .long)) {a : Nat} {x : Int64} (h : a < n) (hn : n < 2 ^ 31) (hdg : decode cc pc = .ok (.lastore, 1))
    (k : ∀ (H1 : Heap) (locs1 : List Loc), va_P D cl (ws.set q0 (ad, .inl (cA, n, .inr (.inl (vp_updL f a x))))) H1 → va_D A (ws.set q0 (ad, .inl (cA, n, .inr (.inl (vp_updL f a x))))) → va_S A H0 H1 locs1 → W p l e R s m args below meth c H1 locs1 cells slots Q (F0 m (pc + 1) ls rest)) : W p l e R s m args below meth c H locs cells slots Q (F0 m pc ls (.long x :: .int (nI a) :: .ref ad :: rest)) :=
  va_last hexec hb hK hP hD hS q0 t0 ha ht (vp_in_nI h hn) hdg (by rw [nI_clamp (Nat.lt_trans h hn)]; exact k)
theorem r_lald (hexec : p.tables.exec = Jvm.exec) (hb : c.code = cc) (hK : va_K D cl tys s) (hP : va_P D cl ws H) (q0 t0 : Nat) {cA : ClassId} {n : Nat} {f : Nat → Int64} (ha : ws[q0]? = some (ad, .inl (cA, n, .inr (.inl f)))) (ht : tys[t0]? = some (cA, .long)) {a : Nat} (h : a < n) (hn : n < 2 ^ 31) {v : Int64} (hv : f a = v) (hdg : decode cc pc = .ok (.laload, 1))
    (k : W p l e R s m args below meth c H locs cells slots Q (F0 m (pc + 1) ls (.long v :: rest))) : W p l e R s m args below meth c H locs cells slots Q (F0 m pc ls (.int (nI a) :: .ref ad :: rest)) :=
  va_lald hexec hb hK hP q0 t0 ha ht (vp_in_nI h hn) hdg (by rw [nI_clamp (Nat.lt_trans h hn), hv]; exact k)
/-- the call of a static method with a handler -/
theorem r_callSW {post : Int32 → S → Prop} (hM : CtW l y (.codeWith y b n ret hs) rm D wc tc as post tu w) (cx : CallFix p m c cc nL s args lw_gd own) (hc : Cond.codeWith y b n ret hs ∈ lw_gd) (hlk : Cond.methodLink own i y ∈ lw_gd) (hstt : Cond.static y ∈ lw_gd) (hini : Cond.initialized y.cls ∈ lw_gd) (hd : nOk y nA) (hn : as.length = nA)
    (hR : rm.frames + 1 ≤ R.frames ∧ 8 + (n + 11) + rm.locals ≤ R.locals) (hR2 : cells + rm.cells ≤ R.cells ∧ slots + rm.slots ≤ R.slots)
    (hK : va_K D classes tys s) (hP : va_P D classes ws H) (hD : va_D A ws) (hS : va_S A s.heap H locs) (hA : ∀ q, s.heap.size ≤ q → A q) (hZ : tS s H)
    (isC isR isT : List Nat) (hC : isC.map (fun i => ws[i]?) = wc.map some) (hRr : isR.map (fun i => ws[i]?) = wr.map some) (hTt : isT.filterMap (fun i => tys[i]?) = tc) (hnd : va_nd isR = true) (hndC : va_nd isC = true) (hdis : ∀ i ∈ isR, i ∉ isC)
    (hls : ls.size = nL) (hst : st0 = as.reverse ++ rest) (hrm : (rest.map fun v => v.category).sum ≤ 8) (hdg : decode cc pc = .ok (.invokestatic i, 3))
    (kk : ∀ (r : Int32) (u : S) (H1 : Heap) (locs1 : List Loc), post r u → va_K D classes (tu u) s → va_P D classes (wr ++ w u) H1 → va_D A (wr ++ w u) → va_S A s.heap H1 locs1 → W p l e R s m args below meth c H1 locs1 (cells + rm.cells) (slots + rm.slots) Q (F0 m (pc + 3) ls (.int r :: rest))) :
    W p l e R s m args below meth c H locs cells slots Q (F0 m pc ls st0) := by
  have hPc := hP.sub isC (fm_of hC)
  have hDc := hD.sub isC hndC hC
  have hKc := hK.sub isT hTt
  have hFc := va_free (wc := wc) hD hS hA isC hC
  have hT9 := cx.2.2.2.2
  have hws : ∀ w ∈ (Cond.codeWith y b n ret hs :: lw_gd), ∀ (a' : Array Value) (U : State), s.WarmedH U.vm → w.before a' U = true := pay_in hT9 (gd_callW hc)
  have hB : Back l R p e below s args y 3 8 (PreOf R rm.cells rm.slots (cPW D wc tc as H.size)) (PostOf (va_Qi post (cB D (va_A wc H.size) tu w) (va_A wc H.size)) rm.cells rm.slots (va_A wc H.size)) := by
    refine Back.of_freeWith (S := headSpec (Cond.codeWith y b n ret hs :: lw_gd) rm) (P := cPW D wc tc as H.size) (K := fun _ _ _ _ _ => True) (Q := fun a st o t => va_Qi post (cB D (va_A wc H.size) tu w) (va_A wc H.size) a st o t ∧ ∃ L, FrameEnd st o t L rm.cells rm.slots ∧ ∀ q ∈ L, va_A wc H.size q.base) (bytes := b) (maxL := n) (ret := ret) (handlers := hs)
      (E := fun a st o t L k n => k = rm.cells ∧ n = rm.slots ∧ ∀ q ∈ L, va_A wc H.size q.base) (hM H.size) hR.1 hR.2 ?_ ?_ (fun _ _ _ _ _ _ _ _ _ => trivial) ?_ ?_
    · intro m meth c A a X hp
      exact ⟨atoms_intro fun w hw => hws w hw _ _ X.warmed, hws _ List.mem_cons_self _ _ X.warmed, hws _ (List.mem_cons_of_mem _ hini) _ _ X.warmed, hp.1, hp.2.1⟩
    · intro m meth c A a g mk X hp
      exact cPW_blind _ _ _ _ hp.2.2
    · intro a st o t ⟨hq, L, hF, hL⟩
      exact ⟨L, rm.cells, rm.slots, hF, rfl, rfl, hL⟩
    · intro m meth c A a g mk v t L k n X hp hq hF ⟨e1, e2, hL⟩
      subst e1; subst e2
      exact ⟨g, mk, t, L, rfl, rfl, hq.1, rfl, hL, rfl, rfl⟩
  have hrun : va_Run p l e R s m args below meth c H locs cells slots rm.cells rm.slots (F0 m pc ls st0) rest (va_Qi post (cB D (va_A wc H.size) tu w) (va_A wc H.size) as.toArray) (va_A wc H.size) := by
    intro T hT X
    obtain ⟨mk, methM, cM, hnamed, hmethM, -, -, -, -, -, -, hsigM⟩ := Cond.codeWith_spec (hT9 _ hc)
    have hstatic : methM.isStatic = true := Cond.static_spec hnamed hmethM (hT9 _ hstt)
    obtain ⟨kP, hkP, -⟩ := className_of_methodNamed hnamed
    have hinitP : kP.init = .initialized := Cond.initialized_spec (findClass_of_methodNamed hnamed) hkP (hT9 _ hini)
    have hlen : as.length = methM.sig.parameters.length := by
      have h2 := hd.2.2
      rw [hsigM] at h2
      exact hn.trans (Option.some.inj h2).symm
    have hb := cx.2.1
    obtain ⟨vm₁, X₁, hstep₁⟩ := X.invokestatic cx.1 cx.2.2.2.1 (hT9 _ hlk) hnamed hmethM hstatic hkP hinitP ⟨hd.1, hd.2.1⟩ (g := F0 m pc ls st0) rfl (argsL := as) (rest := rest) hlen hst (by rw [hb]; exact hdg)
    obtain ⟨v, ⟨U', l2, c2, s2⟩, X', ⟨g', mk', t, L, e1, e2, hq, h1, hL, h2, h3⟩, hsteps⟩ := hB m meth c ⟨T.setVm vm₁, locs, cells, slots⟩ (F0 m pc ls rest) (.invokestatic i) mk as.toArray X₁ rfl (hls.trans cx.2.2.1.symm) (by rw [hb]; exact hdg) (lv_room hrm) (X₁.named hnamed)
      ⟨hR2.1, hR2.2, rfl, by show T.heap.size = H.size; rw [hT], by show va_P D classes wc T.heap; rw [hT]; exact hPc, va_K.moved X₁.warmed.alike hKc, hDc.weaken (fun _ _ _ _ => trivial), by show tS _ T.heap; rw [hT]; exact hZ.moved X₁.warmed.alike⟩
    dsimp only [Pt.U, Pt.locs, Pt.cells, Pt.slots] at X' e1 e2 h1 h2 h3 hsteps
    subst h1; subst h2; subst h3
    exact ⟨v, (T.setVm vm₁).calling g' mk' as.toArray, t, U', L, hT, X', hL, e1, e2, hq, fun target h => hstep₁ _ fun acts => by rw [doInvoke_state]; exact hsteps.trans h⟩
  refine va_calli hrun hS (fun q _ h => hFc q h) hFc (fun r u t H1 locs1 ht hvm hw hB hz1 hk1 hS1 => ?_)
  obtain ⟨hP1, hK1, hD1⟩ := hB
  rw [ht] at hP1
  obtain ⟨hP2, hD2⟩ := va_join (wr := wr) (w1 := w u) hP hD isC isR hC hRr hnd hdis hk1 hFc hP1 hD1
  exact kk r u H1 locs1 hw (va_K.moved hvm.symm hK1) hP2 hD2 hS1
end WLa
end
section
abbrev rmW : Room := { frames := 9, cells := 1, slots := 6, locals := 160 }
abbrev S4 : Type := Int32 × (Nat → Int32) × (Nat → Int32) × (Nat → Int64)
theorem n10 : ¬ nI 1 = nI 0 := by decide +kernel
set_option maxHeartbeats 4000000 in
set_option maxRecDepth 100000 in
theorem co_L_cut (l : Launch) (D : va_G) {h0 h1 h2 h3 oa : Nat} {c1 c2 c4 : ClassId} {N : Nat} {B : Nat → Bool} {P : Int32} {st sz : Nat → Int32} {f : Nat → Int64} (hR : Rep N B P st sz) {a : Nat} (ha : a < N) : CtW l y_L_cut c_L_cut rmW D (wX h0 h1 h2 h3 c1 c2 (nI N) P st sz oa c4 f) (tX c1 c2 c4) [.ref h0, .int (nI a), .ref oa] (fun r (u : S4) => r = nI 0 ∧ (nI 0 = nI 0 → u.2.2.2 0 = (nI (a - pv B a)).toInt64) ∧ Rep N (sB B a true) u.1 u.2.1 u.2.2.1) (fun _ => tX c1 c2 c4) (fun u : S4 => wX h0 h1 h2 h3 c1 c2 (nI N) u.1 u.2.1 u.2.2.1 oa c4 u.2.2.2) := by
  refine r_metW (by decide) (Nat.le_of_ble_eq_true rfl) ?_
  intro p e s m below meth c ls A cx hr hlocks hex hK hP hD hA hZ hl
  have hx := cx.1
  have hb := cx.2.1
  have hS : va_S A s.heap s.heap [] := va_S.rf
  have hl : lv_has ls 4 [(0, .ref h0), (1, .int (nI a)), (2, .ref oa)] := hl
  refine lv_aload_n hx hb d_L_cut_0 rfl (lv_at hl 2 rfl) ?_
  refine lv_iconst (v := nI 0) hx hb d_L_cut_1 (by decide +kernel) ?_
  refine lv_aload_n hx hb d_L_cut_2 rfl (lv_at hl 0 rfl) ?_
  refine lv_iload_n hx hb d_L_cut_3 rfl (lv_at hl 1 rfl) ?_
  refine r_callVi (wr := List.filterMap (fun i : Nat => (wX h0 h1 h2 h3 c1 c2 (nI N) P st sz oa c4 f : va_W)[i]?) [4]) (nA := 1) (rest := [.int (nI 0), .ref oa]) (ct_T_cut l D hR ha) cx (gd_callV mc_T_cut ml_L_15 ms_T_cut mv_T_cut mi_T) (by decide +kernel) rfl ⟨Nat.le_of_ble_eq_true rfl, Nat.le_of_ble_eq_true rfl⟩ ⟨Nat.le_of_ble_eq_true rfl, Nat.le_of_ble_eq_true rfl⟩ hK hP hD hS hA [0, 1, 2, 3] [4] [0, 1] rfl rfl rfl (by decide) (by decide) (by decide) (ci := 0) rfl rfl rfl hl.1 rfl (Nat.le_of_ble_eq_true rfl) d_L_cut_4 (fun r9 u9 H locs hw9 hK9 hP hD hS => ?_)
  obtain ⟨P1, st1, sz1⟩ := u9
  obtain ⟨rfl, hR1⟩ := hw9
  dsimp only at hR1 hP hD
  have hP : va_P D classes (wX h0 h1 h2 h3 c1 c2 (nI N) P1 st1 sz1 oa c4 f) H := hP.sub [1, 2, 3, 4, 0] rfl
  have hD : va_D A (wX h0 h1 h2 h3 c1 c2 (nI N) P1 st1 sz1 oa c4 f) := hD.sub [1, 2, 3, 4, 0] (by decide) rfl
  refine lv_i2l (v := (nI (a - pv B a)).toInt64) hx hb d_L_cut_7 rfl ?_
  refine r_last hx hb hK hP hD hS 4 2 rfl rfl (show 0 < 1 by omega) (by omega) d_L_cut_8 (fun H locs hP hD hS => ?_)
  have hP : va_P D classes (wX h0 h1 h2 h3 c1 c2 (nI N) P1 st1 sz1 oa c4 (vp_updL f 0 (nI (a - pv B a)).toInt64)) H := hP
  have hD : va_D A (wX h0 h1 h2 h3 c1 c2 (nI N) P1 st1 sz1 oa c4 (vp_updL f 0 (nI (a - pv B a)).toInt64)) := hD
  refine lv_goto (tgt := 15) hx hb d_L_cut_9 (by decide) ?_
  refine lv_iconst (v := nI 0) hx hb d_L_cut_15 (by decide +kernel) ?_
  refine W.widen (k := 1) (n := 6) (Nat.le_of_ble_eq_true rfl) (Nat.le_of_ble_eq_true rfl) ?_
  exact e_i (w := fun u : S4 => wX h0 h1 h2 h3 c1 c2 (nI N) u.1 u.2.1 u.2.2.1 oa c4 u.2.2.2) (tu := fun _ => tX c1 c2 c4) cx hr hlocks (P1, st1, sz1, vp_updL f 0 (nI (a - pv B a)).toInt64) ⟨rfl, fun _ => pk_uLs (f := f) (k := 0) (x := (nI (a - pv B a)).toInt64), hR1⟩ hK hP hD hS d_L_cut_16
set_option maxHeartbeats 4000000 in
set_option maxRecDepth 100000 in
theorem cq_L_cut (l : Launch) (D : va_G) (htr : l.stackTraces = false) {h0 h1 h2 h3 oa : Nat} {c1 c2 c4 : ClassId} {N : Nat} {B : Nat → Bool} {P : Int32} {st sz : Nat → Int32} {f : Nat → Int64} (hR : Rep N B P st sz) (hN : N ≤ 16384) {x : Int32} (h : x < 0 ∨ nI N ≤ x) : CtW l y_L_cut c_L_cut rmW D (wX h0 h1 h2 h3 c1 c2 (nI N) P st sz oa c4 f) (tX c1 c2 c4) [.ref h0, .int x, .ref oa] (fun r (u : S4) => r = nI 1 ∧ (nI 1 = nI 0 → u.2.2.2 0 = (nI 0).toInt64) ∧ Rep N B u.1 u.2.1 u.2.2.1) (fun _ => tX c1 c2 c4) (fun u : S4 => wX h0 h1 h2 h3 c1 c2 (nI N) u.1 u.2.1 u.2.2.1 oa c4 u.2.2.2) := by
  refine r_metW (by decide) (Nat.le_of_ble_eq_true rfl) ?_
  intro p e s m below meth c ls A cx hr hlocks hex hK hP hD hA hZ hl
  have hx := cx.1
  have hb := cx.2.1
  have hS : va_S A s.heap s.heap [] := va_S.rf
  have hl : lv_has ls 4 [(0, .ref h0), (1, .int x), (2, .ref oa)] := hl
  refine lv_aload_n hx hb d_L_cut_0 rfl (lv_at hl 2 rfl) ?_
  refine lv_iconst (v := nI 0) hx hb d_L_cut_1 (by decide +kernel) ?_
  refine lv_aload_n hx hb d_L_cut_2 rfl (lv_at hl 0 rfl) ?_
  refine lv_iload_n hx hb d_L_cut_3 rfl (lv_at hl 1 rfl) ?_
  refine tx_catch (hs := 0) (he := 9) (hp := 12) (ix := 18) (cls := nmB) cx hex (by decide) (by decide) (by decide) mk_L_18 (hZ.2.2 _ (List.mem_of_getElem? (i := 1) rfl)) (tx_runV (nA := 1) (rest := [.int (nI 0), .ref oa]) (cx_T_cut l D htr hN h) cx (gd_callV mc_T_cut ml_L_15 ms_T_cut mv_T_cut mi_T) (by decide +kernel) rfl ⟨Nat.le_of_ble_eq_true rfl, Nat.le_of_ble_eq_true rfl⟩ ⟨Nat.le_of_ble_eq_true rfl, Nat.le_of_ble_eq_true rfl⟩ (hK.sub (tys' := []) [] rfl) (hP.sub (ws' := wH h0 h1 h3 (nI N) P) [0] rfl) hZ (ci := 0) rfl rfl rfl hl.1 rfl (Nat.le_of_ble_eq_true rfl) d_L_cut_4) (fun x9 H hk9 hz9 => ?_)
  have hP : va_P D classes (wX h0 h1 h2 h3 c1 c2 (nI N) P st sz oa c4 f) H := hP.kept (fun k q hq => hk9 q.1 ((hP k q hq).lt))
  have hS : va_S A s.heap H [] := ⟨hz9, fun q h1 _ => hk9 q h1, fun _ h => by cases h⟩
  refine lv_astore_n (lv' := [(3, .ref x9), (0, .ref h0), (1, .int x), (2, .ref oa)]) hx hb d_L_cut_12 rfl hl (by decide) rfl (fun ls hl => ?_)
  refine lv_iconst (v := nI 1) hx hb d_L_cut_13 (by decide +kernel) ?_
  exact e_i (w := fun u : S4 => wX h0 h1 h2 h3 c1 c2 (nI N) u.1 u.2.1 u.2.2.1 oa c4 u.2.2.2) (tu := fun _ => tX c1 c2 c4) cx hr hlocks (P, st, sz, f) ⟨rfl, fun z => absurd z n10, hR⟩ hK hP hD hS d_L_cut_14
theorem cs_L_cut (l : Launch) (D : va_G) (htr : l.stackTraces = false) {h0 h1 h2 h3 oa : Nat} {c1 c2 c4 : ClassId} {N : Nat} {B : Nat → Bool} {P : Int32} {st sz : Nat → Int32} {f : Nat → Int64} (hR : Rep N B P st sz) {x : Int32} : CtW l y_L_cut c_L_cut rmW D (wX h0 h1 h2 h3 c1 c2 (nI N) P st sz oa c4 f) (tX c1 c2 c4) [.ref h0, .int x, .ref oa] (fun r (u : S4) => r = (sp_cut N B x).1 ∧ ((sp_cut N B x).1 = nI 0 → u.2.2.2 0 = ((sp_cut N B x).2.1).toInt64) ∧ Rep ((sp_cut N B x).2.2.1) ((sp_cut N B x).2.2.2) u.1 u.2.1 u.2.2.1) (fun _ => tX c1 c2 c4) (fun u : S4 => wX h0 h1 h2 h3 c1 c2 (nI ((sp_cut N B x).2.2.1)) u.1 u.2.1 u.2.2.1 oa c4 u.2.2.2) := by
  have hN : N ≤ 16384 := hR.2.1
  rcases ix_case x hN with h | ⟨a, ha, rfl⟩
  · rw [sp_cut_no hN h]; exact cq_L_cut l D htr hR hN h
  · rw [sp_cut_ok hN ha]; exact co_L_cut l D hR ha
set_option maxHeartbeats 4000000 in
set_option maxRecDepth 100000 in
theorem co_L_join (l : Launch) (D : va_G) {h0 h1 h2 h3 oa : Nat} {c1 c2 c4 : ClassId} {N : Nat} {B : Nat → Bool} {P : Int32} {st sz : Nat → Int32} {f : Nat → Int64} (hR : Rep N B P st sz) {a : Nat} (ha : a < N) : CtW l y_L_join c_L_join rmW D (wX h0 h1 h2 h3 c1 c2 (nI N) P st sz oa c4 f) (tX c1 c2 c4) [.ref h0, .int (nI a), .ref oa] (fun r (u : S4) => r = nI 0 ∧ (nI 0 = nI 0 → u.2.2.2 0 = (jn_ans N B a).toInt64) ∧ Rep N (jn_B N B a) u.1 u.2.1 u.2.2.1) (fun _ => tX c1 c2 c4) (fun u : S4 => wX h0 h1 h2 h3 c1 c2 (nI N) u.1 u.2.1 u.2.2.1 oa c4 u.2.2.2) := by
  refine r_metW (by decide) (Nat.le_of_ble_eq_true rfl) ?_
  intro p e s m below meth c ls A cx hr hlocks hex hK hP hD hA hZ hl
  have hx := cx.1
  have hb := cx.2.1
  have hS : va_S A s.heap s.heap [] := va_S.rf
  have hl : lv_has ls 4 [(0, .ref h0), (1, .int (nI a)), (2, .ref oa)] := hl
  refine lv_aload_n hx hb d_L_join_0 rfl (lv_at hl 2 rfl) ?_
  refine lv_iconst (v := nI 0) hx hb d_L_join_1 (by decide +kernel) ?_
  refine lv_aload_n hx hb d_L_join_2 rfl (lv_at hl 0 rfl) ?_
  refine lv_iload_n hx hb d_L_join_3 rfl (lv_at hl 1 rfl) ?_
  refine r_callVi (wr := List.filterMap (fun i : Nat => (wX h0 h1 h2 h3 c1 c2 (nI N) P st sz oa c4 f : va_W)[i]?) [4]) (nA := 1) (rest := [.int (nI 0), .ref oa]) (ct_T_join l D hR ha) cx (gd_callV mc_T_join ml_L_20 ms_T_join mv_T_join mi_T) (by decide +kernel) rfl ⟨Nat.le_of_ble_eq_true rfl, Nat.le_of_ble_eq_true rfl⟩ ⟨Nat.le_of_ble_eq_true rfl, Nat.le_of_ble_eq_true rfl⟩ hK hP hD hS hA [0, 1, 2, 3] [4] [0, 1] rfl rfl rfl (by decide) (by decide) (by decide) (ci := 0) rfl rfl rfl hl.1 rfl (Nat.le_of_ble_eq_true rfl) d_L_join_4 (fun r9 u9 H locs hw9 hK9 hP hD hS => ?_)
  obtain ⟨P1, st1, sz1⟩ := u9
  obtain ⟨rfl, hR1⟩ := hw9
  dsimp only at hR1 hP hD
  have hP : va_P D classes (wX h0 h1 h2 h3 c1 c2 (nI N) P1 st1 sz1 oa c4 f) H := hP.sub [1, 2, 3, 4, 0] rfl
  have hD : va_D A (wX h0 h1 h2 h3 c1 c2 (nI N) P1 st1 sz1 oa c4 f) := hD.sub [1, 2, 3, 4, 0] (by decide) rfl
  refine lv_i2l (v := (jn_ans N B a).toInt64) hx hb d_L_join_7 rfl ?_
  refine r_last hx hb hK hP hD hS 4 2 rfl rfl (show 0 < 1 by omega) (by omega) d_L_join_8 (fun H locs hP hD hS => ?_)
  have hP : va_P D classes (wX h0 h1 h2 h3 c1 c2 (nI N) P1 st1 sz1 oa c4 (vp_updL f 0 (jn_ans N B a).toInt64)) H := hP
  have hD : va_D A (wX h0 h1 h2 h3 c1 c2 (nI N) P1 st1 sz1 oa c4 (vp_updL f 0 (jn_ans N B a).toInt64)) := hD
  refine lv_goto (tgt := 15) hx hb d_L_join_9 (by decide) ?_
  refine lv_iconst (v := nI 0) hx hb d_L_join_15 (by decide +kernel) ?_
  refine W.widen (k := 1) (n := 6) (Nat.le_of_ble_eq_true rfl) (Nat.le_of_ble_eq_true rfl) ?_
  exact e_i (w := fun u : S4 => wX h0 h1 h2 h3 c1 c2 (nI N) u.1 u.2.1 u.2.2.1 oa c4 u.2.2.2) (tu := fun _ => tX c1 c2 c4) cx hr hlocks (P1, st1, sz1, vp_updL f 0 (jn_ans N B a).toInt64) ⟨rfl, fun _ => pk_uLs (f := f) (k := 0) (x := (jn_ans N B a).toInt64), hR1⟩ hK hP hD hS d_L_join_16
set_option maxHeartbeats 4000000 in
set_option maxRecDepth 100000 in
theorem cq_L_join (l : Launch) (D : va_G) (htr : l.stackTraces = false) {h0 h1 h2 h3 oa : Nat} {c1 c2 c4 : ClassId} {N : Nat} {B : Nat → Bool} {P : Int32} {st sz : Nat → Int32} {f : Nat → Int64} (hR : Rep N B P st sz) (hN : N ≤ 16384) {x : Int32} (h : x < 0 ∨ nI N ≤ x) : CtW l y_L_join c_L_join rmW D (wX h0 h1 h2 h3 c1 c2 (nI N) P st sz oa c4 f) (tX c1 c2 c4) [.ref h0, .int x, .ref oa] (fun r (u : S4) => r = nI 1 ∧ (nI 1 = nI 0 → u.2.2.2 0 = (nI 0).toInt64) ∧ Rep N B u.1 u.2.1 u.2.2.1) (fun _ => tX c1 c2 c4) (fun u : S4 => wX h0 h1 h2 h3 c1 c2 (nI N) u.1 u.2.1 u.2.2.1 oa c4 u.2.2.2) := by
  refine r_metW (by decide) (Nat.le_of_ble_eq_true rfl) ?_
  intro p e s m below meth c ls A cx hr hlocks hex hK hP hD hA hZ hl
  have hx := cx.1
  have hb := cx.2.1
  have hS : va_S A s.heap s.heap [] := va_S.rf
  have hl : lv_has ls 4 [(0, .ref h0), (1, .int x), (2, .ref oa)] := hl
  refine lv_aload_n hx hb d_L_join_0 rfl (lv_at hl 2 rfl) ?_
  refine lv_iconst (v := nI 0) hx hb d_L_join_1 (by decide +kernel) ?_
  refine lv_aload_n hx hb d_L_join_2 rfl (lv_at hl 0 rfl) ?_
  refine lv_iload_n hx hb d_L_join_3 rfl (lv_at hl 1 rfl) ?_
  refine tx_catch (hs := 0) (he := 9) (hp := 12) (ix := 18) (cls := nmB) cx hex (by decide) (by decide) (by decide) mk_L_18 (hZ.2.2 _ (List.mem_of_getElem? (i := 1) rfl)) (tx_runV (nA := 1) (rest := [.int (nI 0), .ref oa]) (cx_T_join l D htr hN h) cx (gd_callV mc_T_join ml_L_20 ms_T_join mv_T_join mi_T) (by decide +kernel) rfl ⟨Nat.le_of_ble_eq_true rfl, Nat.le_of_ble_eq_true rfl⟩ ⟨Nat.le_of_ble_eq_true rfl, Nat.le_of_ble_eq_true rfl⟩ (hK.sub (tys' := []) [] rfl) (hP.sub (ws' := wH h0 h1 h3 (nI N) P) [0] rfl) hZ (ci := 0) rfl rfl rfl hl.1 rfl (Nat.le_of_ble_eq_true rfl) d_L_join_4) (fun x9 H hk9 hz9 => ?_)
  have hP : va_P D classes (wX h0 h1 h2 h3 c1 c2 (nI N) P st sz oa c4 f) H := hP.kept (fun k q hq => hk9 q.1 ((hP k q hq).lt))
  have hS : va_S A s.heap H [] := ⟨hz9, fun q h1 _ => hk9 q h1, fun _ h => by cases h⟩
  refine lv_astore_n (lv' := [(3, .ref x9), (0, .ref h0), (1, .int x), (2, .ref oa)]) hx hb d_L_join_12 rfl hl (by decide) rfl (fun ls hl => ?_)
  refine lv_iconst (v := nI 1) hx hb d_L_join_13 (by decide +kernel) ?_
  exact e_i (w := fun u : S4 => wX h0 h1 h2 h3 c1 c2 (nI N) u.1 u.2.1 u.2.2.1 oa c4 u.2.2.2) (tu := fun _ => tX c1 c2 c4) cx hr hlocks (P, st, sz, f) ⟨rfl, fun z => absurd z n10, hR⟩ hK hP hD hS d_L_join_14
theorem cs_L_join (l : Launch) (D : va_G) (htr : l.stackTraces = false) {h0 h1 h2 h3 oa : Nat} {c1 c2 c4 : ClassId} {N : Nat} {B : Nat → Bool} {P : Int32} {st sz : Nat → Int32} {f : Nat → Int64} (hR : Rep N B P st sz) {x : Int32} : CtW l y_L_join c_L_join rmW D (wX h0 h1 h2 h3 c1 c2 (nI N) P st sz oa c4 f) (tX c1 c2 c4) [.ref h0, .int x, .ref oa] (fun r (u : S4) => r = (sp_join N B x).1 ∧ ((sp_join N B x).1 = nI 0 → u.2.2.2 0 = ((sp_join N B x).2.1).toInt64) ∧ Rep ((sp_join N B x).2.2.1) ((sp_join N B x).2.2.2) u.1 u.2.1 u.2.2.1) (fun _ => tX c1 c2 c4) (fun u : S4 => wX h0 h1 h2 h3 c1 c2 (nI ((sp_join N B x).2.2.1)) u.1 u.2.1 u.2.2.1 oa c4 u.2.2.2) := by
  have hN : N ≤ 16384 := hR.2.1
  rcases ix_case x hN with h | ⟨a, ha, rfl⟩
  · rw [sp_join_no hN h]; exact cq_L_join l D htr hR hN h
  · rw [sp_join_ok hN ha]; exact co_L_join l D hR ha
set_option maxHeartbeats 4000000 in
set_option maxRecDepth 100000 in
theorem co_L_begin (l : Launch) (D : va_G) {h0 h1 h2 h3 oa : Nat} {c1 c2 c4 : ClassId} {N : Nat} {B : Nat → Bool} {P : Int32} {st sz : Nat → Int32} {f : Nat → Int64} (hR : Rep N B P st sz) {a : Nat} (ha : a < N) : CtW l y_L_begin c_L_begin rmW D (wX h0 h1 h2 h3 c1 c2 (nI N) P st sz oa c4 f) (tX c1 c2 c4) [.ref h0, .int (nI a), .ref oa] (fun r (u : S4) => r = nI 0 ∧ (nI 0 = nI 0 → u.2.2.2 0 = (nI (pv B a)).toInt64) ∧ Rep N B u.1 u.2.1 u.2.2.1) (fun _ => tX c1 c2 c4) (fun u : S4 => wX h0 h1 h2 h3 c1 c2 (nI N) u.1 u.2.1 u.2.2.1 oa c4 u.2.2.2) := by
  refine r_metW (by decide) (Nat.le_of_ble_eq_true rfl) ?_
  intro p e s m below meth c ls A cx hr hlocks hex hK hP hD hA hZ hl
  have hx := cx.1
  have hb := cx.2.1
  have hS : va_S A s.heap s.heap [] := va_S.rf
  have hl : lv_has ls 4 [(0, .ref h0), (1, .int (nI a)), (2, .ref oa)] := hl
  refine lv_aload_n hx hb d_L_begin_0 rfl (lv_at hl 2 rfl) ?_
  refine lv_iconst (v := nI 0) hx hb d_L_begin_1 (by decide +kernel) ?_
  refine lv_aload_n hx hb d_L_begin_2 rfl (lv_at hl 0 rfl) ?_
  refine lv_iload_n hx hb d_L_begin_3 rfl (lv_at hl 1 rfl) ?_
  refine r_callPi (nA := 1) (rest := [.int (nI 0), .ref oa]) (ct_T_begin l D hR ha) cx (gd_callV mc_T_begin ml_L_27 ms_T_begin mv_T_begin mi_T) (by decide +kernel) rfl ⟨rfl, rfl⟩ ⟨Nat.le_of_ble_eq_true rfl, Nat.le_of_ble_eq_true rfl⟩ ⟨Nat.le_of_ble_eq_true rfl, Nat.le_of_ble_eq_true rfl⟩ hK hP [0, 1, 2, 3] [0, 1] rfl rfl (ci := 0) rfl rfl rfl hl.1 rfl (Nat.le_of_ble_eq_true rfl) d_L_begin_4 (fun r9 h9 => ?_)
  obtain rfl := h9
  refine lv_i2l (v := (nI (pv B a)).toInt64) hx hb d_L_begin_7 rfl ?_
  refine r_last hx hb hK hP hD hS 4 2 rfl rfl (show 0 < 1 by omega) (by omega) d_L_begin_8 (fun H locs hP hD hS => ?_)
  have hP : va_P D classes (wX h0 h1 h2 h3 c1 c2 (nI N) P st sz oa c4 (vp_updL f 0 (nI (pv B a)).toInt64)) H := hP
  have hD : va_D A (wX h0 h1 h2 h3 c1 c2 (nI N) P st sz oa c4 (vp_updL f 0 (nI (pv B a)).toInt64)) := hD
  refine lv_goto (tgt := 15) hx hb d_L_begin_9 (by decide) ?_
  refine lv_iconst (v := nI 0) hx hb d_L_begin_15 (by decide +kernel) ?_
  refine W.widen (k := 1) (n := 6) (Nat.le_of_ble_eq_true rfl) (Nat.le_of_ble_eq_true rfl) ?_
  exact e_i (w := fun u : S4 => wX h0 h1 h2 h3 c1 c2 (nI N) u.1 u.2.1 u.2.2.1 oa c4 u.2.2.2) (tu := fun _ => tX c1 c2 c4) cx hr hlocks (P, st, sz, vp_updL f 0 (nI (pv B a)).toInt64) ⟨rfl, fun _ => pk_uLs (f := f) (k := 0) (x := (nI (pv B a)).toInt64), hR⟩ hK hP hD hS d_L_begin_16
set_option maxHeartbeats 4000000 in
set_option maxRecDepth 100000 in
theorem cq_L_begin (l : Launch) (D : va_G) (htr : l.stackTraces = false) {h0 h1 h2 h3 oa : Nat} {c1 c2 c4 : ClassId} {N : Nat} {B : Nat → Bool} {P : Int32} {st sz : Nat → Int32} {f : Nat → Int64} (hR : Rep N B P st sz) (hN : N ≤ 16384) {x : Int32} (h : x < 0 ∨ nI N ≤ x) : CtW l y_L_begin c_L_begin rmW D (wX h0 h1 h2 h3 c1 c2 (nI N) P st sz oa c4 f) (tX c1 c2 c4) [.ref h0, .int x, .ref oa] (fun r (u : S4) => r = nI 1 ∧ (nI 1 = nI 0 → u.2.2.2 0 = (nI 0).toInt64) ∧ Rep N B u.1 u.2.1 u.2.2.1) (fun _ => tX c1 c2 c4) (fun u : S4 => wX h0 h1 h2 h3 c1 c2 (nI N) u.1 u.2.1 u.2.2.1 oa c4 u.2.2.2) := by
  refine r_metW (by decide) (Nat.le_of_ble_eq_true rfl) ?_
  intro p e s m below meth c ls A cx hr hlocks hex hK hP hD hA hZ hl
  have hx := cx.1
  have hb := cx.2.1
  have hS : va_S A s.heap s.heap [] := va_S.rf
  have hl : lv_has ls 4 [(0, .ref h0), (1, .int x), (2, .ref oa)] := hl
  refine lv_aload_n hx hb d_L_begin_0 rfl (lv_at hl 2 rfl) ?_
  refine lv_iconst (v := nI 0) hx hb d_L_begin_1 (by decide +kernel) ?_
  refine lv_aload_n hx hb d_L_begin_2 rfl (lv_at hl 0 rfl) ?_
  refine lv_iload_n hx hb d_L_begin_3 rfl (lv_at hl 1 rfl) ?_
  refine tx_catch (hs := 0) (he := 9) (hp := 12) (ix := 18) (cls := nmB) cx hex (by decide) (by decide) (by decide) mk_L_18 (hZ.2.2 _ (List.mem_of_getElem? (i := 1) rfl)) (tx_runV (nA := 1) (rest := [.int (nI 0), .ref oa]) (cx_T_begin l D htr hN h) cx (gd_callV mc_T_begin ml_L_27 ms_T_begin mv_T_begin mi_T) (by decide +kernel) rfl ⟨Nat.le_of_ble_eq_true rfl, Nat.le_of_ble_eq_true rfl⟩ ⟨Nat.le_of_ble_eq_true rfl, Nat.le_of_ble_eq_true rfl⟩ (hK.sub (tys' := []) [] rfl) (hP.sub (ws' := wH h0 h1 h3 (nI N) P) [0] rfl) hZ (ci := 0) rfl rfl rfl hl.1 rfl (Nat.le_of_ble_eq_true rfl) d_L_begin_4) (fun x9 H hk9 hz9 => ?_)
  have hP : va_P D classes (wX h0 h1 h2 h3 c1 c2 (nI N) P st sz oa c4 f) H := hP.kept (fun k q hq => hk9 q.1 ((hP k q hq).lt))
  have hS : va_S A s.heap H [] := ⟨hz9, fun q h1 _ => hk9 q h1, fun _ h => by cases h⟩
  refine lv_astore_n (lv' := [(3, .ref x9), (0, .ref h0), (1, .int x), (2, .ref oa)]) hx hb d_L_begin_12 rfl hl (by decide) rfl (fun ls hl => ?_)
  refine lv_iconst (v := nI 1) hx hb d_L_begin_13 (by decide +kernel) ?_
  exact e_i (w := fun u : S4 => wX h0 h1 h2 h3 c1 c2 (nI N) u.1 u.2.1 u.2.2.1 oa c4 u.2.2.2) (tu := fun _ => tX c1 c2 c4) cx hr hlocks (P, st, sz, f) ⟨rfl, fun z => absurd z n10, hR⟩ hK hP hD hS d_L_begin_14
theorem cs_L_begin (l : Launch) (D : va_G) (htr : l.stackTraces = false) {h0 h1 h2 h3 oa : Nat} {c1 c2 c4 : ClassId} {N : Nat} {B : Nat → Bool} {P : Int32} {st sz : Nat → Int32} {f : Nat → Int64} (hR : Rep N B P st sz) {x : Int32} : CtW l y_L_begin c_L_begin rmW D (wX h0 h1 h2 h3 c1 c2 (nI N) P st sz oa c4 f) (tX c1 c2 c4) [.ref h0, .int x, .ref oa] (fun r (u : S4) => r = (sp_begin N B x).1 ∧ ((sp_begin N B x).1 = nI 0 → u.2.2.2 0 = ((sp_begin N B x).2.1).toInt64) ∧ Rep ((sp_begin N B x).2.2.1) ((sp_begin N B x).2.2.2) u.1 u.2.1 u.2.2.1) (fun _ => tX c1 c2 c4) (fun u : S4 => wX h0 h1 h2 h3 c1 c2 (nI ((sp_begin N B x).2.2.1)) u.1 u.2.1 u.2.2.1 oa c4 u.2.2.2) := by
  have hN : N ≤ 16384 := hR.2.1
  rcases ix_case x hN with h | ⟨a, ha, rfl⟩
  · rw [sp_begin_no hN h]; exact cq_L_begin l D htr hR hN h
  · rw [sp_begin_ok hN ha]; exact co_L_begin l D hR ha
set_option maxHeartbeats 4000000 in
set_option maxRecDepth 100000 in
theorem co_L_size (l : Launch) (D : va_G) {h0 h1 h2 h3 oa : Nat} {c1 c2 c4 : ClassId} {N : Nat} {B : Nat → Bool} {P : Int32} {st sz : Nat → Int32} {f : Nat → Int64} (hR : Rep N B P st sz) {a : Nat} (ha : a < N) : CtW l y_L_size c_L_size rmW D (wX h0 h1 h2 h3 c1 c2 (nI N) P st sz oa c4 f) (tX c1 c2 c4) [.ref h0, .int (nI a), .ref oa] (fun r (u : S4) => r = nI 0 ∧ (nI 0 = nI 0 → u.2.2.2 0 = (nI (nx B N a - pv B a)).toInt64) ∧ Rep N B u.1 u.2.1 u.2.2.1) (fun _ => tX c1 c2 c4) (fun u : S4 => wX h0 h1 h2 h3 c1 c2 (nI N) u.1 u.2.1 u.2.2.1 oa c4 u.2.2.2) := by
  refine r_metW (by decide) (Nat.le_of_ble_eq_true rfl) ?_
  intro p e s m below meth c ls A cx hr hlocks hex hK hP hD hA hZ hl
  have hx := cx.1
  have hb := cx.2.1
  have hS : va_S A s.heap s.heap [] := va_S.rf
  have hl : lv_has ls 4 [(0, .ref h0), (1, .int (nI a)), (2, .ref oa)] := hl
  refine lv_aload_n hx hb d_L_size_0 rfl (lv_at hl 2 rfl) ?_
  refine lv_iconst (v := nI 0) hx hb d_L_size_1 (by decide +kernel) ?_
  refine lv_aload_n hx hb d_L_size_2 rfl (lv_at hl 0 rfl) ?_
  refine lv_iload_n hx hb d_L_size_3 rfl (lv_at hl 1 rfl) ?_
  refine r_callPi (nA := 1) (rest := [.int (nI 0), .ref oa]) (ct_T_size l D hR ha) cx (gd_callV mc_T_size ml_L_30 ms_T_size mv_T_size mi_T) (by decide +kernel) rfl ⟨rfl, rfl⟩ ⟨Nat.le_of_ble_eq_true rfl, Nat.le_of_ble_eq_true rfl⟩ ⟨Nat.le_of_ble_eq_true rfl, Nat.le_of_ble_eq_true rfl⟩ hK hP [0, 1, 2, 3] [0, 1] rfl rfl (ci := 0) rfl rfl rfl hl.1 rfl (Nat.le_of_ble_eq_true rfl) d_L_size_4 (fun r9 h9 => ?_)
  obtain rfl := h9
  refine lv_i2l (v := (nI (nx B N a - pv B a)).toInt64) hx hb d_L_size_7 rfl ?_
  refine r_last hx hb hK hP hD hS 4 2 rfl rfl (show 0 < 1 by omega) (by omega) d_L_size_8 (fun H locs hP hD hS => ?_)
  have hP : va_P D classes (wX h0 h1 h2 h3 c1 c2 (nI N) P st sz oa c4 (vp_updL f 0 (nI (nx B N a - pv B a)).toInt64)) H := hP
  have hD : va_D A (wX h0 h1 h2 h3 c1 c2 (nI N) P st sz oa c4 (vp_updL f 0 (nI (nx B N a - pv B a)).toInt64)) := hD
  refine lv_goto (tgt := 15) hx hb d_L_size_9 (by decide) ?_
  refine lv_iconst (v := nI 0) hx hb d_L_size_15 (by decide +kernel) ?_
  refine W.widen (k := 1) (n := 6) (Nat.le_of_ble_eq_true rfl) (Nat.le_of_ble_eq_true rfl) ?_
  exact e_i (w := fun u : S4 => wX h0 h1 h2 h3 c1 c2 (nI N) u.1 u.2.1 u.2.2.1 oa c4 u.2.2.2) (tu := fun _ => tX c1 c2 c4) cx hr hlocks (P, st, sz, vp_updL f 0 (nI (nx B N a - pv B a)).toInt64) ⟨rfl, fun _ => pk_uLs (f := f) (k := 0) (x := (nI (nx B N a - pv B a)).toInt64), hR⟩ hK hP hD hS d_L_size_16
set_option maxHeartbeats 4000000 in
set_option maxRecDepth 100000 in
theorem cq_L_size (l : Launch) (D : va_G) (htr : l.stackTraces = false) {h0 h1 h2 h3 oa : Nat} {c1 c2 c4 : ClassId} {N : Nat} {B : Nat → Bool} {P : Int32} {st sz : Nat → Int32} {f : Nat → Int64} (hR : Rep N B P st sz) (hN : N ≤ 16384) {x : Int32} (h : x < 0 ∨ nI N ≤ x) : CtW l y_L_size c_L_size rmW D (wX h0 h1 h2 h3 c1 c2 (nI N) P st sz oa c4 f) (tX c1 c2 c4) [.ref h0, .int x, .ref oa] (fun r (u : S4) => r = nI 1 ∧ (nI 1 = nI 0 → u.2.2.2 0 = (nI 0).toInt64) ∧ Rep N B u.1 u.2.1 u.2.2.1) (fun _ => tX c1 c2 c4) (fun u : S4 => wX h0 h1 h2 h3 c1 c2 (nI N) u.1 u.2.1 u.2.2.1 oa c4 u.2.2.2) := by
  refine r_metW (by decide) (Nat.le_of_ble_eq_true rfl) ?_
  intro p e s m below meth c ls A cx hr hlocks hex hK hP hD hA hZ hl
  have hx := cx.1
  have hb := cx.2.1
  have hS : va_S A s.heap s.heap [] := va_S.rf
  have hl : lv_has ls 4 [(0, .ref h0), (1, .int x), (2, .ref oa)] := hl
  refine lv_aload_n hx hb d_L_size_0 rfl (lv_at hl 2 rfl) ?_
  refine lv_iconst (v := nI 0) hx hb d_L_size_1 (by decide +kernel) ?_
  refine lv_aload_n hx hb d_L_size_2 rfl (lv_at hl 0 rfl) ?_
  refine lv_iload_n hx hb d_L_size_3 rfl (lv_at hl 1 rfl) ?_
  refine tx_catch (hs := 0) (he := 9) (hp := 12) (ix := 18) (cls := nmB) cx hex (by decide) (by decide) (by decide) mk_L_18 (hZ.2.2 _ (List.mem_of_getElem? (i := 1) rfl)) (tx_runV (nA := 1) (rest := [.int (nI 0), .ref oa]) (cx_T_size l D htr hN h) cx (gd_callV mc_T_size ml_L_30 ms_T_size mv_T_size mi_T) (by decide +kernel) rfl ⟨Nat.le_of_ble_eq_true rfl, Nat.le_of_ble_eq_true rfl⟩ ⟨Nat.le_of_ble_eq_true rfl, Nat.le_of_ble_eq_true rfl⟩ (hK.sub (tys' := []) [] rfl) (hP.sub (ws' := wH h0 h1 h3 (nI N) P) [0] rfl) hZ (ci := 0) rfl rfl rfl hl.1 rfl (Nat.le_of_ble_eq_true rfl) d_L_size_4) (fun x9 H hk9 hz9 => ?_)
  have hP : va_P D classes (wX h0 h1 h2 h3 c1 c2 (nI N) P st sz oa c4 f) H := hP.kept (fun k q hq => hk9 q.1 ((hP k q hq).lt))
  have hS : va_S A s.heap H [] := ⟨hz9, fun q h1 _ => hk9 q h1, fun _ h => by cases h⟩
  refine lv_astore_n (lv' := [(3, .ref x9), (0, .ref h0), (1, .int x), (2, .ref oa)]) hx hb d_L_size_12 rfl hl (by decide) rfl (fun ls hl => ?_)
  refine lv_iconst (v := nI 1) hx hb d_L_size_13 (by decide +kernel) ?_
  exact e_i (w := fun u : S4 => wX h0 h1 h2 h3 c1 c2 (nI N) u.1 u.2.1 u.2.2.1 oa c4 u.2.2.2) (tu := fun _ => tX c1 c2 c4) cx hr hlocks (P, st, sz, f) ⟨rfl, fun z => absurd z n10, hR⟩ hK hP hD hS d_L_size_14
theorem cs_L_size (l : Launch) (D : va_G) (htr : l.stackTraces = false) {h0 h1 h2 h3 oa : Nat} {c1 c2 c4 : ClassId} {N : Nat} {B : Nat → Bool} {P : Int32} {st sz : Nat → Int32} {f : Nat → Int64} (hR : Rep N B P st sz) {x : Int32} : CtW l y_L_size c_L_size rmW D (wX h0 h1 h2 h3 c1 c2 (nI N) P st sz oa c4 f) (tX c1 c2 c4) [.ref h0, .int x, .ref oa] (fun r (u : S4) => r = (sp_size N B x).1 ∧ ((sp_size N B x).1 = nI 0 → u.2.2.2 0 = ((sp_size N B x).2.1).toInt64) ∧ Rep ((sp_size N B x).2.2.1) ((sp_size N B x).2.2.2) u.1 u.2.1 u.2.2.1) (fun _ => tX c1 c2 c4) (fun u : S4 => wX h0 h1 h2 h3 c1 c2 (nI ((sp_size N B x).2.2.1)) u.1 u.2.1 u.2.2.1 oa c4 u.2.2.2) := by
  have hN : N ≤ 16384 := hR.2.1
  rcases ix_case x hN with h | ⟨a, ha, rfl⟩
  · rw [sp_size_no hN h]; exact cq_L_size l D htr hR hN h
  · rw [sp_size_ok hN ha]; exact co_L_size l D hR ha
set_option maxHeartbeats 4000000 in
set_option maxRecDepth 100000 in
theorem co_L_start (l : Launch) (D : va_G) {h0 h1 h2 h3 oa : Nat} {c1 c2 c4 : ClassId} {N : Nat} {B : Nat → Bool} {P : Int32} {st sz : Nat → Int32} {f : Nat → Int64} (hR : Rep N B P st sz) {a : Nat} (ha : a < (N + 31) / 32) : CtW l y_L_start c_L_start rmW D (wX h0 h1 h2 h3 c1 c2 (nI N) P st sz oa c4 f) (tX c1 c2 c4) [.ref h0, .int (nI a), .ref oa] (fun r (u : S4) => r = nI 0 ∧ (nI 0 = nI 0 → u.2.2.2 0 = (nI (pv B (32 * a))).toInt64) ∧ Rep N B u.1 u.2.1 u.2.2.1) (fun _ => tX c1 c2 c4) (fun u : S4 => wX h0 h1 h2 h3 c1 c2 (nI N) u.1 u.2.1 u.2.2.1 oa c4 u.2.2.2) := by
  refine r_metW (by decide) (Nat.le_of_ble_eq_true rfl) ?_
  intro p e s m below meth c ls A cx hr hlocks hex hK hP hD hA hZ hl
  have hx := cx.1
  have hb := cx.2.1
  have hS : va_S A s.heap s.heap [] := va_S.rf
  have hl : lv_has ls 4 [(0, .ref h0), (1, .int (nI a)), (2, .ref oa)] := hl
  refine lv_aload_n hx hb d_L_start_0 rfl (lv_at hl 2 rfl) ?_
  refine lv_iconst (v := nI 0) hx hb d_L_start_1 (by decide +kernel) ?_
  refine lv_aload_n hx hb d_L_start_2 rfl (lv_at hl 0 rfl) ?_
  refine lv_iload_n hx hb d_L_start_3 rfl (lv_at hl 1 rfl) ?_
  refine r_callPi (nA := 1) (rest := [.int (nI 0), .ref oa]) (ct_T_start l D hR ha) cx (gd_callV mc_T_start ml_L_33 ms_T_start mv_T_start mi_T) (by decide +kernel) rfl ⟨rfl, rfl⟩ ⟨Nat.le_of_ble_eq_true rfl, Nat.le_of_ble_eq_true rfl⟩ ⟨Nat.le_of_ble_eq_true rfl, Nat.le_of_ble_eq_true rfl⟩ hK hP [0, 1, 2, 3] [0, 1] rfl rfl (ci := 0) rfl rfl rfl hl.1 rfl (Nat.le_of_ble_eq_true rfl) d_L_start_4 (fun r9 h9 => ?_)
  obtain rfl := h9
  refine lv_i2l (v := (nI (pv B (32 * a))).toInt64) hx hb d_L_start_7 rfl ?_
  refine r_last hx hb hK hP hD hS 4 2 rfl rfl (show 0 < 1 by omega) (by omega) d_L_start_8 (fun H locs hP hD hS => ?_)
  have hP : va_P D classes (wX h0 h1 h2 h3 c1 c2 (nI N) P st sz oa c4 (vp_updL f 0 (nI (pv B (32 * a))).toInt64)) H := hP
  have hD : va_D A (wX h0 h1 h2 h3 c1 c2 (nI N) P st sz oa c4 (vp_updL f 0 (nI (pv B (32 * a))).toInt64)) := hD
  refine lv_goto (tgt := 15) hx hb d_L_start_9 (by decide) ?_
  refine lv_iconst (v := nI 0) hx hb d_L_start_15 (by decide +kernel) ?_
  refine W.widen (k := 1) (n := 6) (Nat.le_of_ble_eq_true rfl) (Nat.le_of_ble_eq_true rfl) ?_
  exact e_i (w := fun u : S4 => wX h0 h1 h2 h3 c1 c2 (nI N) u.1 u.2.1 u.2.2.1 oa c4 u.2.2.2) (tu := fun _ => tX c1 c2 c4) cx hr hlocks (P, st, sz, vp_updL f 0 (nI (pv B (32 * a))).toInt64) ⟨rfl, fun _ => pk_uLs (f := f) (k := 0) (x := (nI (pv B (32 * a))).toInt64), hR⟩ hK hP hD hS d_L_start_16
set_option maxHeartbeats 4000000 in
set_option maxRecDepth 100000 in
theorem cq_L_start (l : Launch) (D : va_G) (htr : l.stackTraces = false) {h0 h1 h2 h3 oa : Nat} {c1 c2 c4 : ClassId} {N : Nat} {B : Nat → Bool} {P : Int32} {st sz : Nat → Int32} {f : Nat → Int64} (hR : Rep N B P st sz) (hN : N ≤ 16384) {x : Int32} (h : x < 0 ∨ nI ((N + 31) / 32) ≤ x) : CtW l y_L_start c_L_start rmW D (wX h0 h1 h2 h3 c1 c2 (nI N) P st sz oa c4 f) (tX c1 c2 c4) [.ref h0, .int x, .ref oa] (fun r (u : S4) => r = nI 1 ∧ (nI 1 = nI 0 → u.2.2.2 0 = (nI 0).toInt64) ∧ Rep N B u.1 u.2.1 u.2.2.1) (fun _ => tX c1 c2 c4) (fun u : S4 => wX h0 h1 h2 h3 c1 c2 (nI N) u.1 u.2.1 u.2.2.1 oa c4 u.2.2.2) := by
  refine r_metW (by decide) (Nat.le_of_ble_eq_true rfl) ?_
  intro p e s m below meth c ls A cx hr hlocks hex hK hP hD hA hZ hl
  have hx := cx.1
  have hb := cx.2.1
  have hS : va_S A s.heap s.heap [] := va_S.rf
  have hl : lv_has ls 4 [(0, .ref h0), (1, .int x), (2, .ref oa)] := hl
  refine lv_aload_n hx hb d_L_start_0 rfl (lv_at hl 2 rfl) ?_
  refine lv_iconst (v := nI 0) hx hb d_L_start_1 (by decide +kernel) ?_
  refine lv_aload_n hx hb d_L_start_2 rfl (lv_at hl 0 rfl) ?_
  refine lv_iload_n hx hb d_L_start_3 rfl (lv_at hl 1 rfl) ?_
  refine tx_catch (hs := 0) (he := 9) (hp := 12) (ix := 18) (cls := nmB) cx hex (by decide) (by decide) (by decide) mk_L_18 (hZ.2.2 _ (List.mem_of_getElem? (i := 1) rfl)) (tx_runV (nA := 1) (rest := [.int (nI 0), .ref oa]) (cx_T_start l D htr hN h) cx (gd_callV mc_T_start ml_L_33 ms_T_start mv_T_start mi_T) (by decide +kernel) rfl ⟨Nat.le_of_ble_eq_true rfl, Nat.le_of_ble_eq_true rfl⟩ ⟨Nat.le_of_ble_eq_true rfl, Nat.le_of_ble_eq_true rfl⟩ (hK.sub (tys' := []) [] rfl) (hP.sub (ws' := wH h0 h1 h3 (nI N) P) [0] rfl) hZ (ci := 0) rfl rfl rfl hl.1 rfl (Nat.le_of_ble_eq_true rfl) d_L_start_4) (fun x9 H hk9 hz9 => ?_)
  have hP : va_P D classes (wX h0 h1 h2 h3 c1 c2 (nI N) P st sz oa c4 f) H := hP.kept (fun k q hq => hk9 q.1 ((hP k q hq).lt))
  have hS : va_S A s.heap H [] := ⟨hz9, fun q h1 _ => hk9 q h1, fun _ h => by cases h⟩
  refine lv_astore_n (lv' := [(3, .ref x9), (0, .ref h0), (1, .int x), (2, .ref oa)]) hx hb d_L_start_12 rfl hl (by decide) rfl (fun ls hl => ?_)
  refine lv_iconst (v := nI 1) hx hb d_L_start_13 (by decide +kernel) ?_
  exact e_i (w := fun u : S4 => wX h0 h1 h2 h3 c1 c2 (nI N) u.1 u.2.1 u.2.2.1 oa c4 u.2.2.2) (tu := fun _ => tX c1 c2 c4) cx hr hlocks (P, st, sz, f) ⟨rfl, fun z => absurd z n10, hR⟩ hK hP hD hS d_L_start_14
theorem cs_L_start (l : Launch) (D : va_G) (htr : l.stackTraces = false) {h0 h1 h2 h3 oa : Nat} {c1 c2 c4 : ClassId} {N : Nat} {B : Nat → Bool} {P : Int32} {st sz : Nat → Int32} {f : Nat → Int64} (hR : Rep N B P st sz) {x : Int32} : CtW l y_L_start c_L_start rmW D (wX h0 h1 h2 h3 c1 c2 (nI N) P st sz oa c4 f) (tX c1 c2 c4) [.ref h0, .int x, .ref oa] (fun r (u : S4) => r = (sp_start N B x).1 ∧ ((sp_start N B x).1 = nI 0 → u.2.2.2 0 = ((sp_start N B x).2.1).toInt64) ∧ Rep ((sp_start N B x).2.2.1) ((sp_start N B x).2.2.2) u.1 u.2.1 u.2.2.1) (fun _ => tX c1 c2 c4) (fun u : S4 => wX h0 h1 h2 h3 c1 c2 (nI ((sp_start N B x).2.2.1)) u.1 u.2.1 u.2.2.1 oa c4 u.2.2.2) := by
  have hN : N ≤ 16384 := hR.2.1
  rcases ix_case x (show (N + 31) / 32 ≤ 16384 by omega) with h | ⟨a, ha, rfl⟩
  · rw [sp_start_no hN h]; exact cq_L_start l D htr hR hN h
  · rw [sp_start_ok hN ha]; exact co_L_start l D hR ha
set_option maxHeartbeats 4000000 in
set_option maxRecDepth 100000 in
theorem co_L_begins (l : Launch) (D : va_G) {h0 h1 h2 h3 oa : Nat} {c1 c2 c4 : ClassId} {N : Nat} {B : Nat → Bool} {P : Int32} {st sz : Nat → Int32} {f : Nat → Int64} (hR : Rep N B P st sz) {a : Nat} (ha : a < (N + 31) / 32) : CtW l y_L_begins c_L_begins rmW D (wX h0 h1 h2 h3 c1 c2 (nI N) P st sz oa c4 f) (tX c1 c2 c4) [.ref h0, .int (nI a), .ref oa] (fun r (u : S4) => r = nI 0 ∧ (nI 0 = nI 0 → u.2.2.2 0 = (nI (cnt B (bg_e N a) - cnt B (32 * a))).toInt64) ∧ Rep N B u.1 u.2.1 u.2.2.1) (fun _ => tX c1 c2 c4) (fun u : S4 => wX h0 h1 h2 h3 c1 c2 (nI N) u.1 u.2.1 u.2.2.1 oa c4 u.2.2.2) := by
  refine r_metW (by decide) (Nat.le_of_ble_eq_true rfl) ?_
  intro p e s m below meth c ls A cx hr hlocks hex hK hP hD hA hZ hl
  have hx := cx.1
  have hb := cx.2.1
  have hS : va_S A s.heap s.heap [] := va_S.rf
  have hl : lv_has ls 4 [(0, .ref h0), (1, .int (nI a)), (2, .ref oa)] := hl
  refine lv_aload_n hx hb d_L_begins_0 rfl (lv_at hl 2 rfl) ?_
  refine lv_iconst (v := nI 0) hx hb d_L_begins_1 (by decide +kernel) ?_
  refine lv_aload_n hx hb d_L_begins_2 rfl (lv_at hl 0 rfl) ?_
  refine lv_iload_n hx hb d_L_begins_3 rfl (lv_at hl 1 rfl) ?_
  refine r_callPi (nA := 1) (rest := [.int (nI 0), .ref oa]) (ct_T_begins l D hR ha) cx (gd_callV mc_T_begins ml_L_36 ms_T_begins mv_T_begins mi_T) (by decide +kernel) rfl ⟨rfl, rfl⟩ ⟨Nat.le_of_ble_eq_true rfl, Nat.le_of_ble_eq_true rfl⟩ ⟨Nat.le_of_ble_eq_true rfl, Nat.le_of_ble_eq_true rfl⟩ hK hP [0, 1, 2, 3] [0, 1] rfl rfl (ci := 0) rfl rfl rfl hl.1 rfl (Nat.le_of_ble_eq_true rfl) d_L_begins_4 (fun r9 h9 => ?_)
  obtain rfl := h9
  refine lv_i2l (v := (nI (cnt B (bg_e N a) - cnt B (32 * a))).toInt64) hx hb d_L_begins_7 rfl ?_
  refine r_last hx hb hK hP hD hS 4 2 rfl rfl (show 0 < 1 by omega) (by omega) d_L_begins_8 (fun H locs hP hD hS => ?_)
  have hP : va_P D classes (wX h0 h1 h2 h3 c1 c2 (nI N) P st sz oa c4 (vp_updL f 0 (nI (cnt B (bg_e N a) - cnt B (32 * a))).toInt64)) H := hP
  have hD : va_D A (wX h0 h1 h2 h3 c1 c2 (nI N) P st sz oa c4 (vp_updL f 0 (nI (cnt B (bg_e N a) - cnt B (32 * a))).toInt64)) := hD
  refine lv_goto (tgt := 15) hx hb d_L_begins_9 (by decide) ?_
  refine lv_iconst (v := nI 0) hx hb d_L_begins_15 (by decide +kernel) ?_
  refine W.widen (k := 1) (n := 6) (Nat.le_of_ble_eq_true rfl) (Nat.le_of_ble_eq_true rfl) ?_
  exact e_i (w := fun u : S4 => wX h0 h1 h2 h3 c1 c2 (nI N) u.1 u.2.1 u.2.2.1 oa c4 u.2.2.2) (tu := fun _ => tX c1 c2 c4) cx hr hlocks (P, st, sz, vp_updL f 0 (nI (cnt B (bg_e N a) - cnt B (32 * a))).toInt64) ⟨rfl, fun _ => pk_uLs (f := f) (k := 0) (x := (nI (cnt B (bg_e N a) - cnt B (32 * a))).toInt64), hR⟩ hK hP hD hS d_L_begins_16
set_option maxHeartbeats 4000000 in
set_option maxRecDepth 100000 in
theorem cq_L_begins (l : Launch) (D : va_G) (htr : l.stackTraces = false) {h0 h1 h2 h3 oa : Nat} {c1 c2 c4 : ClassId} {N : Nat} {B : Nat → Bool} {P : Int32} {st sz : Nat → Int32} {f : Nat → Int64} (hR : Rep N B P st sz) (hN : N ≤ 16384) {x : Int32} (h : x < 0 ∨ nI ((N + 31) / 32) ≤ x) : CtW l y_L_begins c_L_begins rmW D (wX h0 h1 h2 h3 c1 c2 (nI N) P st sz oa c4 f) (tX c1 c2 c4) [.ref h0, .int x, .ref oa] (fun r (u : S4) => r = nI 1 ∧ (nI 1 = nI 0 → u.2.2.2 0 = (nI 0).toInt64) ∧ Rep N B u.1 u.2.1 u.2.2.1) (fun _ => tX c1 c2 c4) (fun u : S4 => wX h0 h1 h2 h3 c1 c2 (nI N) u.1 u.2.1 u.2.2.1 oa c4 u.2.2.2) := by
  refine r_metW (by decide) (Nat.le_of_ble_eq_true rfl) ?_
  intro p e s m below meth c ls A cx hr hlocks hex hK hP hD hA hZ hl
  have hx := cx.1
  have hb := cx.2.1
  have hS : va_S A s.heap s.heap [] := va_S.rf
  have hl : lv_has ls 4 [(0, .ref h0), (1, .int x), (2, .ref oa)] := hl
  refine lv_aload_n hx hb d_L_begins_0 rfl (lv_at hl 2 rfl) ?_
  refine lv_iconst (v := nI 0) hx hb d_L_begins_1 (by decide +kernel) ?_
  refine lv_aload_n hx hb d_L_begins_2 rfl (lv_at hl 0 rfl) ?_
  refine lv_iload_n hx hb d_L_begins_3 rfl (lv_at hl 1 rfl) ?_
  refine tx_catch (hs := 0) (he := 9) (hp := 12) (ix := 18) (cls := nmB) cx hex (by decide) (by decide) (by decide) mk_L_18 (hZ.2.2 _ (List.mem_of_getElem? (i := 1) rfl)) (tx_runV (nA := 1) (rest := [.int (nI 0), .ref oa]) (cx_T_begins l D htr hN h) cx (gd_callV mc_T_begins ml_L_36 ms_T_begins mv_T_begins mi_T) (by decide +kernel) rfl ⟨Nat.le_of_ble_eq_true rfl, Nat.le_of_ble_eq_true rfl⟩ ⟨Nat.le_of_ble_eq_true rfl, Nat.le_of_ble_eq_true rfl⟩ (hK.sub (tys' := []) [] rfl) (hP.sub (ws' := wH h0 h1 h3 (nI N) P) [0] rfl) hZ (ci := 0) rfl rfl rfl hl.1 rfl (Nat.le_of_ble_eq_true rfl) d_L_begins_4) (fun x9 H hk9 hz9 => ?_)
  have hP : va_P D classes (wX h0 h1 h2 h3 c1 c2 (nI N) P st sz oa c4 f) H := hP.kept (fun k q hq => hk9 q.1 ((hP k q hq).lt))
  have hS : va_S A s.heap H [] := ⟨hz9, fun q h1 _ => hk9 q h1, fun _ h => by cases h⟩
  refine lv_astore_n (lv' := [(3, .ref x9), (0, .ref h0), (1, .int x), (2, .ref oa)]) hx hb d_L_begins_12 rfl hl (by decide) rfl (fun ls hl => ?_)
  refine lv_iconst (v := nI 1) hx hb d_L_begins_13 (by decide +kernel) ?_
  exact e_i (w := fun u : S4 => wX h0 h1 h2 h3 c1 c2 (nI N) u.1 u.2.1 u.2.2.1 oa c4 u.2.2.2) (tu := fun _ => tX c1 c2 c4) cx hr hlocks (P, st, sz, f) ⟨rfl, fun z => absurd z n10, hR⟩ hK hP hD hS d_L_begins_14
theorem cs_L_begins (l : Launch) (D : va_G) (htr : l.stackTraces = false) {h0 h1 h2 h3 oa : Nat} {c1 c2 c4 : ClassId} {N : Nat} {B : Nat → Bool} {P : Int32} {st sz : Nat → Int32} {f : Nat → Int64} (hR : Rep N B P st sz) {x : Int32} : CtW l y_L_begins c_L_begins rmW D (wX h0 h1 h2 h3 c1 c2 (nI N) P st sz oa c4 f) (tX c1 c2 c4) [.ref h0, .int x, .ref oa] (fun r (u : S4) => r = (sp_begins N B x).1 ∧ ((sp_begins N B x).1 = nI 0 → u.2.2.2 0 = ((sp_begins N B x).2.1).toInt64) ∧ Rep ((sp_begins N B x).2.2.1) ((sp_begins N B x).2.2.2) u.1 u.2.1 u.2.2.1) (fun _ => tX c1 c2 c4) (fun u : S4 => wX h0 h1 h2 h3 c1 c2 (nI ((sp_begins N B x).2.2.1)) u.1 u.2.1 u.2.2.1 oa c4 u.2.2.2) := by
  have hN : N ≤ 16384 := hR.2.1
  rcases ix_case x (show (N + 31) / 32 ≤ 16384 by omega) with h | ⟨a, ha, rfl⟩
  · rw [sp_begins_no hN h]; exact cq_L_begins l D htr hR hN h
  · rw [sp_begins_ok hN ha]; exact co_L_begins l D hR ha
set_option maxHeartbeats 4000000 in
set_option maxRecDepth 100000 in
theorem co_L_space (l : Launch) (D : va_G) {h0 h1 h2 h3 oa : Nat} {c1 c2 c4 : ClassId} {N : Nat} {B : Nat → Bool} {P : Int32} {st sz : Nat → Int32} {f : Nat → Int64} (hR : Rep N B P st sz) {a : Nat} (ha1 : 1 ≤ a) (ha2 : a ≤ 16384) : CtW l y_L_space c_L_space rmW D (wX h0 h1 h2 h3 c1 c2 (nI N) P st sz oa c4 f) (tX c1 c2 c4) [.ref h0, .int (nI a), .ref oa] (fun r (u : S4) => r = nI 0 ∧ (nI 0 = nI 0 → u.2.2.2 0 = (nI N).toInt64) ∧ Rep a (spB a B) u.1 u.2.1 u.2.2.1) (fun _ => tX c1 c2 c4) (fun u : S4 => wX h0 h1 h2 h3 c1 c2 (nI a) u.1 u.2.1 u.2.2.1 oa c4 u.2.2.2) := by
  refine r_metW (by decide) (Nat.le_of_ble_eq_true rfl) ?_
  intro p e s m below meth c ls A cx hr hlocks hex hK hP hD hA hZ hl
  have hx := cx.1
  have hb := cx.2.1
  have hS : va_S A s.heap s.heap [] := va_S.rf
  have hl : lv_has ls 4 [(0, .ref h0), (1, .int (nI a)), (2, .ref oa)] := hl
  refine lv_aload_n hx hb d_L_space_0 rfl (lv_at hl 2 rfl) ?_
  refine lv_iconst (v := nI 0) hx hb d_L_space_1 (by decide +kernel) ?_
  refine lv_aload_n hx hb d_L_space_2 rfl (lv_at hl 0 rfl) ?_
  refine lv_iload_n hx hb d_L_space_3 rfl (lv_at hl 1 rfl) ?_
  refine r_callVi (wr := List.filterMap (fun i : Nat => (wX h0 h1 h2 h3 c1 c2 (nI N) P st sz oa c4 f : va_W)[i]?) [4]) (nA := 1) (rest := [.int (nI 0), .ref oa]) (ct_T_space l D (B := B) ha1 ha2) cx (gd_callV mc_T_space ml_L_7 ms_T_space mv_T_space mi_T) (by decide +kernel) rfl ⟨Nat.le_of_ble_eq_true rfl, Nat.le_of_ble_eq_true rfl⟩ ⟨Nat.le_of_ble_eq_true rfl, Nat.le_of_ble_eq_true rfl⟩ hK hP hD hS hA [0, 1, 2, 3] [4] [0, 1] rfl rfl rfl (by decide) (by decide) (by decide) (ci := 0) rfl rfl rfl hl.1 rfl (Nat.le_of_ble_eq_true rfl) d_L_space_4 (fun r9 u9 H locs hw9 hK9 hP hD hS => ?_)
  obtain ⟨P1, st1, sz1⟩ := u9
  obtain ⟨rfl, hR1⟩ := hw9
  dsimp only at hR1 hP hD
  have hP : va_P D classes (wX h0 h1 h2 h3 c1 c2 (nI a) P1 st1 sz1 oa c4 f) H := hP.sub [1, 2, 3, 4, 0] rfl
  have hD : va_D A (wX h0 h1 h2 h3 c1 c2 (nI a) P1 st1 sz1 oa c4 f) := hD.sub [1, 2, 3, 4, 0] (by decide) rfl
  refine lv_i2l (v := (nI N).toInt64) hx hb d_L_space_7 rfl ?_
  refine r_last hx hb hK hP hD hS 4 2 rfl rfl (show 0 < 1 by omega) (by omega) d_L_space_8 (fun H locs hP hD hS => ?_)
  have hP : va_P D classes (wX h0 h1 h2 h3 c1 c2 (nI a) P1 st1 sz1 oa c4 (vp_updL f 0 (nI N).toInt64)) H := hP
  have hD : va_D A (wX h0 h1 h2 h3 c1 c2 (nI a) P1 st1 sz1 oa c4 (vp_updL f 0 (nI N).toInt64)) := hD
  refine lv_goto (tgt := 15) hx hb d_L_space_9 (by decide) ?_
  refine lv_iconst (v := nI 0) hx hb d_L_space_15 (by decide +kernel) ?_
  refine W.widen (k := 1) (n := 6) (Nat.le_of_ble_eq_true rfl) (Nat.le_of_ble_eq_true rfl) ?_
  exact e_i (w := fun u : S4 => wX h0 h1 h2 h3 c1 c2 (nI a) u.1 u.2.1 u.2.2.1 oa c4 u.2.2.2) (tu := fun _ => tX c1 c2 c4) cx hr hlocks (P1, st1, sz1, vp_updL f 0 (nI N).toInt64) ⟨rfl, fun _ => pk_uLs (f := f) (k := 0) (x := (nI N).toInt64), hR1⟩ hK hP hD hS d_L_space_16
set_option maxHeartbeats 4000000 in
set_option maxRecDepth 100000 in
theorem cq_L_space (l : Launch) (D : va_G) (htr : l.stackTraces = false) {h0 h1 h2 h3 oa : Nat} {c1 c2 c4 : ClassId} {N : Nat} {B : Nat → Bool} {P : Int32} {st sz : Nat → Int32} {f : Nat → Int64} (hR : Rep N B P st sz) (hN : N ≤ 16384) {x : Int32} (h : x < nI 1 ∨ nI 16384 < x) : CtW l y_L_space c_L_space rmW D (wX h0 h1 h2 h3 c1 c2 (nI N) P st sz oa c4 f) (tX c1 c2 c4) [.ref h0, .int x, .ref oa] (fun r (u : S4) => r = nI 1 ∧ (nI 1 = nI 0 → u.2.2.2 0 = (nI 0).toInt64) ∧ Rep N B u.1 u.2.1 u.2.2.1) (fun _ => tX c1 c2 c4) (fun u : S4 => wX h0 h1 h2 h3 c1 c2 (nI N) u.1 u.2.1 u.2.2.1 oa c4 u.2.2.2) := by
  refine r_metW (by decide) (Nat.le_of_ble_eq_true rfl) ?_
  intro p e s m below meth c ls A cx hr hlocks hex hK hP hD hA hZ hl
  have hx := cx.1
  have hb := cx.2.1
  have hS : va_S A s.heap s.heap [] := va_S.rf
  have hl : lv_has ls 4 [(0, .ref h0), (1, .int x), (2, .ref oa)] := hl
  refine lv_aload_n hx hb d_L_space_0 rfl (lv_at hl 2 rfl) ?_
  refine lv_iconst (v := nI 0) hx hb d_L_space_1 (by decide +kernel) ?_
  refine lv_aload_n hx hb d_L_space_2 rfl (lv_at hl 0 rfl) ?_
  refine lv_iload_n hx hb d_L_space_3 rfl (lv_at hl 1 rfl) ?_
  refine tx_catch (hs := 0) (he := 9) (hp := 12) (ix := 13) (cls := nmA) cx hex (by decide) (by decide) (by decide) mk_L_13 (hZ.2.2 _ (List.mem_of_getElem? (i := 0) rfl)) (tx_runV (nA := 1) (rest := [.int (nI 0), .ref oa]) (cx_T_space l D htr h) cx (gd_callV mc_T_space ml_L_7 ms_T_space mv_T_space mi_T) (by decide +kernel) rfl ⟨Nat.le_of_ble_eq_true rfl, Nat.le_of_ble_eq_true rfl⟩ ⟨Nat.le_of_ble_eq_true rfl, Nat.le_of_ble_eq_true rfl⟩ (hK.sub (tys' := []) [] rfl) (hP.sub (ws' := wH h0 h1 h3 (nI N) P) [0] rfl) hZ (ci := 0) rfl rfl rfl hl.1 rfl (Nat.le_of_ble_eq_true rfl) d_L_space_4) (fun x9 H hk9 hz9 => ?_)
  have hP : va_P D classes (wX h0 h1 h2 h3 c1 c2 (nI N) P st sz oa c4 f) H := hP.kept (fun k q hq => hk9 q.1 ((hP k q hq).lt))
  have hS : va_S A s.heap H [] := ⟨hz9, fun q h1 _ => hk9 q h1, fun _ h => by cases h⟩
  refine lv_astore_n (lv' := [(3, .ref x9), (0, .ref h0), (1, .int x), (2, .ref oa)]) hx hb d_L_space_12 rfl hl (by decide) rfl (fun ls hl => ?_)
  refine lv_iconst (v := nI 1) hx hb d_L_space_13 (by decide +kernel) ?_
  exact e_i (w := fun u : S4 => wX h0 h1 h2 h3 c1 c2 (nI N) u.1 u.2.1 u.2.2.1 oa c4 u.2.2.2) (tu := fun _ => tX c1 c2 c4) cx hr hlocks (P, st, sz, f) ⟨rfl, fun z => absurd z n10, hR⟩ hK hP hD hS d_L_space_14
theorem cs_L_space (l : Launch) (D : va_G) (htr : l.stackTraces = false) {h0 h1 h2 h3 oa : Nat} {c1 c2 c4 : ClassId} {N : Nat} {B : Nat → Bool} {P : Int32} {st sz : Nat → Int32} {f : Nat → Int64} (hR : Rep N B P st sz) {x : Int32} : CtW l y_L_space c_L_space rmW D (wX h0 h1 h2 h3 c1 c2 (nI N) P st sz oa c4 f) (tX c1 c2 c4) [.ref h0, .int x, .ref oa] (fun r (u : S4) => r = (sp_space N B x).1 ∧ ((sp_space N B x).1 = nI 0 → u.2.2.2 0 = ((sp_space N B x).2.1).toInt64) ∧ Rep ((sp_space N B x).2.2.1) ((sp_space N B x).2.2.2) u.1 u.2.1 u.2.2.1) (fun _ => tX c1 c2 c4) (fun u : S4 => wX h0 h1 h2 h3 c1 c2 (nI ((sp_space N B x).2.2.1)) u.1 u.2.1 u.2.2.1 oa c4 u.2.2.2) := by
  have hN : N ≤ 16384 := hR.2.1
  rcases ix_case1 x (Nat.le_refl 16384) with h | ⟨n, hn1, hn2, rfl⟩
  · rw [sp_space_no h]; exact cq_L_space l D htr hR hN h
  · rw [sp_space_ok hn1 hn2]; exact co_L_space l D hR hn1 hn2
set_option maxHeartbeats 4000000 in
set_option maxRecDepth 100000 in
theorem co_L_count (l : Launch) (D : va_G) {h0 h1 h2 h3 oa : Nat} {c1 c2 c4 : ClassId} {N : Nat} {B : Nat → Bool} {P : Int32} {st sz : Nat → Int32} {f : Nat → Int64} (hR : Rep N B P st sz) {a : Nat} (ha : a ≤ 4) : CtW l y_L_count c_L_count rmW D (wX h0 h1 h2 h3 c1 c2 (nI N) P st sz oa c4 f) (tX c1 c2 c4) [.ref h0, .int (nI a), .ref oa] (fun r (u : S4) => r = nI 0 ∧ (nI 0 = nI 0 → u.2.2.2 0 = (co_ans N B a).toInt64) ∧ Rep N B u.1 u.2.1 u.2.2.1) (fun _ => tX c1 c2 c4) (fun u : S4 => wX h0 h1 h2 h3 c1 c2 (nI N) u.1 u.2.1 u.2.2.1 oa c4 u.2.2.2) := by
  refine r_metW (by decide) (Nat.le_of_ble_eq_true rfl) ?_
  intro p e s m below meth c ls A cx hr hlocks hex hK hP hD hA hZ hl
  have hx := cx.1
  have hb := cx.2.1
  have hS : va_S A s.heap s.heap [] := va_S.rf
  have hl : lv_has ls 4 [(0, .ref h0), (1, .int (nI a)), (2, .ref oa)] := hl
  refine lv_aload_n hx hb d_L_count_0 rfl (lv_at hl 2 rfl) ?_
  refine lv_iconst (v := nI 0) hx hb d_L_count_1 (by decide +kernel) ?_
  refine lv_aload_n hx hb d_L_count_2 rfl (lv_at hl 0 rfl) ?_
  refine lv_iload_n hx hb d_L_count_3 rfl (lv_at hl 1 rfl) ?_
  refine r_callPi (nA := 1) (rest := [.int (nI 0), .ref oa]) (ct_T_count l D hR ha) cx (gd_callV mc_T_count ml_L_39 ms_T_count mv_T_count mi_T) (by decide +kernel) rfl ⟨rfl, rfl⟩ ⟨Nat.le_of_ble_eq_true rfl, Nat.le_of_ble_eq_true rfl⟩ ⟨Nat.le_of_ble_eq_true rfl, Nat.le_of_ble_eq_true rfl⟩ hK hP [0, 1, 2, 3] [0, 1] rfl rfl (ci := 0) rfl rfl rfl hl.1 rfl (Nat.le_of_ble_eq_true rfl) d_L_count_4 (fun r9 h9 => ?_)
  obtain rfl := h9
  refine lv_i2l (v := (co_ans N B a).toInt64) hx hb d_L_count_7 rfl ?_
  refine r_last hx hb hK hP hD hS 4 2 rfl rfl (show 0 < 1 by omega) (by omega) d_L_count_8 (fun H locs hP hD hS => ?_)
  have hP : va_P D classes (wX h0 h1 h2 h3 c1 c2 (nI N) P st sz oa c4 (vp_updL f 0 (co_ans N B a).toInt64)) H := hP
  have hD : va_D A (wX h0 h1 h2 h3 c1 c2 (nI N) P st sz oa c4 (vp_updL f 0 (co_ans N B a).toInt64)) := hD
  refine lv_goto (tgt := 15) hx hb d_L_count_9 (by decide) ?_
  refine lv_iconst (v := nI 0) hx hb d_L_count_15 (by decide +kernel) ?_
  refine W.widen (k := 1) (n := 6) (Nat.le_of_ble_eq_true rfl) (Nat.le_of_ble_eq_true rfl) ?_
  exact e_i (w := fun u : S4 => wX h0 h1 h2 h3 c1 c2 (nI N) u.1 u.2.1 u.2.2.1 oa c4 u.2.2.2) (tu := fun _ => tX c1 c2 c4) cx hr hlocks (P, st, sz, vp_updL f 0 (co_ans N B a).toInt64) ⟨rfl, fun _ => pk_uLs (f := f) (k := 0) (x := (co_ans N B a).toInt64), hR⟩ hK hP hD hS d_L_count_16
set_option maxHeartbeats 4000000 in
set_option maxRecDepth 100000 in
theorem cq_L_count (l : Launch) (D : va_G) (htr : l.stackTraces = false) {h0 h1 h2 h3 oa : Nat} {c1 c2 c4 : ClassId} {N : Nat} {B : Nat → Bool} {P : Int32} {st sz : Nat → Int32} {f : Nat → Int64} (hR : Rep N B P st sz) (hN : N ≤ 16384) {x : Int32} (h : x < 0 ∨ nI 4 < x) : CtW l y_L_count c_L_count rmW D (wX h0 h1 h2 h3 c1 c2 (nI N) P st sz oa c4 f) (tX c1 c2 c4) [.ref h0, .int x, .ref oa] (fun r (u : S4) => r = nI 1 ∧ (nI 1 = nI 0 → u.2.2.2 0 = (nI 0).toInt64) ∧ Rep N B u.1 u.2.1 u.2.2.1) (fun _ => tX c1 c2 c4) (fun u : S4 => wX h0 h1 h2 h3 c1 c2 (nI N) u.1 u.2.1 u.2.2.1 oa c4 u.2.2.2) := by
  refine r_metW (by decide) (Nat.le_of_ble_eq_true rfl) ?_
  intro p e s m below meth c ls A cx hr hlocks hex hK hP hD hA hZ hl
  have hx := cx.1
  have hb := cx.2.1
  have hS : va_S A s.heap s.heap [] := va_S.rf
  have hl : lv_has ls 4 [(0, .ref h0), (1, .int x), (2, .ref oa)] := hl
  refine lv_aload_n hx hb d_L_count_0 rfl (lv_at hl 2 rfl) ?_
  refine lv_iconst (v := nI 0) hx hb d_L_count_1 (by decide +kernel) ?_
  refine lv_aload_n hx hb d_L_count_2 rfl (lv_at hl 0 rfl) ?_
  refine lv_iload_n hx hb d_L_count_3 rfl (lv_at hl 1 rfl) ?_
  refine tx_catch (hs := 0) (he := 9) (hp := 12) (ix := 13) (cls := nmA) cx hex (by decide) (by decide) (by decide) mk_L_13 (hZ.2.2 _ (List.mem_of_getElem? (i := 0) rfl)) (tx_runV (nA := 1) (rest := [.int (nI 0), .ref oa]) (cx_T_count l D htr h) cx (gd_callV mc_T_count ml_L_39 ms_T_count mv_T_count mi_T) (by decide +kernel) rfl ⟨Nat.le_of_ble_eq_true rfl, Nat.le_of_ble_eq_true rfl⟩ ⟨Nat.le_of_ble_eq_true rfl, Nat.le_of_ble_eq_true rfl⟩ (hK.sub (tys' := []) [] rfl) (hP.sub (ws' := wH h0 h1 h3 (nI N) P) [0] rfl) hZ (ci := 0) rfl rfl rfl hl.1 rfl (Nat.le_of_ble_eq_true rfl) d_L_count_4) (fun x9 H hk9 hz9 => ?_)
  have hP : va_P D classes (wX h0 h1 h2 h3 c1 c2 (nI N) P st sz oa c4 f) H := hP.kept (fun k q hq => hk9 q.1 ((hP k q hq).lt))
  have hS : va_S A s.heap H [] := ⟨hz9, fun q h1 _ => hk9 q h1, fun _ h => by cases h⟩
  refine lv_astore_n (lv' := [(3, .ref x9), (0, .ref h0), (1, .int x), (2, .ref oa)]) hx hb d_L_count_12 rfl hl (by decide) rfl (fun ls hl => ?_)
  refine lv_iconst (v := nI 1) hx hb d_L_count_13 (by decide +kernel) ?_
  exact e_i (w := fun u : S4 => wX h0 h1 h2 h3 c1 c2 (nI N) u.1 u.2.1 u.2.2.1 oa c4 u.2.2.2) (tu := fun _ => tX c1 c2 c4) cx hr hlocks (P, st, sz, f) ⟨rfl, fun z => absurd z n10, hR⟩ hK hP hD hS d_L_count_14
theorem cs_L_count (l : Launch) (D : va_G) (htr : l.stackTraces = false) {h0 h1 h2 h3 oa : Nat} {c1 c2 c4 : ClassId} {N : Nat} {B : Nat → Bool} {P : Int32} {st sz : Nat → Int32} {f : Nat → Int64} (hR : Rep N B P st sz) {x : Int32} : CtW l y_L_count c_L_count rmW D (wX h0 h1 h2 h3 c1 c2 (nI N) P st sz oa c4 f) (tX c1 c2 c4) [.ref h0, .int x, .ref oa] (fun r (u : S4) => r = (sp_count N B x).1 ∧ ((sp_count N B x).1 = nI 0 → u.2.2.2 0 = ((sp_count N B x).2.1).toInt64) ∧ Rep ((sp_count N B x).2.2.1) ((sp_count N B x).2.2.2) u.1 u.2.1 u.2.2.1) (fun _ => tX c1 c2 c4) (fun u : S4 => wX h0 h1 h2 h3 c1 c2 (nI ((sp_count N B x).2.2.1)) u.1 u.2.1 u.2.2.1 oa c4 u.2.2.2) := by
  have hN : N ≤ 16384 := hR.2.1
  rcases ix_case4 x with h | ⟨k, hk, rfl⟩
  · rw [sp_count_no h]; exact cq_L_count l D htr hR hN h
  · rw [sp_count_ok hk]; exact co_L_count l D hR hk
set_option maxHeartbeats 4000000 in
set_option maxRecDepth 100000 in
theorem co_L_make (l : Launch) (D : va_G) {h0 h1 h2 h3 oa : Nat} {c1 c2 c4 : ClassId} {N : Nat} {B : Nat → Bool} {P : Int32} {st sz : Nat → Int32} {f : Nat → Int64} (hR : Rep N B P st sz) {a b : Nat} (hab : a < b) (hbN : b ≤ N) : CtW l y_L_make c_L_make rmW D (wX h0 h1 h2 h3 c1 c2 (nI N) P st sz oa c4 f) (tX c1 c2 c4) [.ref h0, .int (nI a), .int (nI b), .ref oa] (fun r (u : S4) => r = nI 0 ∧ (nI 0 = nI 0 → u.2.2.2 0 = (nI (cnt (mkB B a b) N)).toInt64) ∧ Rep N (mkB B a b) u.1 u.2.1 u.2.2.1) (fun _ => tX c1 c2 c4) (fun u : S4 => wX h0 h1 h2 h3 c1 c2 (nI N) u.1 u.2.1 u.2.2.1 oa c4 u.2.2.2) := by
  refine r_metW (by decide) (Nat.le_of_ble_eq_true rfl) ?_
  intro p e s m below meth c ls A cx hr hlocks hex hK hP hD hA hZ hl
  have hx := cx.1
  have hb := cx.2.1
  have hS : va_S A s.heap s.heap [] := va_S.rf
  have hl : lv_has ls 5 [(0, .ref h0), (1, .int (nI a)), (2, .int (nI b)), (3, .ref oa)] := hl
  refine lv_aload_n hx hb d_L_make_0 rfl (lv_at hl 3 rfl) ?_
  refine lv_iconst (v := nI 0) hx hb d_L_make_1 (by decide +kernel) ?_
  refine lv_aload_n hx hb d_L_make_2 rfl (lv_at hl 0 rfl) ?_
  refine lv_iload_n hx hb d_L_make_3 rfl (lv_at hl 1 rfl) ?_
  refine lv_iload_n hx hb d_L_make_4 rfl (lv_at hl 2 rfl) ?_
  refine r_callVi (wr := List.filterMap (fun i : Nat => (wX h0 h1 h2 h3 c1 c2 (nI N) P st sz oa c4 f : va_W)[i]?) [4]) (nA := 2) (rest := [.int (nI 0), .ref oa]) (ct_T_make l D hR hab hbN) cx (gd_callV mc_T_make ml_L_23 ms_T_make mv_T_make mi_T) (by decide +kernel) rfl ⟨Nat.le_of_ble_eq_true rfl, Nat.le_of_ble_eq_true rfl⟩ ⟨Nat.le_of_ble_eq_true rfl, Nat.le_of_ble_eq_true rfl⟩ hK hP hD hS hA [0, 1, 2, 3] [4] [0, 1] rfl rfl rfl (by decide) (by decide) (by decide) (ci := 0) rfl rfl rfl hl.1 rfl (Nat.le_of_ble_eq_true rfl) d_L_make_5 (fun r9 u9 H locs hw9 hK9 hP hD hS => ?_)
  obtain ⟨P1, st1, sz1⟩ := u9
  obtain ⟨rfl, hR1⟩ := hw9
  dsimp only at hR1 hP hD
  have hP : va_P D classes (wX h0 h1 h2 h3 c1 c2 (nI N) P1 st1 sz1 oa c4 f) H := hP.sub [1, 2, 3, 4, 0] rfl
  have hD : va_D A (wX h0 h1 h2 h3 c1 c2 (nI N) P1 st1 sz1 oa c4 f) := hD.sub [1, 2, 3, 4, 0] (by decide) rfl
  refine lv_i2l (v := (nI (cnt (mkB B a b) N)).toInt64) hx hb d_L_make_8 rfl ?_
  refine r_last hx hb hK hP hD hS 4 2 rfl rfl (show 0 < 1 by omega) (by omega) d_L_make_9 (fun H locs hP hD hS => ?_)
  have hP : va_P D classes (wX h0 h1 h2 h3 c1 c2 (nI N) P1 st1 sz1 oa c4 (vp_updL f 0 (nI (cnt (mkB B a b) N)).toInt64)) H := hP
  have hD : va_D A (wX h0 h1 h2 h3 c1 c2 (nI N) P1 st1 sz1 oa c4 (vp_updL f 0 (nI (cnt (mkB B a b) N)).toInt64)) := hD
  refine lv_goto (tgt := 17) hx hb d_L_make_10 (by decide) ?_
  refine lv_iconst (v := nI 0) hx hb d_L_make_17 (by decide +kernel) ?_
  refine W.widen (k := 1) (n := 6) (Nat.le_of_ble_eq_true rfl) (Nat.le_of_ble_eq_true rfl) ?_
  exact e_i (w := fun u : S4 => wX h0 h1 h2 h3 c1 c2 (nI N) u.1 u.2.1 u.2.2.1 oa c4 u.2.2.2) (tu := fun _ => tX c1 c2 c4) cx hr hlocks (P1, st1, sz1, vp_updL f 0 (nI (cnt (mkB B a b) N)).toInt64) ⟨rfl, fun _ => pk_uLs (f := f) (k := 0) (x := (nI (cnt (mkB B a b) N)).toInt64), hR1⟩ hK hP hD hS d_L_make_18
set_option maxHeartbeats 4000000 in
set_option maxRecDepth 100000 in
theorem cq_L_make1 (l : Launch) (D : va_G) (htr : l.stackTraces = false) {h0 h1 h2 h3 oa : Nat} {c1 c2 c4 : ClassId} {N : Nat} {B : Nat → Bool} {P : Int32} {st sz : Nat → Int32} {f : Nat → Int64} (hR : Rep N B P st sz) (hN : N ≤ 16384) {x y : Int32} (h : x < 0 ∨ nI N ≤ x) : CtW l y_L_make c_L_make rmW D (wX h0 h1 h2 h3 c1 c2 (nI N) P st sz oa c4 f) (tX c1 c2 c4) [.ref h0, .int x, .int y, .ref oa] (fun r (u : S4) => r = nI 1 ∧ (nI 1 = nI 0 → u.2.2.2 0 = (nI 0).toInt64) ∧ Rep N B u.1 u.2.1 u.2.2.1) (fun _ => tX c1 c2 c4) (fun u : S4 => wX h0 h1 h2 h3 c1 c2 (nI N) u.1 u.2.1 u.2.2.1 oa c4 u.2.2.2) := by
  refine r_metW (by decide) (Nat.le_of_ble_eq_true rfl) ?_
  intro p e s m below meth c ls A cx hr hlocks hex hK hP hD hA hZ hl
  have hx := cx.1
  have hb := cx.2.1
  have hS : va_S A s.heap s.heap [] := va_S.rf
  have hl : lv_has ls 5 [(0, .ref h0), (1, .int x), (2, .int y), (3, .ref oa)] := hl
  refine lv_aload_n hx hb d_L_make_0 rfl (lv_at hl 3 rfl) ?_
  refine lv_iconst (v := nI 0) hx hb d_L_make_1 (by decide +kernel) ?_
  refine lv_aload_n hx hb d_L_make_2 rfl (lv_at hl 0 rfl) ?_
  refine lv_iload_n hx hb d_L_make_3 rfl (lv_at hl 1 rfl) ?_
  refine lv_iload_n hx hb d_L_make_4 rfl (lv_at hl 2 rfl) ?_
  refine tx_catch (hs := 0) (he := 10) (hp := 13) (ix := 18) (cls := nmB) cx hex (by decide) (by decide) (by decide) mk_L_18 (hZ.2.2 _ (List.mem_of_getElem? (i := 1) rfl)) (tx_runV (nA := 2) (rest := [.int (nI 0), .ref oa]) (cx_T_make1 l D htr hN h) cx (gd_callV mc_T_make ml_L_23 ms_T_make mv_T_make mi_T) (by decide +kernel) rfl ⟨Nat.le_of_ble_eq_true rfl, Nat.le_of_ble_eq_true rfl⟩ ⟨Nat.le_of_ble_eq_true rfl, Nat.le_of_ble_eq_true rfl⟩ (hK.sub (tys' := []) [] rfl) (hP.sub (ws' := wH h0 h1 h3 (nI N) P) [0] rfl) hZ (ci := 0) rfl rfl rfl hl.1 rfl (Nat.le_of_ble_eq_true rfl) d_L_make_5) (fun x9 H hk9 hz9 => ?_)
  have hP : va_P D classes (wX h0 h1 h2 h3 c1 c2 (nI N) P st sz oa c4 f) H := hP.kept (fun k q hq => hk9 q.1 ((hP k q hq).lt))
  have hS : va_S A s.heap H [] := ⟨hz9, fun q h1 _ => hk9 q h1, fun _ h => by cases h⟩
  refine lv_astore (lv' := [(4, .ref x9), (0, .ref h0), (1, .int x), (2, .int y), (3, .ref oa)]) hx hb d_L_make_13 hl (by decide) rfl (fun ls hl => ?_)
  refine lv_iconst (v := nI 1) hx hb d_L_make_15 (by decide +kernel) ?_
  exact e_i (w := fun u : S4 => wX h0 h1 h2 h3 c1 c2 (nI N) u.1 u.2.1 u.2.2.1 oa c4 u.2.2.2) (tu := fun _ => tX c1 c2 c4) cx hr hlocks (P, st, sz, f) ⟨rfl, fun z => absurd z n10, hR⟩ hK hP hD hS d_L_make_16
set_option maxHeartbeats 4000000 in
set_option maxRecDepth 100000 in
theorem cq_L_make2 (l : Launch) (D : va_G) (htr : l.stackTraces = false) {h0 h1 h2 h3 oa : Nat} {c1 c2 c4 : ClassId} {N : Nat} {B : Nat → Bool} {P : Int32} {st sz : Nat → Int32} {f : Nat → Int64} (hR : Rep N B P st sz) (hN : N ≤ 16384) {a : Nat} (ha : a < N) {y : Int32} (h : y ≤ nI a ∨ nI N < y) : CtW l y_L_make c_L_make rmW D (wX h0 h1 h2 h3 c1 c2 (nI N) P st sz oa c4 f) (tX c1 c2 c4) [.ref h0, .int (nI a), .int y, .ref oa] (fun r (u : S4) => r = nI 1 ∧ (nI 1 = nI 0 → u.2.2.2 0 = (nI 0).toInt64) ∧ Rep N B u.1 u.2.1 u.2.2.1) (fun _ => tX c1 c2 c4) (fun u : S4 => wX h0 h1 h2 h3 c1 c2 (nI N) u.1 u.2.1 u.2.2.1 oa c4 u.2.2.2) := by
  refine r_metW (by decide) (Nat.le_of_ble_eq_true rfl) ?_
  intro p e s m below meth c ls A cx hr hlocks hex hK hP hD hA hZ hl
  have hx := cx.1
  have hb := cx.2.1
  have hS : va_S A s.heap s.heap [] := va_S.rf
  have hl : lv_has ls 5 [(0, .ref h0), (1, .int (nI a)), (2, .int y), (3, .ref oa)] := hl
  refine lv_aload_n hx hb d_L_make_0 rfl (lv_at hl 3 rfl) ?_
  refine lv_iconst (v := nI 0) hx hb d_L_make_1 (by decide +kernel) ?_
  refine lv_aload_n hx hb d_L_make_2 rfl (lv_at hl 0 rfl) ?_
  refine lv_iload_n hx hb d_L_make_3 rfl (lv_at hl 1 rfl) ?_
  refine lv_iload_n hx hb d_L_make_4 rfl (lv_at hl 2 rfl) ?_
  refine tx_catch (hs := 0) (he := 10) (hp := 13) (ix := 18) (cls := nmB) cx hex (by decide) (by decide) (by decide) mk_L_18 (hZ.2.2 _ (List.mem_of_getElem? (i := 1) rfl)) (tx_runV (nA := 2) (rest := [.int (nI 0), .ref oa]) (cx_T_make2 l D htr hN ha h) cx (gd_callV mc_T_make ml_L_23 ms_T_make mv_T_make mi_T) (by decide +kernel) rfl ⟨Nat.le_of_ble_eq_true rfl, Nat.le_of_ble_eq_true rfl⟩ ⟨Nat.le_of_ble_eq_true rfl, Nat.le_of_ble_eq_true rfl⟩ (hK.sub (tys' := []) [] rfl) (hP.sub (ws' := wH h0 h1 h3 (nI N) P) [0] rfl) hZ (ci := 0) rfl rfl rfl hl.1 rfl (Nat.le_of_ble_eq_true rfl) d_L_make_5) (fun x9 H hk9 hz9 => ?_)
  have hP : va_P D classes (wX h0 h1 h2 h3 c1 c2 (nI N) P st sz oa c4 f) H := hP.kept (fun k q hq => hk9 q.1 ((hP k q hq).lt))
  have hS : va_S A s.heap H [] := ⟨hz9, fun q h1 _ => hk9 q h1, fun _ h => by cases h⟩
  refine lv_astore (lv' := [(4, .ref x9), (0, .ref h0), (1, .int (nI a)), (2, .int y), (3, .ref oa)]) hx hb d_L_make_13 hl (by decide) rfl (fun ls hl => ?_)
  refine lv_iconst (v := nI 1) hx hb d_L_make_15 (by decide +kernel) ?_
  exact e_i (w := fun u : S4 => wX h0 h1 h2 h3 c1 c2 (nI N) u.1 u.2.1 u.2.2.1 oa c4 u.2.2.2) (tu := fun _ => tX c1 c2 c4) cx hr hlocks (P, st, sz, f) ⟨rfl, fun z => absurd z n10, hR⟩ hK hP hD hS d_L_make_16
theorem cs_L_make (l : Launch) (D : va_G) (htr : l.stackTraces = false) {h0 h1 h2 h3 oa : Nat} {c1 c2 c4 : ClassId} {N : Nat} {B : Nat → Bool} {P : Int32} {st sz : Nat → Int32} {f : Nat → Int64} (hR : Rep N B P st sz) {x y : Int32} : CtW l y_L_make c_L_make rmW D (wX h0 h1 h2 h3 c1 c2 (nI N) P st sz oa c4 f) (tX c1 c2 c4) [.ref h0, .int x, .int y, .ref oa] (fun r (u : S4) => r = (sp_make N B x y).1 ∧ ((sp_make N B x y).1 = nI 0 → u.2.2.2 0 = ((sp_make N B x y).2.1).toInt64) ∧ Rep ((sp_make N B x y).2.2.1) ((sp_make N B x y).2.2.2) u.1 u.2.1 u.2.2.1) (fun _ => tX c1 c2 c4) (fun u : S4 => wX h0 h1 h2 h3 c1 c2 (nI ((sp_make N B x y).2.2.1)) u.1 u.2.1 u.2.2.1 oa c4 u.2.2.2) := by
  have hN : N ≤ 16384 := hR.2.1
  rcases ix_case x hN with h | ⟨a, ha, rfl⟩
  · rw [sp_make_no1 hN h]; exact cq_L_make1 l D htr hR hN h
  · rcases ix_case2 y ha hN with h | ⟨b, hab, hbN, rfl⟩
    · rw [sp_make_no2 hN ha h]; exact cq_L_make2 l D htr hR hN ha h
    · rw [sp_make_ok hN hab hbN]; exact co_L_make l D hR hab hbN
end
section
theorem d_L_law_0 : decode code 0 = .ok (.new 8, 3) := by decide +kernel
theorem d_L_law_3 : decode code 3 = .ok (.dup, 1) := by decide +kernel
theorem d_L_law_4 : decode code 4 = .ok (.invokespecial 42, 3) := by decide +kernel
theorem d_L_law_7 : decode code 7 = .ok (.astore_n 1, 1) := by decide +kernel
theorem d_L_law_8 : decode code 8 = .ok (.new 43, 3) := by decide +kernel
theorem d_L_law_11 : decode code 11 = .ok (.dup, 1) := by decide +kernel
theorem d_L_law_12 : decode code 12 = .ok (.invokespecial 45, 3) := by decide +kernel
theorem d_L_law_15 : decode code 15 = .ok (.astore_n 2, 1) := by decide +kernel
theorem d_L_law_16 : decode code 16 = .ok (.iconst 1, 1) := by decide +kernel
theorem d_L_law_17 : decode code 17 = .ok (.newarray .long, 2) := by decide +kernel
theorem d_L_law_19 : decode code 19 = .ok (.astore_n 3, 1) := by decide +kernel
theorem d_L_law_20 : decode code 20 = .ok (.iconst 0, 1) := by decide +kernel
theorem d_L_law_21 : decode code 21 = .ok (.istore 4, 2) := by decide +kernel
theorem d_L_law_23 : decode code 23 = .ok (.iload 4, 2) := by decide +kernel
theorem d_L_law_25 : decode code 25 = .ok (.aload_n 0, 1) := by decide +kernel
theorem d_L_law_26 : decode code 26 = .ok (.arraylength, 1) := by decide +kernel
theorem d_L_law_27 : decode code 27 = .ok (.iconst 3, 1) := by decide +kernel
theorem d_L_law_28 : decode code 28 = .ok (.isub, 1) := by decide +kernel
theorem d_L_law_29 : decode code 29 = .ok (.if_icmp .gt 581, 3) := by decide +kernel
theorem d_L_law_32 : decode code 32 = .ok (.aload_n 0, 1) := by decide +kernel
theorem d_L_law_33 : decode code 33 = .ok (.iload 4, 2) := by decide +kernel
theorem d_L_law_35 : decode code 35 = .ok (.iaload, 1) := by decide +kernel
theorem d_L_law_36 : decode code 36 = .ok (.bipush 15, 2) := by decide +kernel
theorem d_L_law_38 : decode code 38 = .ok (.iand, 1) := by decide +kernel
theorem d_L_law_39 : decode code 39 = .ok (.tableswitch 565 0 8 #[49, 105, 161, 217, 285, 341, 397, 453, 509], 49) := by decide +kernel
theorem d_L_law_88 : decode code 88 = .ok (.aload_n 1, 1) := by decide +kernel
theorem d_L_law_89 : decode code 89 = .ok (.aload_n 0, 1) := by decide +kernel
theorem d_L_law_90 : decode code 90 = .ok (.iload 4, 2) := by decide +kernel
theorem d_L_law_92 : decode code 92 = .ok (.iconst 1, 1) := by decide +kernel
theorem d_L_law_93 : decode code 93 = .ok (.iadd, 1) := by decide +kernel
theorem d_L_law_94 : decode code 94 = .ok (.iaload, 1) := by decide +kernel
theorem d_L_law_95 : decode code 95 = .ok (.aload_n 3, 1) := by decide +kernel
theorem d_L_law_96 : decode code 96 = .ok (.invokestatic 46, 3) := by decide +kernel
theorem d_L_law_99 : decode code 99 = .ok (.istore 5, 2) := by decide +kernel
theorem d_L_law_101 : decode code 101 = .ok (.aload_n 2, 1) := by decide +kernel
theorem d_L_law_102 : decode code 102 = .ok (.aload_n 0, 1) := by decide +kernel
theorem d_L_law_103 : decode code 103 = .ok (.iload 4, 2) := by decide +kernel
theorem d_L_law_105 : decode code 105 = .ok (.iconst 1, 1) := by decide +kernel
theorem d_L_law_106 : decode code 106 = .ok (.iadd, 1) := by decide +kernel
theorem d_L_law_107 : decode code 107 = .ok (.iaload, 1) := by decide +kernel
theorem d_L_law_108 : decode code 108 = .ok (.invokevirtual 51, 3) := by decide +kernel
theorem d_L_law_111 : decode code 111 = .ok (.istore 6, 2) := by decide +kernel
theorem d_L_law_113 : decode code 113 = .ok (.aload_n 2, 1) := by decide +kernel
theorem d_L_law_114 : decode code 114 = .ok (.invokevirtual 52, 3) := by decide +kernel
theorem d_L_law_117 : decode code 117 = .ok (.iload 5, 2) := by decide +kernel
theorem d_L_law_119 : decode code 119 = .ok (.if_icmp .eq 5, 3) := by decide +kernel
theorem d_L_law_122 : decode code 122 = .ok (.iconst 0, 1) := by decide +kernel
theorem d_L_law_123 : decode code 123 = .ok (.ireturn, 1) := by decide +kernel
theorem d_L_law_124 : decode code 124 = .ok (.iload 5, 2) := by decide +kernel
theorem d_L_law_126 : decode code 126 = .ok (.ifCond .ne 15, 3) := by decide +kernel
theorem d_L_law_129 : decode code 129 = .ok (.aload_n 3, 1) := by decide +kernel
theorem d_L_law_130 : decode code 130 = .ok (.iconst 0, 1) := by decide +kernel
theorem d_L_law_131 : decode code 131 = .ok (.laload, 1) := by decide +kernel
theorem d_L_law_132 : decode code 132 = .ok (.iload 6, 2) := by decide +kernel
theorem d_L_law_134 : decode code 134 = .ok (.i2l, 1) := by decide +kernel
theorem d_L_law_135 : decode code 135 = .ok (.lcmp, 1) := by decide +kernel
theorem d_L_law_136 : decode code 136 = .ok (.ifCond .eq 5, 3) := by decide +kernel
theorem d_L_law_139 : decode code 139 = .ok (.iconst 0, 1) := by decide +kernel
theorem d_L_law_140 : decode code 140 = .ok (.ireturn, 1) := by decide +kernel
theorem d_L_law_141 : decode code 141 = .ok (.goto 463, 3) := by decide +kernel
end
section
theorem d_L_law_144 : decode code 144 = .ok (.aload_n 1, 1) := by decide +kernel
theorem d_L_law_145 : decode code 145 = .ok (.aload_n 0, 1) := by decide +kernel
theorem d_L_law_146 : decode code 146 = .ok (.iload 4, 2) := by decide +kernel
theorem d_L_law_148 : decode code 148 = .ok (.iconst 1, 1) := by decide +kernel
theorem d_L_law_149 : decode code 149 = .ok (.iadd, 1) := by decide +kernel
theorem d_L_law_150 : decode code 150 = .ok (.iaload, 1) := by decide +kernel
theorem d_L_law_151 : decode code 151 = .ok (.aload_n 3, 1) := by decide +kernel
theorem d_L_law_152 : decode code 152 = .ok (.invokestatic 56, 3) := by decide +kernel
theorem d_L_law_155 : decode code 155 = .ok (.istore 5, 2) := by decide +kernel
theorem d_L_law_157 : decode code 157 = .ok (.aload_n 2, 1) := by decide +kernel
theorem d_L_law_158 : decode code 158 = .ok (.aload_n 0, 1) := by decide +kernel
theorem d_L_law_159 : decode code 159 = .ok (.iload 4, 2) := by decide +kernel
theorem d_L_law_161 : decode code 161 = .ok (.iconst 1, 1) := by decide +kernel
theorem d_L_law_162 : decode code 162 = .ok (.iadd, 1) := by decide +kernel
theorem d_L_law_163 : decode code 163 = .ok (.iaload, 1) := by decide +kernel
theorem d_L_law_164 : decode code 164 = .ok (.invokevirtual 58, 3) := by decide +kernel
theorem d_L_law_167 : decode code 167 = .ok (.istore 6, 2) := by decide +kernel
theorem d_L_law_169 : decode code 169 = .ok (.aload_n 2, 1) := by decide +kernel
theorem d_L_law_170 : decode code 170 = .ok (.invokevirtual 52, 3) := by decide +kernel
theorem d_L_law_173 : decode code 173 = .ok (.iload 5, 2) := by decide +kernel
theorem d_L_law_175 : decode code 175 = .ok (.if_icmp .eq 5, 3) := by decide +kernel
theorem d_L_law_178 : decode code 178 = .ok (.iconst 0, 1) := by decide +kernel
theorem d_L_law_179 : decode code 179 = .ok (.ireturn, 1) := by decide +kernel
theorem d_L_law_180 : decode code 180 = .ok (.iload 5, 2) := by decide +kernel
theorem d_L_law_182 : decode code 182 = .ok (.ifCond .ne 15, 3) := by decide +kernel
theorem d_L_law_185 : decode code 185 = .ok (.aload_n 3, 1) := by decide +kernel
theorem d_L_law_186 : decode code 186 = .ok (.iconst 0, 1) := by decide +kernel
theorem d_L_law_187 : decode code 187 = .ok (.laload, 1) := by decide +kernel
theorem d_L_law_188 : decode code 188 = .ok (.iload 6, 2) := by decide +kernel
theorem d_L_law_190 : decode code 190 = .ok (.i2l, 1) := by decide +kernel
theorem d_L_law_191 : decode code 191 = .ok (.lcmp, 1) := by decide +kernel
theorem d_L_law_192 : decode code 192 = .ok (.ifCond .eq 5, 3) := by decide +kernel
theorem d_L_law_195 : decode code 195 = .ok (.iconst 0, 1) := by decide +kernel
theorem d_L_law_196 : decode code 196 = .ok (.ireturn, 1) := by decide +kernel
theorem d_L_law_197 : decode code 197 = .ok (.goto 407, 3) := by decide +kernel
theorem d_L_law_200 : decode code 200 = .ok (.aload_n 1, 1) := by decide +kernel
theorem d_L_law_201 : decode code 201 = .ok (.aload_n 0, 1) := by decide +kernel
theorem d_L_law_202 : decode code 202 = .ok (.iload 4, 2) := by decide +kernel
theorem d_L_law_204 : decode code 204 = .ok (.iconst 1, 1) := by decide +kernel
theorem d_L_law_205 : decode code 205 = .ok (.iadd, 1) := by decide +kernel
theorem d_L_law_206 : decode code 206 = .ok (.iaload, 1) := by decide +kernel
theorem d_L_law_207 : decode code 207 = .ok (.aload_n 3, 1) := by decide +kernel
theorem d_L_law_208 : decode code 208 = .ok (.invokestatic 59, 3) := by decide +kernel
theorem d_L_law_211 : decode code 211 = .ok (.istore 5, 2) := by decide +kernel
theorem d_L_law_213 : decode code 213 = .ok (.aload_n 2, 1) := by decide +kernel
theorem d_L_law_214 : decode code 214 = .ok (.aload_n 0, 1) := by decide +kernel
theorem d_L_law_215 : decode code 215 = .ok (.iload 4, 2) := by decide +kernel
theorem d_L_law_217 : decode code 217 = .ok (.iconst 1, 1) := by decide +kernel
theorem d_L_law_218 : decode code 218 = .ok (.iadd, 1) := by decide +kernel
theorem d_L_law_219 : decode code 219 = .ok (.iaload, 1) := by decide +kernel
theorem d_L_law_220 : decode code 220 = .ok (.invokevirtual 61, 3) := by decide +kernel
theorem d_L_law_223 : decode code 223 = .ok (.istore 6, 2) := by decide +kernel
theorem d_L_law_225 : decode code 225 = .ok (.aload_n 2, 1) := by decide +kernel
theorem d_L_law_226 : decode code 226 = .ok (.invokevirtual 52, 3) := by decide +kernel
theorem d_L_law_229 : decode code 229 = .ok (.iload 5, 2) := by decide +kernel
theorem d_L_law_231 : decode code 231 = .ok (.if_icmp .eq 5, 3) := by decide +kernel
theorem d_L_law_234 : decode code 234 = .ok (.iconst 0, 1) := by decide +kernel
theorem d_L_law_235 : decode code 235 = .ok (.ireturn, 1) := by decide +kernel
theorem d_L_law_236 : decode code 236 = .ok (.iload 5, 2) := by decide +kernel
theorem d_L_law_238 : decode code 238 = .ok (.ifCond .ne 15, 3) := by decide +kernel
end
section
theorem d_L_law_241 : decode code 241 = .ok (.aload_n 3, 1) := by decide +kernel
theorem d_L_law_242 : decode code 242 = .ok (.iconst 0, 1) := by decide +kernel
theorem d_L_law_243 : decode code 243 = .ok (.laload, 1) := by decide +kernel
theorem d_L_law_244 : decode code 244 = .ok (.iload 6, 2) := by decide +kernel
theorem d_L_law_246 : decode code 246 = .ok (.i2l, 1) := by decide +kernel
theorem d_L_law_247 : decode code 247 = .ok (.lcmp, 1) := by decide +kernel
theorem d_L_law_248 : decode code 248 = .ok (.ifCond .eq 5, 3) := by decide +kernel
theorem d_L_law_251 : decode code 251 = .ok (.iconst 0, 1) := by decide +kernel
theorem d_L_law_252 : decode code 252 = .ok (.ireturn, 1) := by decide +kernel
theorem d_L_law_253 : decode code 253 = .ok (.goto 351, 3) := by decide +kernel
theorem d_L_law_256 : decode code 256 = .ok (.aload_n 1, 1) := by decide +kernel
theorem d_L_law_257 : decode code 257 = .ok (.aload_n 0, 1) := by decide +kernel
theorem d_L_law_258 : decode code 258 = .ok (.iload 4, 2) := by decide +kernel
theorem d_L_law_260 : decode code 260 = .ok (.iconst 1, 1) := by decide +kernel
theorem d_L_law_261 : decode code 261 = .ok (.iadd, 1) := by decide +kernel
theorem d_L_law_262 : decode code 262 = .ok (.iaload, 1) := by decide +kernel
theorem d_L_law_263 : decode code 263 = .ok (.aload_n 0, 1) := by decide +kernel
theorem d_L_law_264 : decode code 264 = .ok (.iload 4, 2) := by decide +kernel
theorem d_L_law_266 : decode code 266 = .ok (.iconst 2, 1) := by decide +kernel
theorem d_L_law_267 : decode code 267 = .ok (.iadd, 1) := by decide +kernel
theorem d_L_law_268 : decode code 268 = .ok (.iaload, 1) := by decide +kernel
theorem d_L_law_269 : decode code 269 = .ok (.aload_n 3, 1) := by decide +kernel
theorem d_L_law_270 : decode code 270 = .ok (.invokestatic 62, 3) := by decide +kernel
theorem d_L_law_273 : decode code 273 = .ok (.istore 5, 2) := by decide +kernel
theorem d_L_law_275 : decode code 275 = .ok (.aload_n 2, 1) := by decide +kernel
theorem d_L_law_276 : decode code 276 = .ok (.aload_n 0, 1) := by decide +kernel
theorem d_L_law_277 : decode code 277 = .ok (.iload 4, 2) := by decide +kernel
theorem d_L_law_279 : decode code 279 = .ok (.iconst 1, 1) := by decide +kernel
theorem d_L_law_280 : decode code 280 = .ok (.iadd, 1) := by decide +kernel
theorem d_L_law_281 : decode code 281 = .ok (.iaload, 1) := by decide +kernel
theorem d_L_law_282 : decode code 282 = .ok (.aload_n 0, 1) := by decide +kernel
theorem d_L_law_283 : decode code 283 = .ok (.iload 4, 2) := by decide +kernel
theorem d_L_law_285 : decode code 285 = .ok (.iconst 2, 1) := by decide +kernel
theorem d_L_law_286 : decode code 286 = .ok (.iadd, 1) := by decide +kernel
theorem d_L_law_287 : decode code 287 = .ok (.iaload, 1) := by decide +kernel
theorem d_L_law_288 : decode code 288 = .ok (.invokevirtual 65, 3) := by decide +kernel
theorem d_L_law_291 : decode code 291 = .ok (.istore 6, 2) := by decide +kernel
theorem d_L_law_293 : decode code 293 = .ok (.aload_n 2, 1) := by decide +kernel
theorem d_L_law_294 : decode code 294 = .ok (.invokevirtual 52, 3) := by decide +kernel
theorem d_L_law_297 : decode code 297 = .ok (.iload 5, 2) := by decide +kernel
theorem d_L_law_299 : decode code 299 = .ok (.if_icmp .eq 5, 3) := by decide +kernel
theorem d_L_law_302 : decode code 302 = .ok (.iconst 0, 1) := by decide +kernel
theorem d_L_law_303 : decode code 303 = .ok (.ireturn, 1) := by decide +kernel
theorem d_L_law_304 : decode code 304 = .ok (.iload 5, 2) := by decide +kernel
theorem d_L_law_306 : decode code 306 = .ok (.ifCond .ne 15, 3) := by decide +kernel
theorem d_L_law_309 : decode code 309 = .ok (.aload_n 3, 1) := by decide +kernel
theorem d_L_law_310 : decode code 310 = .ok (.iconst 0, 1) := by decide +kernel
theorem d_L_law_311 : decode code 311 = .ok (.laload, 1) := by decide +kernel
theorem d_L_law_312 : decode code 312 = .ok (.iload 6, 2) := by decide +kernel
theorem d_L_law_314 : decode code 314 = .ok (.i2l, 1) := by decide +kernel
theorem d_L_law_315 : decode code 315 = .ok (.lcmp, 1) := by decide +kernel
theorem d_L_law_316 : decode code 316 = .ok (.ifCond .eq 5, 3) := by decide +kernel
theorem d_L_law_319 : decode code 319 = .ok (.iconst 0, 1) := by decide +kernel
theorem d_L_law_320 : decode code 320 = .ok (.ireturn, 1) := by decide +kernel
theorem d_L_law_321 : decode code 321 = .ok (.goto 283, 3) := by decide +kernel
theorem d_L_law_324 : decode code 324 = .ok (.aload_n 1, 1) := by decide +kernel
theorem d_L_law_325 : decode code 325 = .ok (.aload_n 0, 1) := by decide +kernel
theorem d_L_law_326 : decode code 326 = .ok (.iload 4, 2) := by decide +kernel
theorem d_L_law_328 : decode code 328 = .ok (.iconst 1, 1) := by decide +kernel
theorem d_L_law_329 : decode code 329 = .ok (.iadd, 1) := by decide +kernel
end
section
theorem d_L_law_330 : decode code 330 = .ok (.iaload, 1) := by decide +kernel
theorem d_L_law_331 : decode code 331 = .ok (.aload_n 3, 1) := by decide +kernel
theorem d_L_law_332 : decode code 332 = .ok (.invokestatic 66, 3) := by decide +kernel
theorem d_L_law_335 : decode code 335 = .ok (.istore 5, 2) := by decide +kernel
theorem d_L_law_337 : decode code 337 = .ok (.aload_n 2, 1) := by decide +kernel
theorem d_L_law_338 : decode code 338 = .ok (.aload_n 0, 1) := by decide +kernel
theorem d_L_law_339 : decode code 339 = .ok (.iload 4, 2) := by decide +kernel
theorem d_L_law_341 : decode code 341 = .ok (.iconst 1, 1) := by decide +kernel
theorem d_L_law_342 : decode code 342 = .ok (.iadd, 1) := by decide +kernel
theorem d_L_law_343 : decode code 343 = .ok (.iaload, 1) := by decide +kernel
theorem d_L_law_344 : decode code 344 = .ok (.invokevirtual 68, 3) := by decide +kernel
theorem d_L_law_347 : decode code 347 = .ok (.istore 6, 2) := by decide +kernel
theorem d_L_law_349 : decode code 349 = .ok (.aload_n 2, 1) := by decide +kernel
theorem d_L_law_350 : decode code 350 = .ok (.invokevirtual 52, 3) := by decide +kernel
theorem d_L_law_353 : decode code 353 = .ok (.iload 5, 2) := by decide +kernel
theorem d_L_law_355 : decode code 355 = .ok (.if_icmp .eq 5, 3) := by decide +kernel
theorem d_L_law_358 : decode code 358 = .ok (.iconst 0, 1) := by decide +kernel
theorem d_L_law_359 : decode code 359 = .ok (.ireturn, 1) := by decide +kernel
theorem d_L_law_360 : decode code 360 = .ok (.iload 5, 2) := by decide +kernel
theorem d_L_law_362 : decode code 362 = .ok (.ifCond .ne 15, 3) := by decide +kernel
theorem d_L_law_365 : decode code 365 = .ok (.aload_n 3, 1) := by decide +kernel
theorem d_L_law_366 : decode code 366 = .ok (.iconst 0, 1) := by decide +kernel
theorem d_L_law_367 : decode code 367 = .ok (.laload, 1) := by decide +kernel
theorem d_L_law_368 : decode code 368 = .ok (.iload 6, 2) := by decide +kernel
theorem d_L_law_370 : decode code 370 = .ok (.i2l, 1) := by decide +kernel
theorem d_L_law_371 : decode code 371 = .ok (.lcmp, 1) := by decide +kernel
theorem d_L_law_372 : decode code 372 = .ok (.ifCond .eq 5, 3) := by decide +kernel
theorem d_L_law_375 : decode code 375 = .ok (.iconst 0, 1) := by decide +kernel
theorem d_L_law_376 : decode code 376 = .ok (.ireturn, 1) := by decide +kernel
theorem d_L_law_377 : decode code 377 = .ok (.goto 227, 3) := by decide +kernel
theorem d_L_law_380 : decode code 380 = .ok (.aload_n 1, 1) := by decide +kernel
theorem d_L_law_381 : decode code 381 = .ok (.aload_n 0, 1) := by decide +kernel
theorem d_L_law_382 : decode code 382 = .ok (.iload 4, 2) := by decide +kernel
theorem d_L_law_384 : decode code 384 = .ok (.iconst 1, 1) := by decide +kernel
theorem d_L_law_385 : decode code 385 = .ok (.iadd, 1) := by decide +kernel
theorem d_L_law_386 : decode code 386 = .ok (.iaload, 1) := by decide +kernel
theorem d_L_law_387 : decode code 387 = .ok (.aload_n 3, 1) := by decide +kernel
theorem d_L_law_388 : decode code 388 = .ok (.invokestatic 69, 3) := by decide +kernel
theorem d_L_law_391 : decode code 391 = .ok (.istore 5, 2) := by decide +kernel
theorem d_L_law_393 : decode code 393 = .ok (.aload_n 2, 1) := by decide +kernel
theorem d_L_law_394 : decode code 394 = .ok (.aload_n 0, 1) := by decide +kernel
theorem d_L_law_395 : decode code 395 = .ok (.iload 4, 2) := by decide +kernel
theorem d_L_law_397 : decode code 397 = .ok (.iconst 1, 1) := by decide +kernel
theorem d_L_law_398 : decode code 398 = .ok (.iadd, 1) := by decide +kernel
theorem d_L_law_399 : decode code 399 = .ok (.iaload, 1) := by decide +kernel
theorem d_L_law_400 : decode code 400 = .ok (.invokevirtual 71, 3) := by decide +kernel
theorem d_L_law_403 : decode code 403 = .ok (.istore 6, 2) := by decide +kernel
theorem d_L_law_405 : decode code 405 = .ok (.aload_n 2, 1) := by decide +kernel
theorem d_L_law_406 : decode code 406 = .ok (.invokevirtual 52, 3) := by decide +kernel
theorem d_L_law_409 : decode code 409 = .ok (.iload 5, 2) := by decide +kernel
theorem d_L_law_411 : decode code 411 = .ok (.if_icmp .eq 5, 3) := by decide +kernel
theorem d_L_law_414 : decode code 414 = .ok (.iconst 0, 1) := by decide +kernel
theorem d_L_law_415 : decode code 415 = .ok (.ireturn, 1) := by decide +kernel
theorem d_L_law_416 : decode code 416 = .ok (.iload 5, 2) := by decide +kernel
theorem d_L_law_418 : decode code 418 = .ok (.ifCond .ne 15, 3) := by decide +kernel
theorem d_L_law_421 : decode code 421 = .ok (.aload_n 3, 1) := by decide +kernel
theorem d_L_law_422 : decode code 422 = .ok (.iconst 0, 1) := by decide +kernel
theorem d_L_law_423 : decode code 423 = .ok (.laload, 1) := by decide +kernel
theorem d_L_law_424 : decode code 424 = .ok (.iload 6, 2) := by decide +kernel
theorem d_L_law_426 : decode code 426 = .ok (.i2l, 1) := by decide +kernel
end
section
theorem d_L_law_427 : decode code 427 = .ok (.lcmp, 1) := by decide +kernel
theorem d_L_law_428 : decode code 428 = .ok (.ifCond .eq 5, 3) := by decide +kernel
theorem d_L_law_431 : decode code 431 = .ok (.iconst 0, 1) := by decide +kernel
theorem d_L_law_432 : decode code 432 = .ok (.ireturn, 1) := by decide +kernel
theorem d_L_law_433 : decode code 433 = .ok (.goto 171, 3) := by decide +kernel
theorem d_L_law_436 : decode code 436 = .ok (.aload_n 1, 1) := by decide +kernel
theorem d_L_law_437 : decode code 437 = .ok (.aload_n 0, 1) := by decide +kernel
theorem d_L_law_438 : decode code 438 = .ok (.iload 4, 2) := by decide +kernel
theorem d_L_law_440 : decode code 440 = .ok (.iconst 1, 1) := by decide +kernel
theorem d_L_law_441 : decode code 441 = .ok (.iadd, 1) := by decide +kernel
theorem d_L_law_442 : decode code 442 = .ok (.iaload, 1) := by decide +kernel
theorem d_L_law_443 : decode code 443 = .ok (.aload_n 3, 1) := by decide +kernel
theorem d_L_law_444 : decode code 444 = .ok (.invokestatic 72, 3) := by decide +kernel
theorem d_L_law_447 : decode code 447 = .ok (.istore 5, 2) := by decide +kernel
theorem d_L_law_449 : decode code 449 = .ok (.aload_n 2, 1) := by decide +kernel
theorem d_L_law_450 : decode code 450 = .ok (.aload_n 0, 1) := by decide +kernel
theorem d_L_law_451 : decode code 451 = .ok (.iload 4, 2) := by decide +kernel
theorem d_L_law_453 : decode code 453 = .ok (.iconst 1, 1) := by decide +kernel
theorem d_L_law_454 : decode code 454 = .ok (.iadd, 1) := by decide +kernel
theorem d_L_law_455 : decode code 455 = .ok (.iaload, 1) := by decide +kernel
theorem d_L_law_456 : decode code 456 = .ok (.invokevirtual 74, 3) := by decide +kernel
theorem d_L_law_459 : decode code 459 = .ok (.istore 6, 2) := by decide +kernel
theorem d_L_law_461 : decode code 461 = .ok (.aload_n 2, 1) := by decide +kernel
theorem d_L_law_462 : decode code 462 = .ok (.invokevirtual 52, 3) := by decide +kernel
theorem d_L_law_465 : decode code 465 = .ok (.iload 5, 2) := by decide +kernel
theorem d_L_law_467 : decode code 467 = .ok (.if_icmp .eq 5, 3) := by decide +kernel
theorem d_L_law_470 : decode code 470 = .ok (.iconst 0, 1) := by decide +kernel
theorem d_L_law_471 : decode code 471 = .ok (.ireturn, 1) := by decide +kernel
theorem d_L_law_472 : decode code 472 = .ok (.iload 5, 2) := by decide +kernel
theorem d_L_law_474 : decode code 474 = .ok (.ifCond .ne 15, 3) := by decide +kernel
theorem d_L_law_477 : decode code 477 = .ok (.aload_n 3, 1) := by decide +kernel
theorem d_L_law_478 : decode code 478 = .ok (.iconst 0, 1) := by decide +kernel
theorem d_L_law_479 : decode code 479 = .ok (.laload, 1) := by decide +kernel
theorem d_L_law_480 : decode code 480 = .ok (.iload 6, 2) := by decide +kernel
theorem d_L_law_482 : decode code 482 = .ok (.i2l, 1) := by decide +kernel
theorem d_L_law_483 : decode code 483 = .ok (.lcmp, 1) := by decide +kernel
theorem d_L_law_484 : decode code 484 = .ok (.ifCond .eq 5, 3) := by decide +kernel
theorem d_L_law_487 : decode code 487 = .ok (.iconst 0, 1) := by decide +kernel
theorem d_L_law_488 : decode code 488 = .ok (.ireturn, 1) := by decide +kernel
theorem d_L_law_489 : decode code 489 = .ok (.goto 115, 3) := by decide +kernel
theorem d_L_law_492 : decode code 492 = .ok (.aload_n 1, 1) := by decide +kernel
theorem d_L_law_493 : decode code 493 = .ok (.aload_n 0, 1) := by decide +kernel
theorem d_L_law_494 : decode code 494 = .ok (.iload 4, 2) := by decide +kernel
theorem d_L_law_496 : decode code 496 = .ok (.iconst 1, 1) := by decide +kernel
theorem d_L_law_497 : decode code 497 = .ok (.iadd, 1) := by decide +kernel
theorem d_L_law_498 : decode code 498 = .ok (.iaload, 1) := by decide +kernel
theorem d_L_law_499 : decode code 499 = .ok (.aload_n 3, 1) := by decide +kernel
theorem d_L_law_500 : decode code 500 = .ok (.invokestatic 75, 3) := by decide +kernel
theorem d_L_law_503 : decode code 503 = .ok (.istore 5, 2) := by decide +kernel
theorem d_L_law_505 : decode code 505 = .ok (.aload_n 2, 1) := by decide +kernel
theorem d_L_law_506 : decode code 506 = .ok (.aload_n 0, 1) := by decide +kernel
theorem d_L_law_507 : decode code 507 = .ok (.iload 4, 2) := by decide +kernel
theorem d_L_law_509 : decode code 509 = .ok (.iconst 1, 1) := by decide +kernel
theorem d_L_law_510 : decode code 510 = .ok (.iadd, 1) := by decide +kernel
theorem d_L_law_511 : decode code 511 = .ok (.iaload, 1) := by decide +kernel
theorem d_L_law_512 : decode code 512 = .ok (.invokevirtual 77, 3) := by decide +kernel
theorem d_L_law_515 : decode code 515 = .ok (.istore 6, 2) := by decide +kernel
theorem d_L_law_517 : decode code 517 = .ok (.aload_n 2, 1) := by decide +kernel
theorem d_L_law_518 : decode code 518 = .ok (.invokevirtual 52, 3) := by decide +kernel
theorem d_L_law_521 : decode code 521 = .ok (.iload 5, 2) := by decide +kernel
end
section
theorem d_L_law_523 : decode code 523 = .ok (.if_icmp .eq 5, 3) := by decide +kernel
theorem d_L_law_526 : decode code 526 = .ok (.iconst 0, 1) := by decide +kernel
theorem d_L_law_527 : decode code 527 = .ok (.ireturn, 1) := by decide +kernel
theorem d_L_law_528 : decode code 528 = .ok (.iload 5, 2) := by decide +kernel
theorem d_L_law_530 : decode code 530 = .ok (.ifCond .ne 15, 3) := by decide +kernel
theorem d_L_law_533 : decode code 533 = .ok (.aload_n 3, 1) := by decide +kernel
theorem d_L_law_534 : decode code 534 = .ok (.iconst 0, 1) := by decide +kernel
theorem d_L_law_535 : decode code 535 = .ok (.laload, 1) := by decide +kernel
theorem d_L_law_536 : decode code 536 = .ok (.iload 6, 2) := by decide +kernel
theorem d_L_law_538 : decode code 538 = .ok (.i2l, 1) := by decide +kernel
theorem d_L_law_539 : decode code 539 = .ok (.lcmp, 1) := by decide +kernel
theorem d_L_law_540 : decode code 540 = .ok (.ifCond .eq 5, 3) := by decide +kernel
theorem d_L_law_543 : decode code 543 = .ok (.iconst 0, 1) := by decide +kernel
theorem d_L_law_544 : decode code 544 = .ok (.ireturn, 1) := by decide +kernel
theorem d_L_law_545 : decode code 545 = .ok (.goto 59, 3) := by decide +kernel
theorem d_L_law_548 : decode code 548 = .ok (.aload_n 1, 1) := by decide +kernel
theorem d_L_law_549 : decode code 549 = .ok (.aload_n 0, 1) := by decide +kernel
theorem d_L_law_550 : decode code 550 = .ok (.iload 4, 2) := by decide +kernel
theorem d_L_law_552 : decode code 552 = .ok (.iconst 1, 1) := by decide +kernel
theorem d_L_law_553 : decode code 553 = .ok (.iadd, 1) := by decide +kernel
theorem d_L_law_554 : decode code 554 = .ok (.iaload, 1) := by decide +kernel
theorem d_L_law_555 : decode code 555 = .ok (.aload_n 3, 1) := by decide +kernel
theorem d_L_law_556 : decode code 556 = .ok (.invokestatic 78, 3) := by decide +kernel
theorem d_L_law_559 : decode code 559 = .ok (.istore 5, 2) := by decide +kernel
theorem d_L_law_561 : decode code 561 = .ok (.aload_n 2, 1) := by decide +kernel
theorem d_L_law_562 : decode code 562 = .ok (.aload_n 0, 1) := by decide +kernel
theorem d_L_law_563 : decode code 563 = .ok (.iload 4, 2) := by decide +kernel
theorem d_L_law_565 : decode code 565 = .ok (.iconst 1, 1) := by decide +kernel
theorem d_L_law_566 : decode code 566 = .ok (.iadd, 1) := by decide +kernel
theorem d_L_law_567 : decode code 567 = .ok (.iaload, 1) := by decide +kernel
theorem d_L_law_568 : decode code 568 = .ok (.invokevirtual 80, 3) := by decide +kernel
theorem d_L_law_571 : decode code 571 = .ok (.istore 6, 2) := by decide +kernel
theorem d_L_law_573 : decode code 573 = .ok (.aload_n 2, 1) := by decide +kernel
theorem d_L_law_574 : decode code 574 = .ok (.invokevirtual 52, 3) := by decide +kernel
theorem d_L_law_577 : decode code 577 = .ok (.iload 5, 2) := by decide +kernel
theorem d_L_law_579 : decode code 579 = .ok (.if_icmp .eq 5, 3) := by decide +kernel
theorem d_L_law_582 : decode code 582 = .ok (.iconst 0, 1) := by decide +kernel
theorem d_L_law_583 : decode code 583 = .ok (.ireturn, 1) := by decide +kernel
theorem d_L_law_584 : decode code 584 = .ok (.iload 5, 2) := by decide +kernel
theorem d_L_law_586 : decode code 586 = .ok (.ifCond .ne 15, 3) := by decide +kernel
theorem d_L_law_589 : decode code 589 = .ok (.aload_n 3, 1) := by decide +kernel
theorem d_L_law_590 : decode code 590 = .ok (.iconst 0, 1) := by decide +kernel
theorem d_L_law_591 : decode code 591 = .ok (.laload, 1) := by decide +kernel
theorem d_L_law_592 : decode code 592 = .ok (.iload 6, 2) := by decide +kernel
theorem d_L_law_594 : decode code 594 = .ok (.i2l, 1) := by decide +kernel
theorem d_L_law_595 : decode code 595 = .ok (.lcmp, 1) := by decide +kernel
theorem d_L_law_596 : decode code 596 = .ok (.ifCond .eq 5, 3) := by decide +kernel
theorem d_L_law_599 : decode code 599 = .ok (.iconst 0, 1) := by decide +kernel
theorem d_L_law_600 : decode code 600 = .ok (.ireturn, 1) := by decide +kernel
theorem d_L_law_601 : decode code 601 = .ok (.goto 3, 3) := by decide +kernel
theorem d_L_law_604 : decode code 604 = .ok (.iinc 4 3, 3) := by decide +kernel
theorem d_L_law_607 : decode code 607 = .ok (.goto (-584), 3) := by decide +kernel
theorem d_L_law_610 : decode code 610 = .ok (.iconst 1, 1) := by decide +kernel
theorem d_L_law_611 : decode code 611 = .ok (.ireturn, 1) := by decide +kernel
end
section
/-! THE CLAIM OUT OF ONE WALK OF THE LAW'S BODY. Your part is whole_start (and what it stands on); all else here is the same for every law, but numbers. -/
def lw_P (b : Addr) (xs : List Int32) (args : Array Value) (s : State) : Prop := args = #[.ref b] ∧ s.IntsAt b xs ∧ xs.length ≤ 1536 ∧ (Jvm.Cond.and given_1 narrow_1).before args s = true
def lw_Q (_ : Array Value) (s : State) (o : Outcome) (t : State) : Prop := o = .returned (some (.int 1)) ∧ Framed s o t [] 601024 7293034
def lw_Z (below : List Frame) (a : Array Value) (s : State) : State → Prop := fun t => ∃ o, t.status = .running ∧ Ended t below o ∧ lw_Q a s o t
/-- the law's own end, with 1 on the stack, nothing written that was there before, its room as the claim has it -/
theorem lw_ret {p : Program} {l : Launch} {e : Env} {s : State} {m : MethodId} {below : List Frame} {meth : Method} {c : Code} {b : Nat} (hx : p.tables.exec = Jvm.exec) (hb : c.code = code) (hr : meth.sig.returnType = ret) (hlocks : meth.locks = false) {pc : Nat} {H : Heap} {ls : Array Slot} (hdg : decode code pc = .ok (.ireturn, 1)) : W p l e room_1 s m #[Value.ref b] below meth c H [] 601024 7293034 (lw_Z below #[Value.ref b] s) (F0 m pc ls [.int 1]) := by
  intro T hT X
  obtain ⟨fs, hret, hrun, hended, hW, hframe⟩ := X.leave (v := some (.int 1)) (hlocks := hlocks) (fun h => by rw [hr] at h; cases h)
  have hmeth' : T.vm.method? m = some meth := X.method'
  refine ⟨T.setFrames fs, ?_, .returned (some (.int 1)), hrun, hended, rfl, ⟨_, rfl⟩, hW, hframe⟩
  jvm_step X.here [X.here.top, hx, hb, hdg, hmeth', hr, ret, narrow_b1]
  (try refine ⟨rfl, ?_⟩); (try refine ⟨rfl, ?_⟩)
  first | (intro acts; rw [hret _ acts rfl rfl rfl]) | rw [hret _ _ rfl rfl rfl]
  exact Steps.refl _
/-- what holds at the law's entry: the machine, the code, the tables' words (any of lw_tbl by 'hts w (by decide +kernel)'), the script of L ints xs at the cell b, what the Statement gives of the start (any of its parts by flat_of_before) -/
def lw_At (p : Program) (s : State) (m : MethodId) (meth : Method) (c : Code) (b L : Nat) (xs : Nat → Int32) : Prop :=
  p.tables.exec = Jvm.exec ∧ c.code = code ∧ meth.sig.returnType = ret ∧ c.maxLocals = 7 ∧ s.vm.findClass R_law = some m.cls ∧ (∀ w ∈ lw_tbl, w.before #[Value.ref b] s = true) ∧ va_X b L xs s s.heap ∧ b < s.heap.size ∧ meth.locks = false ∧ (Jvm.Cond.and given_1 narrow_1).before #[Value.ref b] s = true
/-! THE LAW'S WORLD, its loop's picture, rows for its script -/
abbrev lA (s : State) : Nat → Prop := fun q => s.heap.size ≤ q
abbrev wZ (h0 h1 h2 h3 : Nat) (c1 c2 : ClassId) (N P : Int32) (st sz : Nat → Int32) (oa : Nat) (c4 : ClassId) (f : Nat → Int64) (g0 g1 : Nat) (c3 : ClassId) (th Nm : Int32) (B : Nat → Bool) : va_W := [(h0, .inr (0, [.ref h1, .ref h3, .int N, .int P])), (h1, .inr (1, [.ref h2])), (h2, .inl (c1, 512, .inl st)), (h3, .inl (c2, 16384, .inl sz)), (oa, .inl (c4, 1, .inr (.inl f))), (g0, .inr (2, [.int th, .int Nm, .ref g1])), (g1, .inl (c3, 16385, .inl (bz B)))]
abbrev tZ (c1 c2 c4 c3 : ClassId) : List (ClassId × FieldType) := [(c1, .int), (c2, .int), (c4, .long), (c3, .boolean)]
def LawI (D : va_G) (b : Nat) (s : State) (i : Nat) (H : Heap) (locs : List Loc) (ls : Array Slot) : Prop := ∃ (h0 h1 h2 h3 oa g0 g1 : Nat) (c1 c2 c3 c4 : ClassId) (N : Nat) (B : Nat → Bool) (P th : Int32) (st sz : Nat → Int32) (f : Nat → Int64), Rep N B P st sz ∧ va_K D classes (tZ c1 c2 c4 c3) s ∧ va_P D classes (wZ h0 h1 h2 h3 c1 c2 (nI N) P st sz oa c4 f g0 g1 c3 th (nI N) B) H ∧ va_D (lA s) (wZ h0 h1 h2 h3 c1 c2 (nI N) P st sz oa c4 f g0 g1 c3 th (nI N) B) ∧ va_S (lA s) s.heap H locs ∧ lv_has ls 7 [(0, .ref b), (1, .ref h0), (2, .ref g0), (3, .ref oa), (4, .int (nI i))]
theorem lg_self (x : Int64) : lg_cmp x x = 0 := by simp [lg_cmp]
theorem inc3 (a : Nat) : nI a + Int32.ofInt 3 = nI (a + 3) := by rw [show Int32.ofInt 3 = nI 3 from by decide +kernel, nI_add]
theorem law_tS {p : Program} {s : State} {m : MethodId} {meth : Method} {c : Code} {b L : Nat} {xs : Nat → Int32} (C0 : lw_At p s m meth c b L xs) : tS s s.heap := by
  obtain ⟨-, -, -, -, -, hts, -, -, -, hgv⟩ := C0
  have hs := flat_of_before _ hgv
  refine tS.of hts (fun w hw => ?_)
  simp only [lw_zs, List.mem_cons, List.not_mem_nil, or_false] at hw
  rcases hw with rfl | rfl | rfl | rfl
  · exact hts _ (by decide +kernel)
  · exact hts _ (by decide +kernel)
  · exact hs _ (by decide +kernel)
  · exact hs _ (by decide +kernel)
section LWr
variable {p : Program} {l : Launch} {e : Env} {R : Room} {s : State} {m : MethodId} {args : Array Value} {below : List Frame} {meth : Method} {c : Code} {H : Heap} {locs : List Loc} {cells slots : Nat} {Q : State → Prop} {cc : ByteArray} {pc : Nat} {ls : Array Slot} {rest : List Value}
theorem r_sld (hexec : p.tables.exec = Jvm.exec) (hb : c.code = cc) {b L : Nat} {xs : Nat → Int32} (hX : va_X b L xs s s.heap) (hbl : b < s.heap.size) (hS : va_S (lA s) s.heap H locs) {j : Nat} (h : j < L) (hL : L < 2 ^ 31) (hdg : decode cc pc = .ok (.iaload, 1))
    (k : W p l e R s m args below meth c H locs cells slots Q (F0 m (pc + 1) ls (.int (xs j) :: rest))) : W p l e R s m args below meth c H locs cells slots Q (F0 m pc ls (.int (nI j) :: .ref b :: rest)) :=
  va_sld hexec hb hX hbl (A := lA s) (Nat.not_le.mpr hbl) hS (vp_in_nI h hL) hdg (by rw [nI_clamp (Nat.lt_trans h hL)]; exact k)
theorem r_loopC {α : Type} (I : α → Heap → List Loc → Array Slot → Prop) (μ fc fs : α → Nat) (body : ∀ (a : α) (H : Heap) (locs : List Loc) (ls : Array Slot), I a H locs ls → (∀ (a' : α) (H' : Heap) (locs' : List Loc) (ls' : Array Slot), μ a' < μ a → I a' H' locs' ls' → W p l e R s m args below meth c H' locs' (fc a') (fs a') Q (F0 m pc ls' [])) → W p l e R s m args below meth c H locs (fc a) (fs a) Q (F0 m pc ls [])) (a0 : α) (h0 : I a0 H locs ls) :
    W p l e R s m args below meth c H locs (fc a0) (fs a0) Q (F0 m pc ls []) := by
  have key : ∀ (n : Nat) (a : α) (H : Heap) (locs : List Loc) (ls : Array Slot), μ a < n → I a H locs ls → W p l e R s m args below meth c H locs (fc a) (fs a) Q (F0 m pc ls []) := by
    intro n
    induction n with
    | zero => intro a H locs ls h; exact absurd h (Nat.not_lt_zero _)
    | succ n ih => intro a H locs ls h hI; exact body a H locs ls hI (fun a' H' locs' ls' h' hI' => ih a' H' locs' ls' (by omega) hI')
  exact key (μ a0 + 1) a0 H locs ls (Nat.lt_succ_self _) h0
end LWr
end
section
set_option maxHeartbeats 4000000 in
set_option maxRecDepth 100000 in
theorem law_space {p : Program} {l : Launch} {e : Env} {s : State} {m : MethodId} {below : List Frame} {meth : Method} {c : Code} {D : va_G} {b L : Nat} {xs : Nat → Int32} (htr : l.stackTraces = false) (hL : L ≤ 1536) (C0 : lw_At p s m meth c b L xs) {i : Nat} (hi : i + 3 ≤ L) {H : Heap} {locs : List Loc} {ls : Array Slot} (hI : LawI D b s i H locs ls) (ih : ∀ (H : Heap) (locs : List Loc) (ls : Array Slot), LawI D b s (i + 3) H locs ls → W p l e room_1 s m #[Value.ref b] below meth c H locs (10 + (i + 3)) (40000 + 6 * (i + 3)) (lw_Z below #[Value.ref b] s) (F0 m 23 ls [])) : W p l e room_1 s m #[Value.ref b] below meth c H locs (10 + i) (40000 + 6 * i) (lw_Z below #[Value.ref b] s) (F0 m 88 ls []) := by
  obtain ⟨hx, hb, hr, hml, hown, hts, hX, hbl, hlocks, hgv⟩ := id C0
  have hA : ∀ q, s.heap.size ≤ q → lA s q := fun _ h => h
  have cx : CallFix p m c code 7 s #[Value.ref b] lw_gd "StartTableLaw" := ⟨hx, hb, hml, hown, fun w hw => hts w (gd_sub hw)⟩
  obtain ⟨h0, h1, h2, h3, oa, g0, g1, c1, c2, c3, c4, N, B, P, th, st, sz, f, hR, hK, hP, hD, hS, hl⟩ := hI
  have hN := hR.2.1
  have hB0 := hR.2.2.1
  have hBN := hR.2.2.2.1
  have hZ : tS s H := (law_tS C0).kept (fun a ha => hS.2.1 a ha (Nat.not_le.mpr ha))
  obtain ⟨⟨t1, an, N1, B1⟩, hsp⟩ : ∃ z, sp_space N B (xs (i + 1)) = z := ⟨_, rfl⟩
  have ct := cs_L_space l D htr (h0 := h0) (h1 := h1) (h2 := h2) (h3 := h3) (oa := oa) (c1 := c1) (c2 := c2) (c4 := c4) (f := f) hR (x := xs (i + 1))
  have cm := cs_M_space l D (g0 := g0) (g1 := g1) (c3 := c3) (th := th) (N := N) (B := B) (x := xs (i + 1))
  rw [hsp] at ct cm
  refine lv_aload_n hx hb d_L_law_88 rfl (lv_at hl 1 rfl) ?_
  refine lv_aload_n hx hb d_L_law_89 rfl (lv_at hl 0 rfl) ?_
  refine lv_iload hx hb d_L_law_90 (lv_at hl 4 rfl) ?_
  refine lv_iconst (v := nI 1) hx hb d_L_law_92 (by decide +kernel) ?_
  refine r_add hx hb d_L_law_93 ?_
  refine r_sld hx hb hX hbl hS (show i + 1 < L by omega) (by omega) d_L_law_94 ?_
  refine lv_aload_n hx hb d_L_law_95 rfl (lv_at hl 3 rfl) ?_
  refine r_callSW (wr := List.filterMap (fun i : Nat => (wZ h0 h1 h2 h3 c1 c2 (nI N) P st sz oa c4 f g0 g1 c3 th (nI N) B : va_W)[i]?) [5, 6]) (nA := 3) (rest := []) ct cx mc_L_space ml_L_46 ms_L_space mi_L (by decide +kernel) rfl ⟨Nat.le_of_ble_eq_true rfl, Nat.le_of_ble_eq_true rfl⟩ ⟨by show 10 + i + 1 ≤ 601024; omega, by show 40000 + 6 * i + 6 ≤ 7293034; omega⟩ hK hP hD hS hA hZ [0, 1, 2, 3, 4] [5, 6] [0, 1, 2] rfl rfl rfl (by decide) (by decide) (by decide) hl.1 rfl (Nat.le_of_ble_eq_true rfl) d_L_law_96 (fun r9 u9 H locs hw9 hK9 hP hD hS => ?_)
  obtain ⟨P1, st1, sz1, f1⟩ := u9
  obtain ⟨e9, hw2, hR1⟩ := hw9
  dsimp only at e9 hw2 hR1 hP hD
  rw [e9]
  have hP : va_P D classes (wZ h0 h1 h2 h3 c1 c2 (nI N1) P1 st1 sz1 oa c4 f1 g0 g1 c3 th (nI N) B) H := hP.sub [2, 3, 4, 5, 6, 0, 1] rfl
  have hD : va_D (lA s) (wZ h0 h1 h2 h3 c1 c2 (nI N1) P1 st1 sz1 oa c4 f1 g0 g1 c3 th (nI N) B) := hD.sub [2, 3, 4, 5, 6, 0, 1] (by decide) rfl
  refine lv_istore (lv' := [(5, .int t1), (0, .ref b), (1, .ref h0), (2, .ref g0), (3, .ref oa), (4, .int (nI i))]) hx hb d_L_law_99 hl (by decide) rfl (fun ls hl => ?_)
  refine lv_aload_n hx hb d_L_law_101 rfl (lv_at hl 3 rfl) ?_
  refine lv_aload_n hx hb d_L_law_102 rfl (lv_at hl 1 rfl) ?_
  refine lv_iload hx hb d_L_law_103 (lv_at hl 5 rfl) ?_
  refine lv_iconst (v := nI 1) hx hb d_L_law_105 (by decide +kernel) ?_
  refine r_add hx hb d_L_law_106 ?_
  refine r_sld hx hb hX hbl hS (show i + 1 < L by omega) (by omega) d_L_law_107 ?_
  refine r_callVi (wr := List.filterMap (fun i : Nat => (wZ h0 h1 h2 h3 c1 c2 (nI N1) P1 st1 sz1 oa c4 f1 g0 g1 c3 th (nI N) B : va_W)[i]?) [0, 1, 2, 3, 4]) (nA := 1) (rest := []) cm cx (gd_callV mc_M_space ml_L_51 ms_M_space mv_M_space mi_M) (by decide +kernel) rfl ⟨Nat.le_of_ble_eq_true rfl, Nat.le_of_ble_eq_true rfl⟩ ⟨by show 10 + i + 1 + 0 ≤ 601024; omega, by show 40000 + 6 * i + 6 + 0 ≤ 7293034; omega⟩ hK hP hD hS hA [5, 6] [0, 1, 2, 3, 4] [3] rfl rfl rfl (by decide) (by decide) (by decide) (ci := 2) rfl rfl rfl hl.1 rfl (Nat.le_of_ble_eq_true rfl) d_L_law_108 (fun r9 u9 H locs hw9 hK9 hP hD hS => ?_)
  rw [show r9 = an from hw9]
  have hP : va_P D classes (wZ h0 h1 h2 h3 c1 c2 (nI N1) P1 st1 sz1 oa c4 f1 g0 g1 c3 t1 (nI N1) B1) H := hP.sub [0, 1, 2, 3, 4, 5, 6] rfl
  have hD : va_D (lA s) (wZ h0 h1 h2 h3 c1 c2 (nI N1) P1 st1 sz1 oa c4 f1 g0 g1 c3 t1 (nI N1) B1) := hD.sub [0, 1, 2, 3, 4, 5, 6] (by decide) rfl
  refine lv_istore (lv' := [(6, .int an), (5, .int t1), (0, .ref b), (1, .ref h0), (2, .ref g0), (3, .ref oa), (4, .int (nI i))]) hx hb d_L_law_111 hl (by decide) rfl (fun ls hl => ?_)
  refine lv_aload_n hx hb d_L_law_113 rfl (lv_at hl 4 rfl) ?_
  refine r_callPi (nA := 0) (rest := []) (ct_M_thrown l D (g0 := g0) (g1 := g1) (c3 := c3) (th := t1) (N := N1) (B := B1)) cx (gd_callV mc_M_thrown ml_L_52 ms_M_thrown mv_M_thrown mi_M) (by decide +kernel) rfl ⟨rfl, rfl⟩ ⟨Nat.le_of_ble_eq_true rfl, Nat.le_of_ble_eq_true rfl⟩ ⟨by show 10 + i + 1 + 0 ≤ 601024; omega, by show 40000 + 6 * i + 6 + 0 ≤ 7293034; omega⟩ hK hP [5, 6] [3] rfl rfl (ci := 2) rfl rfl rfl hl.1 rfl (Nat.le_of_ble_eq_true rfl) d_L_law_114 (fun r9 h9 => ?_)
  rw [show r9 = t1 from h9]
  refine lv_iload hx hb d_L_law_117 (lv_at hl 1 rfl) ?_
  refine lv_icmp_eq (tgt := 124) hx hb d_L_law_119 (by decide) (fun z => ?_) (fun z => absurd rfl z)
  refine lv_iload hx hb d_L_law_124 (lv_at hl 1 rfl) ?_
  refine lv_if_ne (tgt := 141) hx hb d_L_law_126 (by decide) (fun z1 => ?_) (fun z1 => ?_)
  · refine lv_goto (tgt := 604) hx hb d_L_law_141 (by decide) ?_
    refine lv_iinc (v := nI (i + 3)) (lv' := [(4, .int (nI (i + 3))), (6, .int an), (5, .int t1), (0, .ref b), (1, .ref h0), (2, .ref g0), (3, .ref oa)]) hx hb d_L_law_604 hl (k := 6) rfl (inc3 i) (by decide) rfl (fun ls hl => ?_)
    refine lv_goto (tgt := 23) hx hb d_L_law_607 (by decide) ?_
    refine W.widen (k := 10 + (i + 3)) (n := 40000 + 6 * (i + 3)) (by show 10 + i + 1 + 0 ≤ 10 + (i + 3); omega) (by show 40000 + 6 * i + 6 + 0 ≤ 40000 + 6 * (i + 3); omega) ?_
    exact ih H locs ls ⟨h0, h1, h2, h3, oa, g0, g1, c1, c2, c3, c4, N1, B1, P1, t1, st1, sz1, f1, hR1, hK, hP, hD, hS, lv_sub hl [3, 4, 5, 6, 0] rfl⟩
  · refine lv_aload_n hx hb d_L_law_129 rfl (lv_at hl 5 rfl) ?_
    refine lv_iconst (v := nI 0) hx hb d_L_law_130 (by decide +kernel) ?_
    refine r_lald hx hb hK hP 4 2 rfl rfl (show 0 < 1 by omega) (by omega) (hw2 (by rw [z1, nI_0])) d_L_law_131 ?_
    refine lv_iload hx hb d_L_law_132 (lv_at hl 0 rfl) ?_
    refine lv_i2l (v := an.toInt64) hx hb d_L_law_134 rfl ?_
    refine W.lcmp hx hb d_L_law_135 ?_
    refine lv_if_eq (tgt := 141) hx hb d_L_law_136 (by decide) (fun z => ?_) (fun z => absurd (lg_self _) z)
    refine lv_goto (tgt := 604) hx hb d_L_law_141 (by decide) ?_
    refine lv_iinc (v := nI (i + 3)) (lv' := [(4, .int (nI (i + 3))), (6, .int an), (5, .int t1), (0, .ref b), (1, .ref h0), (2, .ref g0), (3, .ref oa)]) hx hb d_L_law_604 hl (k := 6) rfl (inc3 i) (by decide) rfl (fun ls hl => ?_)
    refine lv_goto (tgt := 23) hx hb d_L_law_607 (by decide) ?_
    refine W.widen (k := 10 + (i + 3)) (n := 40000 + 6 * (i + 3)) (by show 10 + i + 1 + 0 ≤ 10 + (i + 3); omega) (by show 40000 + 6 * i + 6 + 0 ≤ 40000 + 6 * (i + 3); omega) ?_
    exact ih H locs ls ⟨h0, h1, h2, h3, oa, g0, g1, c1, c2, c3, c4, N1, B1, P1, t1, st1, sz1, f1, hR1, hK, hP, hD, hS, lv_sub hl [3, 4, 5, 6, 0] rfl⟩
set_option maxHeartbeats 4000000 in
set_option maxRecDepth 100000 in
theorem law_cut {p : Program} {l : Launch} {e : Env} {s : State} {m : MethodId} {below : List Frame} {meth : Method} {c : Code} {D : va_G} {b L : Nat} {xs : Nat → Int32} (htr : l.stackTraces = false) (hL : L ≤ 1536) (C0 : lw_At p s m meth c b L xs) {i : Nat} (hi : i + 3 ≤ L) {H : Heap} {locs : List Loc} {ls : Array Slot} (hI : LawI D b s i H locs ls) (ih : ∀ (H : Heap) (locs : List Loc) (ls : Array Slot), LawI D b s (i + 3) H locs ls → W p l e room_1 s m #[Value.ref b] below meth c H locs (10 + (i + 3)) (40000 + 6 * (i + 3)) (lw_Z below #[Value.ref b] s) (F0 m 23 ls [])) : W p l e room_1 s m #[Value.ref b] below meth c H locs (10 + i) (40000 + 6 * i) (lw_Z below #[Value.ref b] s) (F0 m 144 ls []) := by
  obtain ⟨hx, hb, hr, hml, hown, hts, hX, hbl, hlocks, hgv⟩ := id C0
  have hA : ∀ q, s.heap.size ≤ q → lA s q := fun _ h => h
  have cx : CallFix p m c code 7 s #[Value.ref b] lw_gd "StartTableLaw" := ⟨hx, hb, hml, hown, fun w hw => hts w (gd_sub hw)⟩
  obtain ⟨h0, h1, h2, h3, oa, g0, g1, c1, c2, c3, c4, N, B, P, th, st, sz, f, hR, hK, hP, hD, hS, hl⟩ := hI
  have hN := hR.2.1
  have hB0 := hR.2.2.1
  have hBN := hR.2.2.2.1
  have hZ : tS s H := (law_tS C0).kept (fun a ha => hS.2.1 a ha (Nat.not_le.mpr ha))
  obtain ⟨⟨t1, an, N1, B1⟩, hsp⟩ : ∃ z, sp_cut N B (xs (i + 1)) = z := ⟨_, rfl⟩
  have ct := cs_L_cut l D htr (h0 := h0) (h1 := h1) (h2 := h2) (h3 := h3) (oa := oa) (c1 := c1) (c2 := c2) (c4 := c4) (f := f) hR (x := xs (i + 1))
  have cm := cs_M_cut l D (g0 := g0) (g1 := g1) (c3 := c3) (th := th) (N := N) (B := B) hN hB0 hBN (x := xs (i + 1))
  rw [hsp] at ct cm
  refine lv_aload_n hx hb d_L_law_144 rfl (lv_at hl 1 rfl) ?_
  refine lv_aload_n hx hb d_L_law_145 rfl (lv_at hl 0 rfl) ?_
  refine lv_iload hx hb d_L_law_146 (lv_at hl 4 rfl) ?_
  refine lv_iconst (v := nI 1) hx hb d_L_law_148 (by decide +kernel) ?_
  refine r_add hx hb d_L_law_149 ?_
  refine r_sld hx hb hX hbl hS (show i + 1 < L by omega) (by omega) d_L_law_150 ?_
  refine lv_aload_n hx hb d_L_law_151 rfl (lv_at hl 3 rfl) ?_
  refine r_callSW (wr := List.filterMap (fun i : Nat => (wZ h0 h1 h2 h3 c1 c2 (nI N) P st sz oa c4 f g0 g1 c3 th (nI N) B : va_W)[i]?) [5, 6]) (nA := 3) (rest := []) ct cx mc_L_cut ml_L_56 ms_L_cut mi_L (by decide +kernel) rfl ⟨Nat.le_of_ble_eq_true rfl, Nat.le_of_ble_eq_true rfl⟩ ⟨by show 10 + i + 1 ≤ 601024; omega, by show 40000 + 6 * i + 6 ≤ 7293034; omega⟩ hK hP hD hS hA hZ [0, 1, 2, 3, 4] [5, 6] [0, 1, 2] rfl rfl rfl (by decide) (by decide) (by decide) hl.1 rfl (Nat.le_of_ble_eq_true rfl) d_L_law_152 (fun r9 u9 H locs hw9 hK9 hP hD hS => ?_)
  obtain ⟨P1, st1, sz1, f1⟩ := u9
  obtain ⟨e9, hw2, hR1⟩ := hw9
  dsimp only at e9 hw2 hR1 hP hD
  rw [e9]
  have hP : va_P D classes (wZ h0 h1 h2 h3 c1 c2 (nI N1) P1 st1 sz1 oa c4 f1 g0 g1 c3 th (nI N) B) H := hP.sub [2, 3, 4, 5, 6, 0, 1] rfl
  have hD : va_D (lA s) (wZ h0 h1 h2 h3 c1 c2 (nI N1) P1 st1 sz1 oa c4 f1 g0 g1 c3 th (nI N) B) := hD.sub [2, 3, 4, 5, 6, 0, 1] (by decide) rfl
  refine lv_istore (lv' := [(5, .int t1), (0, .ref b), (1, .ref h0), (2, .ref g0), (3, .ref oa), (4, .int (nI i))]) hx hb d_L_law_155 hl (by decide) rfl (fun ls hl => ?_)
  refine lv_aload_n hx hb d_L_law_157 rfl (lv_at hl 3 rfl) ?_
  refine lv_aload_n hx hb d_L_law_158 rfl (lv_at hl 1 rfl) ?_
  refine lv_iload hx hb d_L_law_159 (lv_at hl 5 rfl) ?_
  refine lv_iconst (v := nI 1) hx hb d_L_law_161 (by decide +kernel) ?_
  refine r_add hx hb d_L_law_162 ?_
  refine r_sld hx hb hX hbl hS (show i + 1 < L by omega) (by omega) d_L_law_163 ?_
  refine r_callVi (wr := List.filterMap (fun i : Nat => (wZ h0 h1 h2 h3 c1 c2 (nI N1) P1 st1 sz1 oa c4 f1 g0 g1 c3 th (nI N) B : va_W)[i]?) [0, 1, 2, 3, 4]) (nA := 1) (rest := []) cm cx (gd_callV mc_M_cut ml_L_58 ms_M_cut mv_M_cut mi_M) (by decide +kernel) rfl ⟨Nat.le_of_ble_eq_true rfl, Nat.le_of_ble_eq_true rfl⟩ ⟨by show 10 + i + 1 + 0 ≤ 601024; omega, by show 40000 + 6 * i + 6 + 0 ≤ 7293034; omega⟩ hK hP hD hS hA [5, 6] [0, 1, 2, 3, 4] [3] rfl rfl rfl (by decide) (by decide) (by decide) (ci := 2) rfl rfl rfl hl.1 rfl (Nat.le_of_ble_eq_true rfl) d_L_law_164 (fun r9 u9 H locs hw9 hK9 hP hD hS => ?_)
  rw [show r9 = an from hw9]
  have hP : va_P D classes (wZ h0 h1 h2 h3 c1 c2 (nI N1) P1 st1 sz1 oa c4 f1 g0 g1 c3 t1 (nI N1) B1) H := hP.sub [0, 1, 2, 3, 4, 5, 6] rfl
  have hD : va_D (lA s) (wZ h0 h1 h2 h3 c1 c2 (nI N1) P1 st1 sz1 oa c4 f1 g0 g1 c3 t1 (nI N1) B1) := hD.sub [0, 1, 2, 3, 4, 5, 6] (by decide) rfl
  refine lv_istore (lv' := [(6, .int an), (5, .int t1), (0, .ref b), (1, .ref h0), (2, .ref g0), (3, .ref oa), (4, .int (nI i))]) hx hb d_L_law_167 hl (by decide) rfl (fun ls hl => ?_)
  refine lv_aload_n hx hb d_L_law_169 rfl (lv_at hl 4 rfl) ?_
  refine r_callPi (nA := 0) (rest := []) (ct_M_thrown l D (g0 := g0) (g1 := g1) (c3 := c3) (th := t1) (N := N1) (B := B1)) cx (gd_callV mc_M_thrown ml_L_52 ms_M_thrown mv_M_thrown mi_M) (by decide +kernel) rfl ⟨rfl, rfl⟩ ⟨Nat.le_of_ble_eq_true rfl, Nat.le_of_ble_eq_true rfl⟩ ⟨by show 10 + i + 1 + 0 ≤ 601024; omega, by show 40000 + 6 * i + 6 + 0 ≤ 7293034; omega⟩ hK hP [5, 6] [3] rfl rfl (ci := 2) rfl rfl rfl hl.1 rfl (Nat.le_of_ble_eq_true rfl) d_L_law_170 (fun r9 h9 => ?_)
  rw [show r9 = t1 from h9]
  refine lv_iload hx hb d_L_law_173 (lv_at hl 1 rfl) ?_
  refine lv_icmp_eq (tgt := 180) hx hb d_L_law_175 (by decide) (fun z => ?_) (fun z => absurd rfl z)
  refine lv_iload hx hb d_L_law_180 (lv_at hl 1 rfl) ?_
  refine lv_if_ne (tgt := 197) hx hb d_L_law_182 (by decide) (fun z1 => ?_) (fun z1 => ?_)
  · refine lv_goto (tgt := 604) hx hb d_L_law_197 (by decide) ?_
    refine lv_iinc (v := nI (i + 3)) (lv' := [(4, .int (nI (i + 3))), (6, .int an), (5, .int t1), (0, .ref b), (1, .ref h0), (2, .ref g0), (3, .ref oa)]) hx hb d_L_law_604 hl (k := 6) rfl (inc3 i) (by decide) rfl (fun ls hl => ?_)
    refine lv_goto (tgt := 23) hx hb d_L_law_607 (by decide) ?_
    refine W.widen (k := 10 + (i + 3)) (n := 40000 + 6 * (i + 3)) (by show 10 + i + 1 + 0 ≤ 10 + (i + 3); omega) (by show 40000 + 6 * i + 6 + 0 ≤ 40000 + 6 * (i + 3); omega) ?_
    exact ih H locs ls ⟨h0, h1, h2, h3, oa, g0, g1, c1, c2, c3, c4, N1, B1, P1, t1, st1, sz1, f1, hR1, hK, hP, hD, hS, lv_sub hl [3, 4, 5, 6, 0] rfl⟩
  · refine lv_aload_n hx hb d_L_law_185 rfl (lv_at hl 5 rfl) ?_
    refine lv_iconst (v := nI 0) hx hb d_L_law_186 (by decide +kernel) ?_
    refine r_lald hx hb hK hP 4 2 rfl rfl (show 0 < 1 by omega) (by omega) (hw2 (by rw [z1, nI_0])) d_L_law_187 ?_
    refine lv_iload hx hb d_L_law_188 (lv_at hl 0 rfl) ?_
    refine lv_i2l (v := an.toInt64) hx hb d_L_law_190 rfl ?_
    refine W.lcmp hx hb d_L_law_191 ?_
    refine lv_if_eq (tgt := 197) hx hb d_L_law_192 (by decide) (fun z => ?_) (fun z => absurd (lg_self _) z)
    refine lv_goto (tgt := 604) hx hb d_L_law_197 (by decide) ?_
    refine lv_iinc (v := nI (i + 3)) (lv' := [(4, .int (nI (i + 3))), (6, .int an), (5, .int t1), (0, .ref b), (1, .ref h0), (2, .ref g0), (3, .ref oa)]) hx hb d_L_law_604 hl (k := 6) rfl (inc3 i) (by decide) rfl (fun ls hl => ?_)
    refine lv_goto (tgt := 23) hx hb d_L_law_607 (by decide) ?_
    refine W.widen (k := 10 + (i + 3)) (n := 40000 + 6 * (i + 3)) (by show 10 + i + 1 + 0 ≤ 10 + (i + 3); omega) (by show 40000 + 6 * i + 6 + 0 ≤ 40000 + 6 * (i + 3); omega) ?_
    exact ih H locs ls ⟨h0, h1, h2, h3, oa, g0, g1, c1, c2, c3, c4, N1, B1, P1, t1, st1, sz1, f1, hR1, hK, hP, hD, hS, lv_sub hl [3, 4, 5, 6, 0] rfl⟩
set_option maxHeartbeats 4000000 in
set_option maxRecDepth 100000 in
theorem law_join {p : Program} {l : Launch} {e : Env} {s : State} {m : MethodId} {below : List Frame} {meth : Method} {c : Code} {D : va_G} {b L : Nat} {xs : Nat → Int32} (htr : l.stackTraces = false) (hL : L ≤ 1536) (C0 : lw_At p s m meth c b L xs) {i : Nat} (hi : i + 3 ≤ L) {H : Heap} {locs : List Loc} {ls : Array Slot} (hI : LawI D b s i H locs ls) (ih : ∀ (H : Heap) (locs : List Loc) (ls : Array Slot), LawI D b s (i + 3) H locs ls → W p l e room_1 s m #[Value.ref b] below meth c H locs (10 + (i + 3)) (40000 + 6 * (i + 3)) (lw_Z below #[Value.ref b] s) (F0 m 23 ls [])) : W p l e room_1 s m #[Value.ref b] below meth c H locs (10 + i) (40000 + 6 * i) (lw_Z below #[Value.ref b] s) (F0 m 200 ls []) := by
  obtain ⟨hx, hb, hr, hml, hown, hts, hX, hbl, hlocks, hgv⟩ := id C0
  have hA : ∀ q, s.heap.size ≤ q → lA s q := fun _ h => h
  have cx : CallFix p m c code 7 s #[Value.ref b] lw_gd "StartTableLaw" := ⟨hx, hb, hml, hown, fun w hw => hts w (gd_sub hw)⟩
  obtain ⟨h0, h1, h2, h3, oa, g0, g1, c1, c2, c3, c4, N, B, P, th, st, sz, f, hR, hK, hP, hD, hS, hl⟩ := hI
  have hN := hR.2.1
  have hB0 := hR.2.2.1
  have hBN := hR.2.2.2.1
  have hZ : tS s H := (law_tS C0).kept (fun a ha => hS.2.1 a ha (Nat.not_le.mpr ha))
  obtain ⟨⟨t1, an, N1, B1⟩, hsp⟩ : ∃ z, sp_join N B (xs (i + 1)) = z := ⟨_, rfl⟩
  have ct := cs_L_join l D htr (h0 := h0) (h1 := h1) (h2 := h2) (h3 := h3) (oa := oa) (c1 := c1) (c2 := c2) (c4 := c4) (f := f) hR (x := xs (i + 1))
  have cm := cs_M_join l D (g0 := g0) (g1 := g1) (c3 := c3) (th := th) (N := N) (B := B) hN hB0 hBN (x := xs (i + 1))
  rw [hsp] at ct cm
  refine lv_aload_n hx hb d_L_law_200 rfl (lv_at hl 1 rfl) ?_
  refine lv_aload_n hx hb d_L_law_201 rfl (lv_at hl 0 rfl) ?_
  refine lv_iload hx hb d_L_law_202 (lv_at hl 4 rfl) ?_
  refine lv_iconst (v := nI 1) hx hb d_L_law_204 (by decide +kernel) ?_
  refine r_add hx hb d_L_law_205 ?_
  refine r_sld hx hb hX hbl hS (show i + 1 < L by omega) (by omega) d_L_law_206 ?_
  refine lv_aload_n hx hb d_L_law_207 rfl (lv_at hl 3 rfl) ?_
  refine r_callSW (wr := List.filterMap (fun i : Nat => (wZ h0 h1 h2 h3 c1 c2 (nI N) P st sz oa c4 f g0 g1 c3 th (nI N) B : va_W)[i]?) [5, 6]) (nA := 3) (rest := []) ct cx mc_L_join ml_L_59 ms_L_join mi_L (by decide +kernel) rfl ⟨Nat.le_of_ble_eq_true rfl, Nat.le_of_ble_eq_true rfl⟩ ⟨by show 10 + i + 1 ≤ 601024; omega, by show 40000 + 6 * i + 6 ≤ 7293034; omega⟩ hK hP hD hS hA hZ [0, 1, 2, 3, 4] [5, 6] [0, 1, 2] rfl rfl rfl (by decide) (by decide) (by decide) hl.1 rfl (Nat.le_of_ble_eq_true rfl) d_L_law_208 (fun r9 u9 H locs hw9 hK9 hP hD hS => ?_)
  obtain ⟨P1, st1, sz1, f1⟩ := u9
  obtain ⟨e9, hw2, hR1⟩ := hw9
  dsimp only at e9 hw2 hR1 hP hD
  rw [e9]
  have hP : va_P D classes (wZ h0 h1 h2 h3 c1 c2 (nI N1) P1 st1 sz1 oa c4 f1 g0 g1 c3 th (nI N) B) H := hP.sub [2, 3, 4, 5, 6, 0, 1] rfl
  have hD : va_D (lA s) (wZ h0 h1 h2 h3 c1 c2 (nI N1) P1 st1 sz1 oa c4 f1 g0 g1 c3 th (nI N) B) := hD.sub [2, 3, 4, 5, 6, 0, 1] (by decide) rfl
  refine lv_istore (lv' := [(5, .int t1), (0, .ref b), (1, .ref h0), (2, .ref g0), (3, .ref oa), (4, .int (nI i))]) hx hb d_L_law_211 hl (by decide) rfl (fun ls hl => ?_)
  refine lv_aload_n hx hb d_L_law_213 rfl (lv_at hl 3 rfl) ?_
  refine lv_aload_n hx hb d_L_law_214 rfl (lv_at hl 1 rfl) ?_
  refine lv_iload hx hb d_L_law_215 (lv_at hl 5 rfl) ?_
  refine lv_iconst (v := nI 1) hx hb d_L_law_217 (by decide +kernel) ?_
  refine r_add hx hb d_L_law_218 ?_
  refine r_sld hx hb hX hbl hS (show i + 1 < L by omega) (by omega) d_L_law_219 ?_
  refine r_callVi (wr := List.filterMap (fun i : Nat => (wZ h0 h1 h2 h3 c1 c2 (nI N1) P1 st1 sz1 oa c4 f1 g0 g1 c3 th (nI N) B : va_W)[i]?) [0, 1, 2, 3, 4]) (nA := 1) (rest := []) cm cx (gd_callV mc_M_join ml_L_61 ms_M_join mv_M_join mi_M) (by decide +kernel) rfl ⟨Nat.le_of_ble_eq_true rfl, Nat.le_of_ble_eq_true rfl⟩ ⟨by show 10 + i + 1 + 0 ≤ 601024; omega, by show 40000 + 6 * i + 6 + 0 ≤ 7293034; omega⟩ hK hP hD hS hA [5, 6] [0, 1, 2, 3, 4] [3] rfl rfl rfl (by decide) (by decide) (by decide) (ci := 2) rfl rfl rfl hl.1 rfl (Nat.le_of_ble_eq_true rfl) d_L_law_220 (fun r9 u9 H locs hw9 hK9 hP hD hS => ?_)
  rw [show r9 = an from hw9]
  have hP : va_P D classes (wZ h0 h1 h2 h3 c1 c2 (nI N1) P1 st1 sz1 oa c4 f1 g0 g1 c3 t1 (nI N1) B1) H := hP.sub [0, 1, 2, 3, 4, 5, 6] rfl
  have hD : va_D (lA s) (wZ h0 h1 h2 h3 c1 c2 (nI N1) P1 st1 sz1 oa c4 f1 g0 g1 c3 t1 (nI N1) B1) := hD.sub [0, 1, 2, 3, 4, 5, 6] (by decide) rfl
  refine lv_istore (lv' := [(6, .int an), (5, .int t1), (0, .ref b), (1, .ref h0), (2, .ref g0), (3, .ref oa), (4, .int (nI i))]) hx hb d_L_law_223 hl (by decide) rfl (fun ls hl => ?_)
  refine lv_aload_n hx hb d_L_law_225 rfl (lv_at hl 4 rfl) ?_
  refine r_callPi (nA := 0) (rest := []) (ct_M_thrown l D (g0 := g0) (g1 := g1) (c3 := c3) (th := t1) (N := N1) (B := B1)) cx (gd_callV mc_M_thrown ml_L_52 ms_M_thrown mv_M_thrown mi_M) (by decide +kernel) rfl ⟨rfl, rfl⟩ ⟨Nat.le_of_ble_eq_true rfl, Nat.le_of_ble_eq_true rfl⟩ ⟨by show 10 + i + 1 + 0 ≤ 601024; omega, by show 40000 + 6 * i + 6 + 0 ≤ 7293034; omega⟩ hK hP [5, 6] [3] rfl rfl (ci := 2) rfl rfl rfl hl.1 rfl (Nat.le_of_ble_eq_true rfl) d_L_law_226 (fun r9 h9 => ?_)
  rw [show r9 = t1 from h9]
  refine lv_iload hx hb d_L_law_229 (lv_at hl 1 rfl) ?_
  refine lv_icmp_eq (tgt := 236) hx hb d_L_law_231 (by decide) (fun z => ?_) (fun z => absurd rfl z)
  refine lv_iload hx hb d_L_law_236 (lv_at hl 1 rfl) ?_
  refine lv_if_ne (tgt := 253) hx hb d_L_law_238 (by decide) (fun z1 => ?_) (fun z1 => ?_)
  · refine lv_goto (tgt := 604) hx hb d_L_law_253 (by decide) ?_
    refine lv_iinc (v := nI (i + 3)) (lv' := [(4, .int (nI (i + 3))), (6, .int an), (5, .int t1), (0, .ref b), (1, .ref h0), (2, .ref g0), (3, .ref oa)]) hx hb d_L_law_604 hl (k := 6) rfl (inc3 i) (by decide) rfl (fun ls hl => ?_)
    refine lv_goto (tgt := 23) hx hb d_L_law_607 (by decide) ?_
    refine W.widen (k := 10 + (i + 3)) (n := 40000 + 6 * (i + 3)) (by show 10 + i + 1 + 0 ≤ 10 + (i + 3); omega) (by show 40000 + 6 * i + 6 + 0 ≤ 40000 + 6 * (i + 3); omega) ?_
    exact ih H locs ls ⟨h0, h1, h2, h3, oa, g0, g1, c1, c2, c3, c4, N1, B1, P1, t1, st1, sz1, f1, hR1, hK, hP, hD, hS, lv_sub hl [3, 4, 5, 6, 0] rfl⟩
  · refine lv_aload_n hx hb d_L_law_241 rfl (lv_at hl 5 rfl) ?_
    refine lv_iconst (v := nI 0) hx hb d_L_law_242 (by decide +kernel) ?_
    refine r_lald hx hb hK hP 4 2 rfl rfl (show 0 < 1 by omega) (by omega) (hw2 (by rw [z1, nI_0])) d_L_law_243 ?_
    refine lv_iload hx hb d_L_law_244 (lv_at hl 0 rfl) ?_
    refine lv_i2l (v := an.toInt64) hx hb d_L_law_246 rfl ?_
    refine W.lcmp hx hb d_L_law_247 ?_
    refine lv_if_eq (tgt := 253) hx hb d_L_law_248 (by decide) (fun z => ?_) (fun z => absurd (lg_self _) z)
    refine lv_goto (tgt := 604) hx hb d_L_law_253 (by decide) ?_
    refine lv_iinc (v := nI (i + 3)) (lv' := [(4, .int (nI (i + 3))), (6, .int an), (5, .int t1), (0, .ref b), (1, .ref h0), (2, .ref g0), (3, .ref oa)]) hx hb d_L_law_604 hl (k := 6) rfl (inc3 i) (by decide) rfl (fun ls hl => ?_)
    refine lv_goto (tgt := 23) hx hb d_L_law_607 (by decide) ?_
    refine W.widen (k := 10 + (i + 3)) (n := 40000 + 6 * (i + 3)) (by show 10 + i + 1 + 0 ≤ 10 + (i + 3); omega) (by show 40000 + 6 * i + 6 + 0 ≤ 40000 + 6 * (i + 3); omega) ?_
    exact ih H locs ls ⟨h0, h1, h2, h3, oa, g0, g1, c1, c2, c3, c4, N1, B1, P1, t1, st1, sz1, f1, hR1, hK, hP, hD, hS, lv_sub hl [3, 4, 5, 6, 0] rfl⟩
set_option maxHeartbeats 4000000 in
set_option maxRecDepth 100000 in
theorem law_make {p : Program} {l : Launch} {e : Env} {s : State} {m : MethodId} {below : List Frame} {meth : Method} {c : Code} {D : va_G} {b L : Nat} {xs : Nat → Int32} (htr : l.stackTraces = false) (hL : L ≤ 1536) (C0 : lw_At p s m meth c b L xs) {i : Nat} (hi : i + 3 ≤ L) {H : Heap} {locs : List Loc} {ls : Array Slot} (hI : LawI D b s i H locs ls) (ih : ∀ (H : Heap) (locs : List Loc) (ls : Array Slot), LawI D b s (i + 3) H locs ls → W p l e room_1 s m #[Value.ref b] below meth c H locs (10 + (i + 3)) (40000 + 6 * (i + 3)) (lw_Z below #[Value.ref b] s) (F0 m 23 ls [])) : W p l e room_1 s m #[Value.ref b] below meth c H locs (10 + i) (40000 + 6 * i) (lw_Z below #[Value.ref b] s) (F0 m 256 ls []) := by
  obtain ⟨hx, hb, hr, hml, hown, hts, hX, hbl, hlocks, hgv⟩ := id C0
  have hA : ∀ q, s.heap.size ≤ q → lA s q := fun _ h => h
  have cx : CallFix p m c code 7 s #[Value.ref b] lw_gd "StartTableLaw" := ⟨hx, hb, hml, hown, fun w hw => hts w (gd_sub hw)⟩
  obtain ⟨h0, h1, h2, h3, oa, g0, g1, c1, c2, c3, c4, N, B, P, th, st, sz, f, hR, hK, hP, hD, hS, hl⟩ := hI
  have hN := hR.2.1
  have hB0 := hR.2.2.1
  have hBN := hR.2.2.2.1
  have hZ : tS s H := (law_tS C0).kept (fun a ha => hS.2.1 a ha (Nat.not_le.mpr ha))
  obtain ⟨⟨t1, an, N1, B1⟩, hsp⟩ : ∃ z, sp_make N B (xs (i + 1)) (xs (i + 2)) = z := ⟨_, rfl⟩
  have ct := cs_L_make l D htr (h0 := h0) (h1 := h1) (h2 := h2) (h3 := h3) (oa := oa) (c1 := c1) (c2 := c2) (c4 := c4) (f := f) hR (x := xs (i + 1)) (y := xs (i + 2))
  have cm := cs_M_make l D (g0 := g0) (g1 := g1) (c3 := c3) (th := th) (N := N) (B := B) hN (x := xs (i + 1)) (y := xs (i + 2))
  rw [hsp] at ct cm
  refine lv_aload_n hx hb d_L_law_256 rfl (lv_at hl 1 rfl) ?_
  refine lv_aload_n hx hb d_L_law_257 rfl (lv_at hl 0 rfl) ?_
  refine lv_iload hx hb d_L_law_258 (lv_at hl 4 rfl) ?_
  refine lv_iconst (v := nI 1) hx hb d_L_law_260 (by decide +kernel) ?_
  refine r_add hx hb d_L_law_261 ?_
  refine r_sld hx hb hX hbl hS (show i + 1 < L by omega) (by omega) d_L_law_262 ?_
  refine lv_aload_n hx hb d_L_law_263 rfl (lv_at hl 0 rfl) ?_
  refine lv_iload hx hb d_L_law_264 (lv_at hl 4 rfl) ?_
  refine lv_iconst (v := nI 2) hx hb d_L_law_266 (by decide +kernel) ?_
  refine r_add hx hb d_L_law_267 ?_
  refine r_sld hx hb hX hbl hS (show i + 2 < L by omega) (by omega) d_L_law_268 ?_
  refine lv_aload_n hx hb d_L_law_269 rfl (lv_at hl 3 rfl) ?_
  refine r_callSW (wr := List.filterMap (fun i : Nat => (wZ h0 h1 h2 h3 c1 c2 (nI N) P st sz oa c4 f g0 g1 c3 th (nI N) B : va_W)[i]?) [5, 6]) (nA := 4) (rest := []) ct cx mc_L_make ml_L_62 ms_L_make mi_L (by decide +kernel) rfl ⟨Nat.le_of_ble_eq_true rfl, Nat.le_of_ble_eq_true rfl⟩ ⟨by show 10 + i + 1 ≤ 601024; omega, by show 40000 + 6 * i + 6 ≤ 7293034; omega⟩ hK hP hD hS hA hZ [0, 1, 2, 3, 4] [5, 6] [0, 1, 2] rfl rfl rfl (by decide) (by decide) (by decide) hl.1 rfl (Nat.le_of_ble_eq_true rfl) d_L_law_270 (fun r9 u9 H locs hw9 hK9 hP hD hS => ?_)
  obtain ⟨P1, st1, sz1, f1⟩ := u9
  obtain ⟨e9, hw2, hR1⟩ := hw9
  dsimp only at e9 hw2 hR1 hP hD
  rw [e9]
  have hP : va_P D classes (wZ h0 h1 h2 h3 c1 c2 (nI N1) P1 st1 sz1 oa c4 f1 g0 g1 c3 th (nI N) B) H := hP.sub [2, 3, 4, 5, 6, 0, 1] rfl
  have hD : va_D (lA s) (wZ h0 h1 h2 h3 c1 c2 (nI N1) P1 st1 sz1 oa c4 f1 g0 g1 c3 th (nI N) B) := hD.sub [2, 3, 4, 5, 6, 0, 1] (by decide) rfl
  refine lv_istore (lv' := [(5, .int t1), (0, .ref b), (1, .ref h0), (2, .ref g0), (3, .ref oa), (4, .int (nI i))]) hx hb d_L_law_273 hl (by decide) rfl (fun ls hl => ?_)
  refine lv_aload_n hx hb d_L_law_275 rfl (lv_at hl 3 rfl) ?_
  refine lv_aload_n hx hb d_L_law_276 rfl (lv_at hl 1 rfl) ?_
  refine lv_iload hx hb d_L_law_277 (lv_at hl 5 rfl) ?_
  refine lv_iconst (v := nI 1) hx hb d_L_law_279 (by decide +kernel) ?_
  refine r_add hx hb d_L_law_280 ?_
  refine r_sld hx hb hX hbl hS (show i + 1 < L by omega) (by omega) d_L_law_281 ?_
  refine lv_aload_n hx hb d_L_law_282 rfl (lv_at hl 1 rfl) ?_
  refine lv_iload hx hb d_L_law_283 (lv_at hl 5 rfl) ?_
  refine lv_iconst (v := nI 2) hx hb d_L_law_285 (by decide +kernel) ?_
  refine r_add hx hb d_L_law_286 ?_
  refine r_sld hx hb hX hbl hS (show i + 2 < L by omega) (by omega) d_L_law_287 ?_
  refine r_callVi (wr := List.filterMap (fun i : Nat => (wZ h0 h1 h2 h3 c1 c2 (nI N1) P1 st1 sz1 oa c4 f1 g0 g1 c3 th (nI N) B : va_W)[i]?) [0, 1, 2, 3, 4]) (nA := 2) (rest := []) cm cx (gd_callV mc_M_make ml_L_65 ms_M_make mv_M_make mi_M) (by decide +kernel) rfl ⟨Nat.le_of_ble_eq_true rfl, Nat.le_of_ble_eq_true rfl⟩ ⟨by show 10 + i + 1 + 0 ≤ 601024; omega, by show 40000 + 6 * i + 6 + 0 ≤ 7293034; omega⟩ hK hP hD hS hA [5, 6] [0, 1, 2, 3, 4] [3] rfl rfl rfl (by decide) (by decide) (by decide) (ci := 2) rfl rfl rfl hl.1 rfl (Nat.le_of_ble_eq_true rfl) d_L_law_288 (fun r9 u9 H locs hw9 hK9 hP hD hS => ?_)
  rw [show r9 = an from hw9]
  have hP : va_P D classes (wZ h0 h1 h2 h3 c1 c2 (nI N1) P1 st1 sz1 oa c4 f1 g0 g1 c3 t1 (nI N1) B1) H := hP.sub [0, 1, 2, 3, 4, 5, 6] rfl
  have hD : va_D (lA s) (wZ h0 h1 h2 h3 c1 c2 (nI N1) P1 st1 sz1 oa c4 f1 g0 g1 c3 t1 (nI N1) B1) := hD.sub [0, 1, 2, 3, 4, 5, 6] (by decide) rfl
  refine lv_istore (lv' := [(6, .int an), (5, .int t1), (0, .ref b), (1, .ref h0), (2, .ref g0), (3, .ref oa), (4, .int (nI i))]) hx hb d_L_law_291 hl (by decide) rfl (fun ls hl => ?_)
  refine lv_aload_n hx hb d_L_law_293 rfl (lv_at hl 4 rfl) ?_
  refine r_callPi (nA := 0) (rest := []) (ct_M_thrown l D (g0 := g0) (g1 := g1) (c3 := c3) (th := t1) (N := N1) (B := B1)) cx (gd_callV mc_M_thrown ml_L_52 ms_M_thrown mv_M_thrown mi_M) (by decide +kernel) rfl ⟨rfl, rfl⟩ ⟨Nat.le_of_ble_eq_true rfl, Nat.le_of_ble_eq_true rfl⟩ ⟨by show 10 + i + 1 + 0 ≤ 601024; omega, by show 40000 + 6 * i + 6 + 0 ≤ 7293034; omega⟩ hK hP [5, 6] [3] rfl rfl (ci := 2) rfl rfl rfl hl.1 rfl (Nat.le_of_ble_eq_true rfl) d_L_law_294 (fun r9 h9 => ?_)
  rw [show r9 = t1 from h9]
  refine lv_iload hx hb d_L_law_297 (lv_at hl 1 rfl) ?_
  refine lv_icmp_eq (tgt := 304) hx hb d_L_law_299 (by decide) (fun z => ?_) (fun z => absurd rfl z)
  refine lv_iload hx hb d_L_law_304 (lv_at hl 1 rfl) ?_
  refine lv_if_ne (tgt := 321) hx hb d_L_law_306 (by decide) (fun z1 => ?_) (fun z1 => ?_)
  · refine lv_goto (tgt := 604) hx hb d_L_law_321 (by decide) ?_
    refine lv_iinc (v := nI (i + 3)) (lv' := [(4, .int (nI (i + 3))), (6, .int an), (5, .int t1), (0, .ref b), (1, .ref h0), (2, .ref g0), (3, .ref oa)]) hx hb d_L_law_604 hl (k := 6) rfl (inc3 i) (by decide) rfl (fun ls hl => ?_)
    refine lv_goto (tgt := 23) hx hb d_L_law_607 (by decide) ?_
    refine W.widen (k := 10 + (i + 3)) (n := 40000 + 6 * (i + 3)) (by show 10 + i + 1 + 0 ≤ 10 + (i + 3); omega) (by show 40000 + 6 * i + 6 + 0 ≤ 40000 + 6 * (i + 3); omega) ?_
    exact ih H locs ls ⟨h0, h1, h2, h3, oa, g0, g1, c1, c2, c3, c4, N1, B1, P1, t1, st1, sz1, f1, hR1, hK, hP, hD, hS, lv_sub hl [3, 4, 5, 6, 0] rfl⟩
  · refine lv_aload_n hx hb d_L_law_309 rfl (lv_at hl 5 rfl) ?_
    refine lv_iconst (v := nI 0) hx hb d_L_law_310 (by decide +kernel) ?_
    refine r_lald hx hb hK hP 4 2 rfl rfl (show 0 < 1 by omega) (by omega) (hw2 (by rw [z1, nI_0])) d_L_law_311 ?_
    refine lv_iload hx hb d_L_law_312 (lv_at hl 0 rfl) ?_
    refine lv_i2l (v := an.toInt64) hx hb d_L_law_314 rfl ?_
    refine W.lcmp hx hb d_L_law_315 ?_
    refine lv_if_eq (tgt := 321) hx hb d_L_law_316 (by decide) (fun z => ?_) (fun z => absurd (lg_self _) z)
    refine lv_goto (tgt := 604) hx hb d_L_law_321 (by decide) ?_
    refine lv_iinc (v := nI (i + 3)) (lv' := [(4, .int (nI (i + 3))), (6, .int an), (5, .int t1), (0, .ref b), (1, .ref h0), (2, .ref g0), (3, .ref oa)]) hx hb d_L_law_604 hl (k := 6) rfl (inc3 i) (by decide) rfl (fun ls hl => ?_)
    refine lv_goto (tgt := 23) hx hb d_L_law_607 (by decide) ?_
    refine W.widen (k := 10 + (i + 3)) (n := 40000 + 6 * (i + 3)) (by show 10 + i + 1 + 0 ≤ 10 + (i + 3); omega) (by show 40000 + 6 * i + 6 + 0 ≤ 40000 + 6 * (i + 3); omega) ?_
    exact ih H locs ls ⟨h0, h1, h2, h3, oa, g0, g1, c1, c2, c3, c4, N1, B1, P1, t1, st1, sz1, f1, hR1, hK, hP, hD, hS, lv_sub hl [3, 4, 5, 6, 0] rfl⟩
set_option maxHeartbeats 4000000 in
set_option maxRecDepth 100000 in
theorem law_begin {p : Program} {l : Launch} {e : Env} {s : State} {m : MethodId} {below : List Frame} {meth : Method} {c : Code} {D : va_G} {b L : Nat} {xs : Nat → Int32} (htr : l.stackTraces = false) (hL : L ≤ 1536) (C0 : lw_At p s m meth c b L xs) {i : Nat} (hi : i + 3 ≤ L) {H : Heap} {locs : List Loc} {ls : Array Slot} (hI : LawI D b s i H locs ls) (ih : ∀ (H : Heap) (locs : List Loc) (ls : Array Slot), LawI D b s (i + 3) H locs ls → W p l e room_1 s m #[Value.ref b] below meth c H locs (10 + (i + 3)) (40000 + 6 * (i + 3)) (lw_Z below #[Value.ref b] s) (F0 m 23 ls [])) : W p l e room_1 s m #[Value.ref b] below meth c H locs (10 + i) (40000 + 6 * i) (lw_Z below #[Value.ref b] s) (F0 m 324 ls []) := by
  obtain ⟨hx, hb, hr, hml, hown, hts, hX, hbl, hlocks, hgv⟩ := id C0
  have hA : ∀ q, s.heap.size ≤ q → lA s q := fun _ h => h
  have cx : CallFix p m c code 7 s #[Value.ref b] lw_gd "StartTableLaw" := ⟨hx, hb, hml, hown, fun w hw => hts w (gd_sub hw)⟩
  obtain ⟨h0, h1, h2, h3, oa, g0, g1, c1, c2, c3, c4, N, B, P, th, st, sz, f, hR, hK, hP, hD, hS, hl⟩ := hI
  have hN := hR.2.1
  have hB0 := hR.2.2.1
  have hBN := hR.2.2.2.1
  have hZ : tS s H := (law_tS C0).kept (fun a ha => hS.2.1 a ha (Nat.not_le.mpr ha))
  obtain ⟨⟨t1, an, N1, B1⟩, hsp⟩ : ∃ z, sp_begin N B (xs (i + 1)) = z := ⟨_, rfl⟩
  have ct := cs_L_begin l D htr (h0 := h0) (h1 := h1) (h2 := h2) (h3 := h3) (oa := oa) (c1 := c1) (c2 := c2) (c4 := c4) (f := f) hR (x := xs (i + 1))
  have cm := cs_M_begin l D (g0 := g0) (g1 := g1) (c3 := c3) (th := th) (N := N) (B := B) hN hB0 hBN (x := xs (i + 1))
  rw [hsp] at ct cm
  refine lv_aload_n hx hb d_L_law_324 rfl (lv_at hl 1 rfl) ?_
  refine lv_aload_n hx hb d_L_law_325 rfl (lv_at hl 0 rfl) ?_
  refine lv_iload hx hb d_L_law_326 (lv_at hl 4 rfl) ?_
  refine lv_iconst (v := nI 1) hx hb d_L_law_328 (by decide +kernel) ?_
  refine r_add hx hb d_L_law_329 ?_
  refine r_sld hx hb hX hbl hS (show i + 1 < L by omega) (by omega) d_L_law_330 ?_
  refine lv_aload_n hx hb d_L_law_331 rfl (lv_at hl 3 rfl) ?_
  refine r_callSW (wr := List.filterMap (fun i : Nat => (wZ h0 h1 h2 h3 c1 c2 (nI N) P st sz oa c4 f g0 g1 c3 th (nI N) B : va_W)[i]?) [5, 6]) (nA := 3) (rest := []) ct cx mc_L_begin ml_L_66 ms_L_begin mi_L (by decide +kernel) rfl ⟨Nat.le_of_ble_eq_true rfl, Nat.le_of_ble_eq_true rfl⟩ ⟨by show 10 + i + 1 ≤ 601024; omega, by show 40000 + 6 * i + 6 ≤ 7293034; omega⟩ hK hP hD hS hA hZ [0, 1, 2, 3, 4] [5, 6] [0, 1, 2] rfl rfl rfl (by decide) (by decide) (by decide) hl.1 rfl (Nat.le_of_ble_eq_true rfl) d_L_law_332 (fun r9 u9 H locs hw9 hK9 hP hD hS => ?_)
  obtain ⟨P1, st1, sz1, f1⟩ := u9
  obtain ⟨e9, hw2, hR1⟩ := hw9
  dsimp only at e9 hw2 hR1 hP hD
  rw [e9]
  have hP : va_P D classes (wZ h0 h1 h2 h3 c1 c2 (nI N1) P1 st1 sz1 oa c4 f1 g0 g1 c3 th (nI N) B) H := hP.sub [2, 3, 4, 5, 6, 0, 1] rfl
  have hD : va_D (lA s) (wZ h0 h1 h2 h3 c1 c2 (nI N1) P1 st1 sz1 oa c4 f1 g0 g1 c3 th (nI N) B) := hD.sub [2, 3, 4, 5, 6, 0, 1] (by decide) rfl
  refine lv_istore (lv' := [(5, .int t1), (0, .ref b), (1, .ref h0), (2, .ref g0), (3, .ref oa), (4, .int (nI i))]) hx hb d_L_law_335 hl (by decide) rfl (fun ls hl => ?_)
  refine lv_aload_n hx hb d_L_law_337 rfl (lv_at hl 3 rfl) ?_
  refine lv_aload_n hx hb d_L_law_338 rfl (lv_at hl 1 rfl) ?_
  refine lv_iload hx hb d_L_law_339 (lv_at hl 5 rfl) ?_
  refine lv_iconst (v := nI 1) hx hb d_L_law_341 (by decide +kernel) ?_
  refine r_add hx hb d_L_law_342 ?_
  refine r_sld hx hb hX hbl hS (show i + 1 < L by omega) (by omega) d_L_law_343 ?_
  refine r_callVi (wr := List.filterMap (fun i : Nat => (wZ h0 h1 h2 h3 c1 c2 (nI N1) P1 st1 sz1 oa c4 f1 g0 g1 c3 th (nI N) B : va_W)[i]?) [0, 1, 2, 3, 4]) (nA := 1) (rest := []) cm cx (gd_callV mc_M_begin ml_L_68 ms_M_begin mv_M_begin mi_M) (by decide +kernel) rfl ⟨Nat.le_of_ble_eq_true rfl, Nat.le_of_ble_eq_true rfl⟩ ⟨by show 10 + i + 1 + 0 ≤ 601024; omega, by show 40000 + 6 * i + 6 + 0 ≤ 7293034; omega⟩ hK hP hD hS hA [5, 6] [0, 1, 2, 3, 4] [3] rfl rfl rfl (by decide) (by decide) (by decide) (ci := 2) rfl rfl rfl hl.1 rfl (Nat.le_of_ble_eq_true rfl) d_L_law_344 (fun r9 u9 H locs hw9 hK9 hP hD hS => ?_)
  rw [show r9 = an from hw9]
  have hP : va_P D classes (wZ h0 h1 h2 h3 c1 c2 (nI N1) P1 st1 sz1 oa c4 f1 g0 g1 c3 t1 (nI N1) B1) H := hP.sub [0, 1, 2, 3, 4, 5, 6] rfl
  have hD : va_D (lA s) (wZ h0 h1 h2 h3 c1 c2 (nI N1) P1 st1 sz1 oa c4 f1 g0 g1 c3 t1 (nI N1) B1) := hD.sub [0, 1, 2, 3, 4, 5, 6] (by decide) rfl
  refine lv_istore (lv' := [(6, .int an), (5, .int t1), (0, .ref b), (1, .ref h0), (2, .ref g0), (3, .ref oa), (4, .int (nI i))]) hx hb d_L_law_347 hl (by decide) rfl (fun ls hl => ?_)
  refine lv_aload_n hx hb d_L_law_349 rfl (lv_at hl 4 rfl) ?_
  refine r_callPi (nA := 0) (rest := []) (ct_M_thrown l D (g0 := g0) (g1 := g1) (c3 := c3) (th := t1) (N := N1) (B := B1)) cx (gd_callV mc_M_thrown ml_L_52 ms_M_thrown mv_M_thrown mi_M) (by decide +kernel) rfl ⟨rfl, rfl⟩ ⟨Nat.le_of_ble_eq_true rfl, Nat.le_of_ble_eq_true rfl⟩ ⟨by show 10 + i + 1 + 0 ≤ 601024; omega, by show 40000 + 6 * i + 6 + 0 ≤ 7293034; omega⟩ hK hP [5, 6] [3] rfl rfl (ci := 2) rfl rfl rfl hl.1 rfl (Nat.le_of_ble_eq_true rfl) d_L_law_350 (fun r9 h9 => ?_)
  rw [show r9 = t1 from h9]
  refine lv_iload hx hb d_L_law_353 (lv_at hl 1 rfl) ?_
  refine lv_icmp_eq (tgt := 360) hx hb d_L_law_355 (by decide) (fun z => ?_) (fun z => absurd rfl z)
  refine lv_iload hx hb d_L_law_360 (lv_at hl 1 rfl) ?_
  refine lv_if_ne (tgt := 377) hx hb d_L_law_362 (by decide) (fun z1 => ?_) (fun z1 => ?_)
  · refine lv_goto (tgt := 604) hx hb d_L_law_377 (by decide) ?_
    refine lv_iinc (v := nI (i + 3)) (lv' := [(4, .int (nI (i + 3))), (6, .int an), (5, .int t1), (0, .ref b), (1, .ref h0), (2, .ref g0), (3, .ref oa)]) hx hb d_L_law_604 hl (k := 6) rfl (inc3 i) (by decide) rfl (fun ls hl => ?_)
    refine lv_goto (tgt := 23) hx hb d_L_law_607 (by decide) ?_
    refine W.widen (k := 10 + (i + 3)) (n := 40000 + 6 * (i + 3)) (by show 10 + i + 1 + 0 ≤ 10 + (i + 3); omega) (by show 40000 + 6 * i + 6 + 0 ≤ 40000 + 6 * (i + 3); omega) ?_
    exact ih H locs ls ⟨h0, h1, h2, h3, oa, g0, g1, c1, c2, c3, c4, N1, B1, P1, t1, st1, sz1, f1, hR1, hK, hP, hD, hS, lv_sub hl [3, 4, 5, 6, 0] rfl⟩
  · refine lv_aload_n hx hb d_L_law_365 rfl (lv_at hl 5 rfl) ?_
    refine lv_iconst (v := nI 0) hx hb d_L_law_366 (by decide +kernel) ?_
    refine r_lald hx hb hK hP 4 2 rfl rfl (show 0 < 1 by omega) (by omega) (hw2 (by rw [z1, nI_0])) d_L_law_367 ?_
    refine lv_iload hx hb d_L_law_368 (lv_at hl 0 rfl) ?_
    refine lv_i2l (v := an.toInt64) hx hb d_L_law_370 rfl ?_
    refine W.lcmp hx hb d_L_law_371 ?_
    refine lv_if_eq (tgt := 377) hx hb d_L_law_372 (by decide) (fun z => ?_) (fun z => absurd (lg_self _) z)
    refine lv_goto (tgt := 604) hx hb d_L_law_377 (by decide) ?_
    refine lv_iinc (v := nI (i + 3)) (lv' := [(4, .int (nI (i + 3))), (6, .int an), (5, .int t1), (0, .ref b), (1, .ref h0), (2, .ref g0), (3, .ref oa)]) hx hb d_L_law_604 hl (k := 6) rfl (inc3 i) (by decide) rfl (fun ls hl => ?_)
    refine lv_goto (tgt := 23) hx hb d_L_law_607 (by decide) ?_
    refine W.widen (k := 10 + (i + 3)) (n := 40000 + 6 * (i + 3)) (by show 10 + i + 1 + 0 ≤ 10 + (i + 3); omega) (by show 40000 + 6 * i + 6 + 0 ≤ 40000 + 6 * (i + 3); omega) ?_
    exact ih H locs ls ⟨h0, h1, h2, h3, oa, g0, g1, c1, c2, c3, c4, N1, B1, P1, t1, st1, sz1, f1, hR1, hK, hP, hD, hS, lv_sub hl [3, 4, 5, 6, 0] rfl⟩
set_option maxHeartbeats 4000000 in
set_option maxRecDepth 100000 in
theorem law_size {p : Program} {l : Launch} {e : Env} {s : State} {m : MethodId} {below : List Frame} {meth : Method} {c : Code} {D : va_G} {b L : Nat} {xs : Nat → Int32} (htr : l.stackTraces = false) (hL : L ≤ 1536) (C0 : lw_At p s m meth c b L xs) {i : Nat} (hi : i + 3 ≤ L) {H : Heap} {locs : List Loc} {ls : Array Slot} (hI : LawI D b s i H locs ls) (ih : ∀ (H : Heap) (locs : List Loc) (ls : Array Slot), LawI D b s (i + 3) H locs ls → W p l e room_1 s m #[Value.ref b] below meth c H locs (10 + (i + 3)) (40000 + 6 * (i + 3)) (lw_Z below #[Value.ref b] s) (F0 m 23 ls [])) : W p l e room_1 s m #[Value.ref b] below meth c H locs (10 + i) (40000 + 6 * i) (lw_Z below #[Value.ref b] s) (F0 m 380 ls []) := by
  obtain ⟨hx, hb, hr, hml, hown, hts, hX, hbl, hlocks, hgv⟩ := id C0
  have hA : ∀ q, s.heap.size ≤ q → lA s q := fun _ h => h
  have cx : CallFix p m c code 7 s #[Value.ref b] lw_gd "StartTableLaw" := ⟨hx, hb, hml, hown, fun w hw => hts w (gd_sub hw)⟩
  obtain ⟨h0, h1, h2, h3, oa, g0, g1, c1, c2, c3, c4, N, B, P, th, st, sz, f, hR, hK, hP, hD, hS, hl⟩ := hI
  have hN := hR.2.1
  have hB0 := hR.2.2.1
  have hBN := hR.2.2.2.1
  have hZ : tS s H := (law_tS C0).kept (fun a ha => hS.2.1 a ha (Nat.not_le.mpr ha))
  obtain ⟨⟨t1, an, N1, B1⟩, hsp⟩ : ∃ z, sp_size N B (xs (i + 1)) = z := ⟨_, rfl⟩
  have ct := cs_L_size l D htr (h0 := h0) (h1 := h1) (h2 := h2) (h3 := h3) (oa := oa) (c1 := c1) (c2 := c2) (c4 := c4) (f := f) hR (x := xs (i + 1))
  have cm := cs_M_size l D (g0 := g0) (g1 := g1) (c3 := c3) (th := th) (N := N) (B := B) hN hB0 hBN (x := xs (i + 1))
  rw [hsp] at ct cm
  refine lv_aload_n hx hb d_L_law_380 rfl (lv_at hl 1 rfl) ?_
  refine lv_aload_n hx hb d_L_law_381 rfl (lv_at hl 0 rfl) ?_
  refine lv_iload hx hb d_L_law_382 (lv_at hl 4 rfl) ?_
  refine lv_iconst (v := nI 1) hx hb d_L_law_384 (by decide +kernel) ?_
  refine r_add hx hb d_L_law_385 ?_
  refine r_sld hx hb hX hbl hS (show i + 1 < L by omega) (by omega) d_L_law_386 ?_
  refine lv_aload_n hx hb d_L_law_387 rfl (lv_at hl 3 rfl) ?_
  refine r_callSW (wr := List.filterMap (fun i : Nat => (wZ h0 h1 h2 h3 c1 c2 (nI N) P st sz oa c4 f g0 g1 c3 th (nI N) B : va_W)[i]?) [5, 6]) (nA := 3) (rest := []) ct cx mc_L_size ml_L_69 ms_L_size mi_L (by decide +kernel) rfl ⟨Nat.le_of_ble_eq_true rfl, Nat.le_of_ble_eq_true rfl⟩ ⟨by show 10 + i + 1 ≤ 601024; omega, by show 40000 + 6 * i + 6 ≤ 7293034; omega⟩ hK hP hD hS hA hZ [0, 1, 2, 3, 4] [5, 6] [0, 1, 2] rfl rfl rfl (by decide) (by decide) (by decide) hl.1 rfl (Nat.le_of_ble_eq_true rfl) d_L_law_388 (fun r9 u9 H locs hw9 hK9 hP hD hS => ?_)
  obtain ⟨P1, st1, sz1, f1⟩ := u9
  obtain ⟨e9, hw2, hR1⟩ := hw9
  dsimp only at e9 hw2 hR1 hP hD
  rw [e9]
  have hP : va_P D classes (wZ h0 h1 h2 h3 c1 c2 (nI N1) P1 st1 sz1 oa c4 f1 g0 g1 c3 th (nI N) B) H := hP.sub [2, 3, 4, 5, 6, 0, 1] rfl
  have hD : va_D (lA s) (wZ h0 h1 h2 h3 c1 c2 (nI N1) P1 st1 sz1 oa c4 f1 g0 g1 c3 th (nI N) B) := hD.sub [2, 3, 4, 5, 6, 0, 1] (by decide) rfl
  refine lv_istore (lv' := [(5, .int t1), (0, .ref b), (1, .ref h0), (2, .ref g0), (3, .ref oa), (4, .int (nI i))]) hx hb d_L_law_391 hl (by decide) rfl (fun ls hl => ?_)
  refine lv_aload_n hx hb d_L_law_393 rfl (lv_at hl 3 rfl) ?_
  refine lv_aload_n hx hb d_L_law_394 rfl (lv_at hl 1 rfl) ?_
  refine lv_iload hx hb d_L_law_395 (lv_at hl 5 rfl) ?_
  refine lv_iconst (v := nI 1) hx hb d_L_law_397 (by decide +kernel) ?_
  refine r_add hx hb d_L_law_398 ?_
  refine r_sld hx hb hX hbl hS (show i + 1 < L by omega) (by omega) d_L_law_399 ?_
  refine r_callVi (wr := List.filterMap (fun i : Nat => (wZ h0 h1 h2 h3 c1 c2 (nI N1) P1 st1 sz1 oa c4 f1 g0 g1 c3 th (nI N) B : va_W)[i]?) [0, 1, 2, 3, 4]) (nA := 1) (rest := []) cm cx (gd_callV mc_M_size ml_L_71 ms_M_size mv_M_size mi_M) (by decide +kernel) rfl ⟨Nat.le_of_ble_eq_true rfl, Nat.le_of_ble_eq_true rfl⟩ ⟨by show 10 + i + 1 + 0 ≤ 601024; omega, by show 40000 + 6 * i + 6 + 0 ≤ 7293034; omega⟩ hK hP hD hS hA [5, 6] [0, 1, 2, 3, 4] [3] rfl rfl rfl (by decide) (by decide) (by decide) (ci := 2) rfl rfl rfl hl.1 rfl (Nat.le_of_ble_eq_true rfl) d_L_law_400 (fun r9 u9 H locs hw9 hK9 hP hD hS => ?_)
  rw [show r9 = an from hw9]
  have hP : va_P D classes (wZ h0 h1 h2 h3 c1 c2 (nI N1) P1 st1 sz1 oa c4 f1 g0 g1 c3 t1 (nI N1) B1) H := hP.sub [0, 1, 2, 3, 4, 5, 6] rfl
  have hD : va_D (lA s) (wZ h0 h1 h2 h3 c1 c2 (nI N1) P1 st1 sz1 oa c4 f1 g0 g1 c3 t1 (nI N1) B1) := hD.sub [0, 1, 2, 3, 4, 5, 6] (by decide) rfl
  refine lv_istore (lv' := [(6, .int an), (5, .int t1), (0, .ref b), (1, .ref h0), (2, .ref g0), (3, .ref oa), (4, .int (nI i))]) hx hb d_L_law_403 hl (by decide) rfl (fun ls hl => ?_)
  refine lv_aload_n hx hb d_L_law_405 rfl (lv_at hl 4 rfl) ?_
  refine r_callPi (nA := 0) (rest := []) (ct_M_thrown l D (g0 := g0) (g1 := g1) (c3 := c3) (th := t1) (N := N1) (B := B1)) cx (gd_callV mc_M_thrown ml_L_52 ms_M_thrown mv_M_thrown mi_M) (by decide +kernel) rfl ⟨rfl, rfl⟩ ⟨Nat.le_of_ble_eq_true rfl, Nat.le_of_ble_eq_true rfl⟩ ⟨by show 10 + i + 1 + 0 ≤ 601024; omega, by show 40000 + 6 * i + 6 + 0 ≤ 7293034; omega⟩ hK hP [5, 6] [3] rfl rfl (ci := 2) rfl rfl rfl hl.1 rfl (Nat.le_of_ble_eq_true rfl) d_L_law_406 (fun r9 h9 => ?_)
  rw [show r9 = t1 from h9]
  refine lv_iload hx hb d_L_law_409 (lv_at hl 1 rfl) ?_
  refine lv_icmp_eq (tgt := 416) hx hb d_L_law_411 (by decide) (fun z => ?_) (fun z => absurd rfl z)
  refine lv_iload hx hb d_L_law_416 (lv_at hl 1 rfl) ?_
  refine lv_if_ne (tgt := 433) hx hb d_L_law_418 (by decide) (fun z1 => ?_) (fun z1 => ?_)
  · refine lv_goto (tgt := 604) hx hb d_L_law_433 (by decide) ?_
    refine lv_iinc (v := nI (i + 3)) (lv' := [(4, .int (nI (i + 3))), (6, .int an), (5, .int t1), (0, .ref b), (1, .ref h0), (2, .ref g0), (3, .ref oa)]) hx hb d_L_law_604 hl (k := 6) rfl (inc3 i) (by decide) rfl (fun ls hl => ?_)
    refine lv_goto (tgt := 23) hx hb d_L_law_607 (by decide) ?_
    refine W.widen (k := 10 + (i + 3)) (n := 40000 + 6 * (i + 3)) (by show 10 + i + 1 + 0 ≤ 10 + (i + 3); omega) (by show 40000 + 6 * i + 6 + 0 ≤ 40000 + 6 * (i + 3); omega) ?_
    exact ih H locs ls ⟨h0, h1, h2, h3, oa, g0, g1, c1, c2, c3, c4, N1, B1, P1, t1, st1, sz1, f1, hR1, hK, hP, hD, hS, lv_sub hl [3, 4, 5, 6, 0] rfl⟩
  · refine lv_aload_n hx hb d_L_law_421 rfl (lv_at hl 5 rfl) ?_
    refine lv_iconst (v := nI 0) hx hb d_L_law_422 (by decide +kernel) ?_
    refine r_lald hx hb hK hP 4 2 rfl rfl (show 0 < 1 by omega) (by omega) (hw2 (by rw [z1, nI_0])) d_L_law_423 ?_
    refine lv_iload hx hb d_L_law_424 (lv_at hl 0 rfl) ?_
    refine lv_i2l (v := an.toInt64) hx hb d_L_law_426 rfl ?_
    refine W.lcmp hx hb d_L_law_427 ?_
    refine lv_if_eq (tgt := 433) hx hb d_L_law_428 (by decide) (fun z => ?_) (fun z => absurd (lg_self _) z)
    refine lv_goto (tgt := 604) hx hb d_L_law_433 (by decide) ?_
    refine lv_iinc (v := nI (i + 3)) (lv' := [(4, .int (nI (i + 3))), (6, .int an), (5, .int t1), (0, .ref b), (1, .ref h0), (2, .ref g0), (3, .ref oa)]) hx hb d_L_law_604 hl (k := 6) rfl (inc3 i) (by decide) rfl (fun ls hl => ?_)
    refine lv_goto (tgt := 23) hx hb d_L_law_607 (by decide) ?_
    refine W.widen (k := 10 + (i + 3)) (n := 40000 + 6 * (i + 3)) (by show 10 + i + 1 + 0 ≤ 10 + (i + 3); omega) (by show 40000 + 6 * i + 6 + 0 ≤ 40000 + 6 * (i + 3); omega) ?_
    exact ih H locs ls ⟨h0, h1, h2, h3, oa, g0, g1, c1, c2, c3, c4, N1, B1, P1, t1, st1, sz1, f1, hR1, hK, hP, hD, hS, lv_sub hl [3, 4, 5, 6, 0] rfl⟩
set_option maxHeartbeats 4000000 in
set_option maxRecDepth 100000 in
theorem law_start {p : Program} {l : Launch} {e : Env} {s : State} {m : MethodId} {below : List Frame} {meth : Method} {c : Code} {D : va_G} {b L : Nat} {xs : Nat → Int32} (htr : l.stackTraces = false) (hL : L ≤ 1536) (C0 : lw_At p s m meth c b L xs) {i : Nat} (hi : i + 3 ≤ L) {H : Heap} {locs : List Loc} {ls : Array Slot} (hI : LawI D b s i H locs ls) (ih : ∀ (H : Heap) (locs : List Loc) (ls : Array Slot), LawI D b s (i + 3) H locs ls → W p l e room_1 s m #[Value.ref b] below meth c H locs (10 + (i + 3)) (40000 + 6 * (i + 3)) (lw_Z below #[Value.ref b] s) (F0 m 23 ls [])) : W p l e room_1 s m #[Value.ref b] below meth c H locs (10 + i) (40000 + 6 * i) (lw_Z below #[Value.ref b] s) (F0 m 436 ls []) := by
  obtain ⟨hx, hb, hr, hml, hown, hts, hX, hbl, hlocks, hgv⟩ := id C0
  have hA : ∀ q, s.heap.size ≤ q → lA s q := fun _ h => h
  have cx : CallFix p m c code 7 s #[Value.ref b] lw_gd "StartTableLaw" := ⟨hx, hb, hml, hown, fun w hw => hts w (gd_sub hw)⟩
  obtain ⟨h0, h1, h2, h3, oa, g0, g1, c1, c2, c3, c4, N, B, P, th, st, sz, f, hR, hK, hP, hD, hS, hl⟩ := hI
  have hN := hR.2.1
  have hB0 := hR.2.2.1
  have hBN := hR.2.2.2.1
  have hZ : tS s H := (law_tS C0).kept (fun a ha => hS.2.1 a ha (Nat.not_le.mpr ha))
  obtain ⟨⟨t1, an, N1, B1⟩, hsp⟩ : ∃ z, sp_start N B (xs (i + 1)) = z := ⟨_, rfl⟩
  have ct := cs_L_start l D htr (h0 := h0) (h1 := h1) (h2 := h2) (h3 := h3) (oa := oa) (c1 := c1) (c2 := c2) (c4 := c4) (f := f) hR (x := xs (i + 1))
  have cm := cs_M_start l D (g0 := g0) (g1 := g1) (c3 := c3) (th := th) (N := N) (B := B) hN hB0 hBN (x := xs (i + 1))
  rw [hsp] at ct cm
  refine lv_aload_n hx hb d_L_law_436 rfl (lv_at hl 1 rfl) ?_
  refine lv_aload_n hx hb d_L_law_437 rfl (lv_at hl 0 rfl) ?_
  refine lv_iload hx hb d_L_law_438 (lv_at hl 4 rfl) ?_
  refine lv_iconst (v := nI 1) hx hb d_L_law_440 (by decide +kernel) ?_
  refine r_add hx hb d_L_law_441 ?_
  refine r_sld hx hb hX hbl hS (show i + 1 < L by omega) (by omega) d_L_law_442 ?_
  refine lv_aload_n hx hb d_L_law_443 rfl (lv_at hl 3 rfl) ?_
  refine r_callSW (wr := List.filterMap (fun i : Nat => (wZ h0 h1 h2 h3 c1 c2 (nI N) P st sz oa c4 f g0 g1 c3 th (nI N) B : va_W)[i]?) [5, 6]) (nA := 3) (rest := []) ct cx mc_L_start ml_L_72 ms_L_start mi_L (by decide +kernel) rfl ⟨Nat.le_of_ble_eq_true rfl, Nat.le_of_ble_eq_true rfl⟩ ⟨by show 10 + i + 1 ≤ 601024; omega, by show 40000 + 6 * i + 6 ≤ 7293034; omega⟩ hK hP hD hS hA hZ [0, 1, 2, 3, 4] [5, 6] [0, 1, 2] rfl rfl rfl (by decide) (by decide) (by decide) hl.1 rfl (Nat.le_of_ble_eq_true rfl) d_L_law_444 (fun r9 u9 H locs hw9 hK9 hP hD hS => ?_)
  obtain ⟨P1, st1, sz1, f1⟩ := u9
  obtain ⟨e9, hw2, hR1⟩ := hw9
  dsimp only at e9 hw2 hR1 hP hD
  rw [e9]
  have hP : va_P D classes (wZ h0 h1 h2 h3 c1 c2 (nI N1) P1 st1 sz1 oa c4 f1 g0 g1 c3 th (nI N) B) H := hP.sub [2, 3, 4, 5, 6, 0, 1] rfl
  have hD : va_D (lA s) (wZ h0 h1 h2 h3 c1 c2 (nI N1) P1 st1 sz1 oa c4 f1 g0 g1 c3 th (nI N) B) := hD.sub [2, 3, 4, 5, 6, 0, 1] (by decide) rfl
  refine lv_istore (lv' := [(5, .int t1), (0, .ref b), (1, .ref h0), (2, .ref g0), (3, .ref oa), (4, .int (nI i))]) hx hb d_L_law_447 hl (by decide) rfl (fun ls hl => ?_)
  refine lv_aload_n hx hb d_L_law_449 rfl (lv_at hl 3 rfl) ?_
  refine lv_aload_n hx hb d_L_law_450 rfl (lv_at hl 1 rfl) ?_
  refine lv_iload hx hb d_L_law_451 (lv_at hl 5 rfl) ?_
  refine lv_iconst (v := nI 1) hx hb d_L_law_453 (by decide +kernel) ?_
  refine r_add hx hb d_L_law_454 ?_
  refine r_sld hx hb hX hbl hS (show i + 1 < L by omega) (by omega) d_L_law_455 ?_
  refine r_callVi (wr := List.filterMap (fun i : Nat => (wZ h0 h1 h2 h3 c1 c2 (nI N1) P1 st1 sz1 oa c4 f1 g0 g1 c3 th (nI N) B : va_W)[i]?) [0, 1, 2, 3, 4]) (nA := 1) (rest := []) cm cx (gd_callV mc_M_start ml_L_74 ms_M_start mv_M_start mi_M) (by decide +kernel) rfl ⟨Nat.le_of_ble_eq_true rfl, Nat.le_of_ble_eq_true rfl⟩ ⟨by show 10 + i + 1 + 0 ≤ 601024; omega, by show 40000 + 6 * i + 6 + 0 ≤ 7293034; omega⟩ hK hP hD hS hA [5, 6] [0, 1, 2, 3, 4] [3] rfl rfl rfl (by decide) (by decide) (by decide) (ci := 2) rfl rfl rfl hl.1 rfl (Nat.le_of_ble_eq_true rfl) d_L_law_456 (fun r9 u9 H locs hw9 hK9 hP hD hS => ?_)
  rw [show r9 = an from hw9]
  have hP : va_P D classes (wZ h0 h1 h2 h3 c1 c2 (nI N1) P1 st1 sz1 oa c4 f1 g0 g1 c3 t1 (nI N1) B1) H := hP.sub [0, 1, 2, 3, 4, 5, 6] rfl
  have hD : va_D (lA s) (wZ h0 h1 h2 h3 c1 c2 (nI N1) P1 st1 sz1 oa c4 f1 g0 g1 c3 t1 (nI N1) B1) := hD.sub [0, 1, 2, 3, 4, 5, 6] (by decide) rfl
  refine lv_istore (lv' := [(6, .int an), (5, .int t1), (0, .ref b), (1, .ref h0), (2, .ref g0), (3, .ref oa), (4, .int (nI i))]) hx hb d_L_law_459 hl (by decide) rfl (fun ls hl => ?_)
  refine lv_aload_n hx hb d_L_law_461 rfl (lv_at hl 4 rfl) ?_
  refine r_callPi (nA := 0) (rest := []) (ct_M_thrown l D (g0 := g0) (g1 := g1) (c3 := c3) (th := t1) (N := N1) (B := B1)) cx (gd_callV mc_M_thrown ml_L_52 ms_M_thrown mv_M_thrown mi_M) (by decide +kernel) rfl ⟨rfl, rfl⟩ ⟨Nat.le_of_ble_eq_true rfl, Nat.le_of_ble_eq_true rfl⟩ ⟨by show 10 + i + 1 + 0 ≤ 601024; omega, by show 40000 + 6 * i + 6 + 0 ≤ 7293034; omega⟩ hK hP [5, 6] [3] rfl rfl (ci := 2) rfl rfl rfl hl.1 rfl (Nat.le_of_ble_eq_true rfl) d_L_law_462 (fun r9 h9 => ?_)
  rw [show r9 = t1 from h9]
  refine lv_iload hx hb d_L_law_465 (lv_at hl 1 rfl) ?_
  refine lv_icmp_eq (tgt := 472) hx hb d_L_law_467 (by decide) (fun z => ?_) (fun z => absurd rfl z)
  refine lv_iload hx hb d_L_law_472 (lv_at hl 1 rfl) ?_
  refine lv_if_ne (tgt := 489) hx hb d_L_law_474 (by decide) (fun z1 => ?_) (fun z1 => ?_)
  · refine lv_goto (tgt := 604) hx hb d_L_law_489 (by decide) ?_
    refine lv_iinc (v := nI (i + 3)) (lv' := [(4, .int (nI (i + 3))), (6, .int an), (5, .int t1), (0, .ref b), (1, .ref h0), (2, .ref g0), (3, .ref oa)]) hx hb d_L_law_604 hl (k := 6) rfl (inc3 i) (by decide) rfl (fun ls hl => ?_)
    refine lv_goto (tgt := 23) hx hb d_L_law_607 (by decide) ?_
    refine W.widen (k := 10 + (i + 3)) (n := 40000 + 6 * (i + 3)) (by show 10 + i + 1 + 0 ≤ 10 + (i + 3); omega) (by show 40000 + 6 * i + 6 + 0 ≤ 40000 + 6 * (i + 3); omega) ?_
    exact ih H locs ls ⟨h0, h1, h2, h3, oa, g0, g1, c1, c2, c3, c4, N1, B1, P1, t1, st1, sz1, f1, hR1, hK, hP, hD, hS, lv_sub hl [3, 4, 5, 6, 0] rfl⟩
  · refine lv_aload_n hx hb d_L_law_477 rfl (lv_at hl 5 rfl) ?_
    refine lv_iconst (v := nI 0) hx hb d_L_law_478 (by decide +kernel) ?_
    refine r_lald hx hb hK hP 4 2 rfl rfl (show 0 < 1 by omega) (by omega) (hw2 (by rw [z1, nI_0])) d_L_law_479 ?_
    refine lv_iload hx hb d_L_law_480 (lv_at hl 0 rfl) ?_
    refine lv_i2l (v := an.toInt64) hx hb d_L_law_482 rfl ?_
    refine W.lcmp hx hb d_L_law_483 ?_
    refine lv_if_eq (tgt := 489) hx hb d_L_law_484 (by decide) (fun z => ?_) (fun z => absurd (lg_self _) z)
    refine lv_goto (tgt := 604) hx hb d_L_law_489 (by decide) ?_
    refine lv_iinc (v := nI (i + 3)) (lv' := [(4, .int (nI (i + 3))), (6, .int an), (5, .int t1), (0, .ref b), (1, .ref h0), (2, .ref g0), (3, .ref oa)]) hx hb d_L_law_604 hl (k := 6) rfl (inc3 i) (by decide) rfl (fun ls hl => ?_)
    refine lv_goto (tgt := 23) hx hb d_L_law_607 (by decide) ?_
    refine W.widen (k := 10 + (i + 3)) (n := 40000 + 6 * (i + 3)) (by show 10 + i + 1 + 0 ≤ 10 + (i + 3); omega) (by show 40000 + 6 * i + 6 + 0 ≤ 40000 + 6 * (i + 3); omega) ?_
    exact ih H locs ls ⟨h0, h1, h2, h3, oa, g0, g1, c1, c2, c3, c4, N1, B1, P1, t1, st1, sz1, f1, hR1, hK, hP, hD, hS, lv_sub hl [3, 4, 5, 6, 0] rfl⟩
set_option maxHeartbeats 4000000 in
set_option maxRecDepth 100000 in
theorem law_begins {p : Program} {l : Launch} {e : Env} {s : State} {m : MethodId} {below : List Frame} {meth : Method} {c : Code} {D : va_G} {b L : Nat} {xs : Nat → Int32} (htr : l.stackTraces = false) (hL : L ≤ 1536) (C0 : lw_At p s m meth c b L xs) {i : Nat} (hi : i + 3 ≤ L) {H : Heap} {locs : List Loc} {ls : Array Slot} (hI : LawI D b s i H locs ls) (ih : ∀ (H : Heap) (locs : List Loc) (ls : Array Slot), LawI D b s (i + 3) H locs ls → W p l e room_1 s m #[Value.ref b] below meth c H locs (10 + (i + 3)) (40000 + 6 * (i + 3)) (lw_Z below #[Value.ref b] s) (F0 m 23 ls [])) : W p l e room_1 s m #[Value.ref b] below meth c H locs (10 + i) (40000 + 6 * i) (lw_Z below #[Value.ref b] s) (F0 m 492 ls []) := by
  obtain ⟨hx, hb, hr, hml, hown, hts, hX, hbl, hlocks, hgv⟩ := id C0
  have hA : ∀ q, s.heap.size ≤ q → lA s q := fun _ h => h
  have cx : CallFix p m c code 7 s #[Value.ref b] lw_gd "StartTableLaw" := ⟨hx, hb, hml, hown, fun w hw => hts w (gd_sub hw)⟩
  obtain ⟨h0, h1, h2, h3, oa, g0, g1, c1, c2, c3, c4, N, B, P, th, st, sz, f, hR, hK, hP, hD, hS, hl⟩ := hI
  have hN := hR.2.1
  have hB0 := hR.2.2.1
  have hBN := hR.2.2.2.1
  have hZ : tS s H := (law_tS C0).kept (fun a ha => hS.2.1 a ha (Nat.not_le.mpr ha))
  obtain ⟨⟨t1, an, N1, B1⟩, hsp⟩ : ∃ z, sp_begins N B (xs (i + 1)) = z := ⟨_, rfl⟩
  have ct := cs_L_begins l D htr (h0 := h0) (h1 := h1) (h2 := h2) (h3 := h3) (oa := oa) (c1 := c1) (c2 := c2) (c4 := c4) (f := f) hR (x := xs (i + 1))
  have cm := cs_M_begins l D (g0 := g0) (g1 := g1) (c3 := c3) (th := th) (N := N) (B := B) hN hB0 hBN (x := xs (i + 1))
  rw [hsp] at ct cm
  refine lv_aload_n hx hb d_L_law_492 rfl (lv_at hl 1 rfl) ?_
  refine lv_aload_n hx hb d_L_law_493 rfl (lv_at hl 0 rfl) ?_
  refine lv_iload hx hb d_L_law_494 (lv_at hl 4 rfl) ?_
  refine lv_iconst (v := nI 1) hx hb d_L_law_496 (by decide +kernel) ?_
  refine r_add hx hb d_L_law_497 ?_
  refine r_sld hx hb hX hbl hS (show i + 1 < L by omega) (by omega) d_L_law_498 ?_
  refine lv_aload_n hx hb d_L_law_499 rfl (lv_at hl 3 rfl) ?_
  refine r_callSW (wr := List.filterMap (fun i : Nat => (wZ h0 h1 h2 h3 c1 c2 (nI N) P st sz oa c4 f g0 g1 c3 th (nI N) B : va_W)[i]?) [5, 6]) (nA := 3) (rest := []) ct cx mc_L_begins ml_L_75 ms_L_begins mi_L (by decide +kernel) rfl ⟨Nat.le_of_ble_eq_true rfl, Nat.le_of_ble_eq_true rfl⟩ ⟨by show 10 + i + 1 ≤ 601024; omega, by show 40000 + 6 * i + 6 ≤ 7293034; omega⟩ hK hP hD hS hA hZ [0, 1, 2, 3, 4] [5, 6] [0, 1, 2] rfl rfl rfl (by decide) (by decide) (by decide) hl.1 rfl (Nat.le_of_ble_eq_true rfl) d_L_law_500 (fun r9 u9 H locs hw9 hK9 hP hD hS => ?_)
  obtain ⟨P1, st1, sz1, f1⟩ := u9
  obtain ⟨e9, hw2, hR1⟩ := hw9
  dsimp only at e9 hw2 hR1 hP hD
  rw [e9]
  have hP : va_P D classes (wZ h0 h1 h2 h3 c1 c2 (nI N1) P1 st1 sz1 oa c4 f1 g0 g1 c3 th (nI N) B) H := hP.sub [2, 3, 4, 5, 6, 0, 1] rfl
  have hD : va_D (lA s) (wZ h0 h1 h2 h3 c1 c2 (nI N1) P1 st1 sz1 oa c4 f1 g0 g1 c3 th (nI N) B) := hD.sub [2, 3, 4, 5, 6, 0, 1] (by decide) rfl
  refine lv_istore (lv' := [(5, .int t1), (0, .ref b), (1, .ref h0), (2, .ref g0), (3, .ref oa), (4, .int (nI i))]) hx hb d_L_law_503 hl (by decide) rfl (fun ls hl => ?_)
  refine lv_aload_n hx hb d_L_law_505 rfl (lv_at hl 3 rfl) ?_
  refine lv_aload_n hx hb d_L_law_506 rfl (lv_at hl 1 rfl) ?_
  refine lv_iload hx hb d_L_law_507 (lv_at hl 5 rfl) ?_
  refine lv_iconst (v := nI 1) hx hb d_L_law_509 (by decide +kernel) ?_
  refine r_add hx hb d_L_law_510 ?_
  refine r_sld hx hb hX hbl hS (show i + 1 < L by omega) (by omega) d_L_law_511 ?_
  refine r_callVi (wr := List.filterMap (fun i : Nat => (wZ h0 h1 h2 h3 c1 c2 (nI N1) P1 st1 sz1 oa c4 f1 g0 g1 c3 th (nI N) B : va_W)[i]?) [0, 1, 2, 3, 4]) (nA := 1) (rest := []) cm cx (gd_callV mc_M_begins ml_L_77 ms_M_begins mv_M_begins mi_M) (by decide +kernel) rfl ⟨Nat.le_of_ble_eq_true rfl, Nat.le_of_ble_eq_true rfl⟩ ⟨by show 10 + i + 1 + 0 ≤ 601024; omega, by show 40000 + 6 * i + 6 + 0 ≤ 7293034; omega⟩ hK hP hD hS hA [5, 6] [0, 1, 2, 3, 4] [3] rfl rfl rfl (by decide) (by decide) (by decide) (ci := 2) rfl rfl rfl hl.1 rfl (Nat.le_of_ble_eq_true rfl) d_L_law_512 (fun r9 u9 H locs hw9 hK9 hP hD hS => ?_)
  rw [show r9 = an from hw9]
  have hP : va_P D classes (wZ h0 h1 h2 h3 c1 c2 (nI N1) P1 st1 sz1 oa c4 f1 g0 g1 c3 t1 (nI N1) B1) H := hP.sub [0, 1, 2, 3, 4, 5, 6] rfl
  have hD : va_D (lA s) (wZ h0 h1 h2 h3 c1 c2 (nI N1) P1 st1 sz1 oa c4 f1 g0 g1 c3 t1 (nI N1) B1) := hD.sub [0, 1, 2, 3, 4, 5, 6] (by decide) rfl
  refine lv_istore (lv' := [(6, .int an), (5, .int t1), (0, .ref b), (1, .ref h0), (2, .ref g0), (3, .ref oa), (4, .int (nI i))]) hx hb d_L_law_515 hl (by decide) rfl (fun ls hl => ?_)
  refine lv_aload_n hx hb d_L_law_517 rfl (lv_at hl 4 rfl) ?_
  refine r_callPi (nA := 0) (rest := []) (ct_M_thrown l D (g0 := g0) (g1 := g1) (c3 := c3) (th := t1) (N := N1) (B := B1)) cx (gd_callV mc_M_thrown ml_L_52 ms_M_thrown mv_M_thrown mi_M) (by decide +kernel) rfl ⟨rfl, rfl⟩ ⟨Nat.le_of_ble_eq_true rfl, Nat.le_of_ble_eq_true rfl⟩ ⟨by show 10 + i + 1 + 0 ≤ 601024; omega, by show 40000 + 6 * i + 6 + 0 ≤ 7293034; omega⟩ hK hP [5, 6] [3] rfl rfl (ci := 2) rfl rfl rfl hl.1 rfl (Nat.le_of_ble_eq_true rfl) d_L_law_518 (fun r9 h9 => ?_)
  rw [show r9 = t1 from h9]
  refine lv_iload hx hb d_L_law_521 (lv_at hl 1 rfl) ?_
  refine lv_icmp_eq (tgt := 528) hx hb d_L_law_523 (by decide) (fun z => ?_) (fun z => absurd rfl z)
  refine lv_iload hx hb d_L_law_528 (lv_at hl 1 rfl) ?_
  refine lv_if_ne (tgt := 545) hx hb d_L_law_530 (by decide) (fun z1 => ?_) (fun z1 => ?_)
  · refine lv_goto (tgt := 604) hx hb d_L_law_545 (by decide) ?_
    refine lv_iinc (v := nI (i + 3)) (lv' := [(4, .int (nI (i + 3))), (6, .int an), (5, .int t1), (0, .ref b), (1, .ref h0), (2, .ref g0), (3, .ref oa)]) hx hb d_L_law_604 hl (k := 6) rfl (inc3 i) (by decide) rfl (fun ls hl => ?_)
    refine lv_goto (tgt := 23) hx hb d_L_law_607 (by decide) ?_
    refine W.widen (k := 10 + (i + 3)) (n := 40000 + 6 * (i + 3)) (by show 10 + i + 1 + 0 ≤ 10 + (i + 3); omega) (by show 40000 + 6 * i + 6 + 0 ≤ 40000 + 6 * (i + 3); omega) ?_
    exact ih H locs ls ⟨h0, h1, h2, h3, oa, g0, g1, c1, c2, c3, c4, N1, B1, P1, t1, st1, sz1, f1, hR1, hK, hP, hD, hS, lv_sub hl [3, 4, 5, 6, 0] rfl⟩
  · refine lv_aload_n hx hb d_L_law_533 rfl (lv_at hl 5 rfl) ?_
    refine lv_iconst (v := nI 0) hx hb d_L_law_534 (by decide +kernel) ?_
    refine r_lald hx hb hK hP 4 2 rfl rfl (show 0 < 1 by omega) (by omega) (hw2 (by rw [z1, nI_0])) d_L_law_535 ?_
    refine lv_iload hx hb d_L_law_536 (lv_at hl 0 rfl) ?_
    refine lv_i2l (v := an.toInt64) hx hb d_L_law_538 rfl ?_
    refine W.lcmp hx hb d_L_law_539 ?_
    refine lv_if_eq (tgt := 545) hx hb d_L_law_540 (by decide) (fun z => ?_) (fun z => absurd (lg_self _) z)
    refine lv_goto (tgt := 604) hx hb d_L_law_545 (by decide) ?_
    refine lv_iinc (v := nI (i + 3)) (lv' := [(4, .int (nI (i + 3))), (6, .int an), (5, .int t1), (0, .ref b), (1, .ref h0), (2, .ref g0), (3, .ref oa)]) hx hb d_L_law_604 hl (k := 6) rfl (inc3 i) (by decide) rfl (fun ls hl => ?_)
    refine lv_goto (tgt := 23) hx hb d_L_law_607 (by decide) ?_
    refine W.widen (k := 10 + (i + 3)) (n := 40000 + 6 * (i + 3)) (by show 10 + i + 1 + 0 ≤ 10 + (i + 3); omega) (by show 40000 + 6 * i + 6 + 0 ≤ 40000 + 6 * (i + 3); omega) ?_
    exact ih H locs ls ⟨h0, h1, h2, h3, oa, g0, g1, c1, c2, c3, c4, N1, B1, P1, t1, st1, sz1, f1, hR1, hK, hP, hD, hS, lv_sub hl [3, 4, 5, 6, 0] rfl⟩
set_option maxHeartbeats 4000000 in
set_option maxRecDepth 100000 in
theorem law_count {p : Program} {l : Launch} {e : Env} {s : State} {m : MethodId} {below : List Frame} {meth : Method} {c : Code} {D : va_G} {b L : Nat} {xs : Nat → Int32} (htr : l.stackTraces = false) (hL : L ≤ 1536) (C0 : lw_At p s m meth c b L xs) {i : Nat} (hi : i + 3 ≤ L) {H : Heap} {locs : List Loc} {ls : Array Slot} (hI : LawI D b s i H locs ls) (ih : ∀ (H : Heap) (locs : List Loc) (ls : Array Slot), LawI D b s (i + 3) H locs ls → W p l e room_1 s m #[Value.ref b] below meth c H locs (10 + (i + 3)) (40000 + 6 * (i + 3)) (lw_Z below #[Value.ref b] s) (F0 m 23 ls [])) : W p l e room_1 s m #[Value.ref b] below meth c H locs (10 + i) (40000 + 6 * i) (lw_Z below #[Value.ref b] s) (F0 m 548 ls []) := by
  obtain ⟨hx, hb, hr, hml, hown, hts, hX, hbl, hlocks, hgv⟩ := id C0
  have hA : ∀ q, s.heap.size ≤ q → lA s q := fun _ h => h
  have cx : CallFix p m c code 7 s #[Value.ref b] lw_gd "StartTableLaw" := ⟨hx, hb, hml, hown, fun w hw => hts w (gd_sub hw)⟩
  obtain ⟨h0, h1, h2, h3, oa, g0, g1, c1, c2, c3, c4, N, B, P, th, st, sz, f, hR, hK, hP, hD, hS, hl⟩ := hI
  have hN := hR.2.1
  have hB0 := hR.2.2.1
  have hBN := hR.2.2.2.1
  have hZ : tS s H := (law_tS C0).kept (fun a ha => hS.2.1 a ha (Nat.not_le.mpr ha))
  obtain ⟨⟨t1, an, N1, B1⟩, hsp⟩ : ∃ z, sp_count N B (xs (i + 1)) = z := ⟨_, rfl⟩
  have ct := cs_L_count l D htr (h0 := h0) (h1 := h1) (h2 := h2) (h3 := h3) (oa := oa) (c1 := c1) (c2 := c2) (c4 := c4) (f := f) hR (x := xs (i + 1))
  have cm := cs_M_count l D (g0 := g0) (g1 := g1) (c3 := c3) (th := th) (N := N) (B := B) hN hB0 hBN (x := xs (i + 1))
  rw [hsp] at ct cm
  refine lv_aload_n hx hb d_L_law_548 rfl (lv_at hl 1 rfl) ?_
  refine lv_aload_n hx hb d_L_law_549 rfl (lv_at hl 0 rfl) ?_
  refine lv_iload hx hb d_L_law_550 (lv_at hl 4 rfl) ?_
  refine lv_iconst (v := nI 1) hx hb d_L_law_552 (by decide +kernel) ?_
  refine r_add hx hb d_L_law_553 ?_
  refine r_sld hx hb hX hbl hS (show i + 1 < L by omega) (by omega) d_L_law_554 ?_
  refine lv_aload_n hx hb d_L_law_555 rfl (lv_at hl 3 rfl) ?_
  refine r_callSW (wr := List.filterMap (fun i : Nat => (wZ h0 h1 h2 h3 c1 c2 (nI N) P st sz oa c4 f g0 g1 c3 th (nI N) B : va_W)[i]?) [5, 6]) (nA := 3) (rest := []) ct cx mc_L_count ml_L_78 ms_L_count mi_L (by decide +kernel) rfl ⟨Nat.le_of_ble_eq_true rfl, Nat.le_of_ble_eq_true rfl⟩ ⟨by show 10 + i + 1 ≤ 601024; omega, by show 40000 + 6 * i + 6 ≤ 7293034; omega⟩ hK hP hD hS hA hZ [0, 1, 2, 3, 4] [5, 6] [0, 1, 2] rfl rfl rfl (by decide) (by decide) (by decide) hl.1 rfl (Nat.le_of_ble_eq_true rfl) d_L_law_556 (fun r9 u9 H locs hw9 hK9 hP hD hS => ?_)
  obtain ⟨P1, st1, sz1, f1⟩ := u9
  obtain ⟨e9, hw2, hR1⟩ := hw9
  dsimp only at e9 hw2 hR1 hP hD
  rw [e9]
  have hP : va_P D classes (wZ h0 h1 h2 h3 c1 c2 (nI N1) P1 st1 sz1 oa c4 f1 g0 g1 c3 th (nI N) B) H := hP.sub [2, 3, 4, 5, 6, 0, 1] rfl
  have hD : va_D (lA s) (wZ h0 h1 h2 h3 c1 c2 (nI N1) P1 st1 sz1 oa c4 f1 g0 g1 c3 th (nI N) B) := hD.sub [2, 3, 4, 5, 6, 0, 1] (by decide) rfl
  refine lv_istore (lv' := [(5, .int t1), (0, .ref b), (1, .ref h0), (2, .ref g0), (3, .ref oa), (4, .int (nI i))]) hx hb d_L_law_559 hl (by decide) rfl (fun ls hl => ?_)
  refine lv_aload_n hx hb d_L_law_561 rfl (lv_at hl 3 rfl) ?_
  refine lv_aload_n hx hb d_L_law_562 rfl (lv_at hl 1 rfl) ?_
  refine lv_iload hx hb d_L_law_563 (lv_at hl 5 rfl) ?_
  refine lv_iconst (v := nI 1) hx hb d_L_law_565 (by decide +kernel) ?_
  refine r_add hx hb d_L_law_566 ?_
  refine r_sld hx hb hX hbl hS (show i + 1 < L by omega) (by omega) d_L_law_567 ?_
  refine r_callVi (wr := List.filterMap (fun i : Nat => (wZ h0 h1 h2 h3 c1 c2 (nI N1) P1 st1 sz1 oa c4 f1 g0 g1 c3 th (nI N) B : va_W)[i]?) [0, 1, 2, 3, 4]) (nA := 1) (rest := []) cm cx (gd_callV mc_M_count ml_L_80 ms_M_count mv_M_count mi_M) (by decide +kernel) rfl ⟨Nat.le_of_ble_eq_true rfl, Nat.le_of_ble_eq_true rfl⟩ ⟨by show 10 + i + 1 + 0 ≤ 601024; omega, by show 40000 + 6 * i + 6 + 0 ≤ 7293034; omega⟩ hK hP hD hS hA [5, 6] [0, 1, 2, 3, 4] [3] rfl rfl rfl (by decide) (by decide) (by decide) (ci := 2) rfl rfl rfl hl.1 rfl (Nat.le_of_ble_eq_true rfl) d_L_law_568 (fun r9 u9 H locs hw9 hK9 hP hD hS => ?_)
  rw [show r9 = an from hw9]
  have hP : va_P D classes (wZ h0 h1 h2 h3 c1 c2 (nI N1) P1 st1 sz1 oa c4 f1 g0 g1 c3 t1 (nI N1) B1) H := hP.sub [0, 1, 2, 3, 4, 5, 6] rfl
  have hD : va_D (lA s) (wZ h0 h1 h2 h3 c1 c2 (nI N1) P1 st1 sz1 oa c4 f1 g0 g1 c3 t1 (nI N1) B1) := hD.sub [0, 1, 2, 3, 4, 5, 6] (by decide) rfl
  refine lv_istore (lv' := [(6, .int an), (5, .int t1), (0, .ref b), (1, .ref h0), (2, .ref g0), (3, .ref oa), (4, .int (nI i))]) hx hb d_L_law_571 hl (by decide) rfl (fun ls hl => ?_)
  refine lv_aload_n hx hb d_L_law_573 rfl (lv_at hl 4 rfl) ?_
  refine r_callPi (nA := 0) (rest := []) (ct_M_thrown l D (g0 := g0) (g1 := g1) (c3 := c3) (th := t1) (N := N1) (B := B1)) cx (gd_callV mc_M_thrown ml_L_52 ms_M_thrown mv_M_thrown mi_M) (by decide +kernel) rfl ⟨rfl, rfl⟩ ⟨Nat.le_of_ble_eq_true rfl, Nat.le_of_ble_eq_true rfl⟩ ⟨by show 10 + i + 1 + 0 ≤ 601024; omega, by show 40000 + 6 * i + 6 + 0 ≤ 7293034; omega⟩ hK hP [5, 6] [3] rfl rfl (ci := 2) rfl rfl rfl hl.1 rfl (Nat.le_of_ble_eq_true rfl) d_L_law_574 (fun r9 h9 => ?_)
  rw [show r9 = t1 from h9]
  refine lv_iload hx hb d_L_law_577 (lv_at hl 1 rfl) ?_
  refine lv_icmp_eq (tgt := 584) hx hb d_L_law_579 (by decide) (fun z => ?_) (fun z => absurd rfl z)
  refine lv_iload hx hb d_L_law_584 (lv_at hl 1 rfl) ?_
  refine lv_if_ne (tgt := 601) hx hb d_L_law_586 (by decide) (fun z1 => ?_) (fun z1 => ?_)
  · refine lv_goto (tgt := 604) hx hb d_L_law_601 (by decide) ?_
    refine lv_iinc (v := nI (i + 3)) (lv' := [(4, .int (nI (i + 3))), (6, .int an), (5, .int t1), (0, .ref b), (1, .ref h0), (2, .ref g0), (3, .ref oa)]) hx hb d_L_law_604 hl (k := 6) rfl (inc3 i) (by decide) rfl (fun ls hl => ?_)
    refine lv_goto (tgt := 23) hx hb d_L_law_607 (by decide) ?_
    refine W.widen (k := 10 + (i + 3)) (n := 40000 + 6 * (i + 3)) (by show 10 + i + 1 + 0 ≤ 10 + (i + 3); omega) (by show 40000 + 6 * i + 6 + 0 ≤ 40000 + 6 * (i + 3); omega) ?_
    exact ih H locs ls ⟨h0, h1, h2, h3, oa, g0, g1, c1, c2, c3, c4, N1, B1, P1, t1, st1, sz1, f1, hR1, hK, hP, hD, hS, lv_sub hl [3, 4, 5, 6, 0] rfl⟩
  · refine lv_aload_n hx hb d_L_law_589 rfl (lv_at hl 5 rfl) ?_
    refine lv_iconst (v := nI 0) hx hb d_L_law_590 (by decide +kernel) ?_
    refine r_lald hx hb hK hP 4 2 rfl rfl (show 0 < 1 by omega) (by omega) (hw2 (by rw [z1, nI_0])) d_L_law_591 ?_
    refine lv_iload hx hb d_L_law_592 (lv_at hl 0 rfl) ?_
    refine lv_i2l (v := an.toInt64) hx hb d_L_law_594 rfl ?_
    refine W.lcmp hx hb d_L_law_595 ?_
    refine lv_if_eq (tgt := 601) hx hb d_L_law_596 (by decide) (fun z => ?_) (fun z => absurd (lg_self _) z)
    refine lv_goto (tgt := 604) hx hb d_L_law_601 (by decide) ?_
    refine lv_iinc (v := nI (i + 3)) (lv' := [(4, .int (nI (i + 3))), (6, .int an), (5, .int t1), (0, .ref b), (1, .ref h0), (2, .ref g0), (3, .ref oa)]) hx hb d_L_law_604 hl (k := 6) rfl (inc3 i) (by decide) rfl (fun ls hl => ?_)
    refine lv_goto (tgt := 23) hx hb d_L_law_607 (by decide) ?_
    refine W.widen (k := 10 + (i + 3)) (n := 40000 + 6 * (i + 3)) (by show 10 + i + 1 + 0 ≤ 10 + (i + 3); omega) (by show 40000 + 6 * i + 6 + 0 ≤ 40000 + 6 * (i + 3); omega) ?_
    exact ih H locs ls ⟨h0, h1, h2, h3, oa, g0, g1, c1, c2, c3, c4, N1, B1, P1, t1, st1, sz1, f1, hR1, hK, hP, hD, hS, lv_sub hl [3, 4, 5, 6, 0] rfl⟩
end
section
set_option maxHeartbeats 4000000 in
set_option maxRecDepth 100000 in
theorem law_loop {p : Program} {l : Launch} {e : Env} {s : State} {m : MethodId} {below : List Frame} {meth : Method} {c : Code} {D : va_G} {b L : Nat} {xs : Nat → Int32} (htr : l.stackTraces = false) (hL : L ≤ 1536) (C0 : lw_At p s m meth c b L xs) {H : Heap} {locs : List Loc} {ls : Array Slot} (hI : LawI D b s 0 H locs ls) : W p l e room_1 s m #[Value.ref b] below meth c H locs (10 + 0) (40000 + 6 * 0) (lw_Z below #[Value.ref b] s) (F0 m 23 ls []) := by
  obtain ⟨hx, hb, hr, hml, hown, hts, hX, hbl, hlocks, hgv⟩ := id C0
  have hA : ∀ q, s.heap.size ≤ q → lA s q := fun _ h => h
  have cx : CallFix p m c code 7 s #[Value.ref b] lw_gd "StartTableLaw" := ⟨hx, hb, hml, hown, fun w hw => hts w (gd_sub hw)⟩
  refine r_loopC (I := fun (i : Nat) H locs ls => i ≤ L + 2 ∧ LawI D b s i H locs ls) (μ := fun i => L + 3 - i) (fc := fun i => 10 + i) (fs := fun i => 40000 + 6 * i) ?_ 0 ⟨by omega, hI⟩
  intro i H locs ls ⟨hi, hI⟩ ih
  have hI9 := hI
  obtain ⟨h0, h1, h2, h3, oa, g0, g1, c1, c2, c3, c4, N, B, P, th, st, sz, f, hR, hK, hP, hD, hS, hl⟩ := hI
  refine lv_iload hx hb d_L_law_23 (lv_at hl 4 rfl) ?_
  refine lv_aload_n hx hb d_L_law_25 rfl (lv_at hl 0 rfl) ?_
  refine va_slen hx hb hX hbl (A := lA s) (Nat.not_le.mpr hbl) hS d_L_law_26 ?_
  refine lv_iconst (v := nI 3) hx hb d_L_law_27 (by decide +kernel) ?_
  refine lv_isub hx hb d_L_law_28 ?_
  have hcmp : (nI L - nI 3).toInt = (L : Int) - 3 := pk_sub_toInt (by omega) (by omega)
  refine lv_icmp_gt (tgt := 610) hx hb d_L_law_29 (by decide) (fun z1 => ?_) (fun z1 => ?_)
  · refine lv_iconst (v := 1) hx hb d_L_law_610 (by decide) ?_
    refine va_forget (fun q hq => hS.2.2 q hq) ?_
    refine W.widen (k := 601024) (n := 7293034) (by show 10 + i ≤ 601024; omega) (by show 40000 + 6 * i ≤ 7293034; omega) ?_
    exact lw_ret hx hb hr hlocks d_L_law_611
  · have hi3 : i + 3 ≤ L := by
      have z1 : ¬ (nI L - nI 3) < nI i := z1
      rw [Int32.lt_iff_toInt_lt, hcmp, nI_toInt (show i < 2 ^ 31 by omega)] at z1
      omega
    have ih2 : ∀ (H : Heap) (locs : List Loc) (ls : Array Slot), LawI D b s (i + 3) H locs ls → W p l e room_1 s m #[Value.ref b] below meth c H locs (10 + (i + 3)) (40000 + 6 * (i + 3)) (lw_Z below #[Value.ref b] s) (F0 m 23 ls []) := fun H locs ls h => ih (i + 3) H locs ls (by show L + 3 - (i + 3) < L + 3 - i; omega) ⟨by omega, h⟩
    refine lv_aload_n hx hb d_L_law_32 rfl (lv_at hl 0 rfl) ?_
    refine lv_iload hx hb d_L_law_33 (lv_at hl 4 rfl) ?_
    refine r_sld hx hb hX hbl hS (show i < L by omega) (by omega) d_L_law_35 ?_
    refine lv_bipush (v := nI 15) hx hb d_L_law_36 (by decide +kernel) ?_
    refine lv_iand hx hb d_L_law_38 ?_
    obtain ⟨j, hj, ej⟩ := pk_andE (xs i) (m := nI 15) 4 (by decide +kernel)
    rw [ej]
    rcases (show j = 0 ∨ j = 1 ∨ j = 2 ∨ j = 3 ∨ j = 4 ∨ j = 5 ∨ j = 6 ∨ j = 7 ∨ j = 8 ∨ 9 ≤ j by omega) with rfl | rfl | rfl | rfl | rfl | rfl | rfl | rfl | rfl | h9
    · refine lv_tableIn (off := 49) (tgt := 88) hx hb d_L_law_39 (by decide +kernel) (by decide +kernel) (by decide +kernel) (by decide) ?_
      exact law_space htr hL C0 hi3 ⟨h0, h1, h2, h3, oa, g0, g1, c1, c2, c3, c4, N, B, P, th, st, sz, f, hR, hK, hP, hD, hS, hl⟩ ih2
    · refine lv_tableIn (off := 105) (tgt := 144) hx hb d_L_law_39 (by decide +kernel) (by decide +kernel) (by decide +kernel) (by decide) ?_
      exact law_cut htr hL C0 hi3 ⟨h0, h1, h2, h3, oa, g0, g1, c1, c2, c3, c4, N, B, P, th, st, sz, f, hR, hK, hP, hD, hS, hl⟩ ih2
    · refine lv_tableIn (off := 161) (tgt := 200) hx hb d_L_law_39 (by decide +kernel) (by decide +kernel) (by decide +kernel) (by decide) ?_
      exact law_join htr hL C0 hi3 ⟨h0, h1, h2, h3, oa, g0, g1, c1, c2, c3, c4, N, B, P, th, st, sz, f, hR, hK, hP, hD, hS, hl⟩ ih2
    · refine lv_tableIn (off := 217) (tgt := 256) hx hb d_L_law_39 (by decide +kernel) (by decide +kernel) (by decide +kernel) (by decide) ?_
      exact law_make htr hL C0 hi3 ⟨h0, h1, h2, h3, oa, g0, g1, c1, c2, c3, c4, N, B, P, th, st, sz, f, hR, hK, hP, hD, hS, hl⟩ ih2
    · refine lv_tableIn (off := 285) (tgt := 324) hx hb d_L_law_39 (by decide +kernel) (by decide +kernel) (by decide +kernel) (by decide) ?_
      exact law_begin htr hL C0 hi3 ⟨h0, h1, h2, h3, oa, g0, g1, c1, c2, c3, c4, N, B, P, th, st, sz, f, hR, hK, hP, hD, hS, hl⟩ ih2
    · refine lv_tableIn (off := 341) (tgt := 380) hx hb d_L_law_39 (by decide +kernel) (by decide +kernel) (by decide +kernel) (by decide) ?_
      exact law_size htr hL C0 hi3 ⟨h0, h1, h2, h3, oa, g0, g1, c1, c2, c3, c4, N, B, P, th, st, sz, f, hR, hK, hP, hD, hS, hl⟩ ih2
    · refine lv_tableIn (off := 397) (tgt := 436) hx hb d_L_law_39 (by decide +kernel) (by decide +kernel) (by decide +kernel) (by decide) ?_
      exact law_start htr hL C0 hi3 ⟨h0, h1, h2, h3, oa, g0, g1, c1, c2, c3, c4, N, B, P, th, st, sz, f, hR, hK, hP, hD, hS, hl⟩ ih2
    · refine lv_tableIn (off := 453) (tgt := 492) hx hb d_L_law_39 (by decide +kernel) (by decide +kernel) (by decide +kernel) (by decide) ?_
      exact law_begins htr hL C0 hi3 ⟨h0, h1, h2, h3, oa, g0, g1, c1, c2, c3, c4, N, B, P, th, st, sz, f, hR, hK, hP, hD, hS, hl⟩ ih2
    · refine lv_tableIn (off := 509) (tgt := 548) hx hb d_L_law_39 (by decide +kernel) (by decide +kernel) (by decide +kernel) (by decide) ?_
      exact law_count htr hL C0 hi3 ⟨h0, h1, h2, h3, oa, g0, g1, c1, c2, c3, c4, N, B, P, th, st, sz, f, hR, hK, hP, hD, hS, hl⟩ ih2
    · refine lv_tableOut (tgt := 604) hx hb d_L_law_39 (Or.inr (by rw [nI_toInt (show j < 2 ^ 31 by omega)]; omega)) (by decide) ?_
      have ih := ih2
      refine lv_iinc (v := nI (i + 3)) (lv' := [(4, .int (nI (i + 3))), (0, .ref b), (1, .ref h0), (2, .ref g0), (3, .ref oa)]) hx hb d_L_law_604 hl (k := 4) rfl (inc3 i) (by decide) rfl (fun ls hl => ?_)
      refine lv_goto (tgt := 23) hx hb d_L_law_607 (by decide) ?_
      refine W.widen (k := 10 + (i + 3)) (n := 40000 + 6 * (i + 3)) (by show 10 + i ≤ 10 + (i + 3); omega) (by show 40000 + 6 * i ≤ 40000 + 6 * (i + 3); omega) ?_
      exact ih H locs ls ⟨h0, h1, h2, h3, oa, g0, g1, c1, c2, c3, c4, N, B, P, th, st, sz, f, hR, hK, hP, hD, hS, lv_sub hl [1, 2, 3, 4, 0] rfl⟩
set_option maxHeartbeats 4000000 in
set_option maxRecDepth 100000 in
theorem whole_start {p : Program} {e : Env} {s : State} {m : MethodId} {below : List Frame} {meth : Method} {c : Code} (l : Launch) (htr : l.stackTraces = false) {b L : Nat} {xs : Nat → Int32} (hL : L ≤ 1536) (C0 : lw_At p s m meth c b L xs) : W p l e room_1 s m #[Value.ref b] below meth c s.heap [] 0 0 (lw_Z below #[Value.ref b] s) (entryFrame m ([Value.ref b] : List Value).toArray 7) := by
  obtain ⟨hx, hb, hr, hml, hown, hts, hX, hbl, hlocks, hgv⟩ := id C0
  have hA : ∀ q, s.heap.size ≤ q → lA s q := fun _ h => h
  have cx : CallFix p m c code 7 s #[Value.ref b] lw_gd "StartTableLaw" := ⟨hx, hb, hml, hown, fun w hw => hts w (gd_sub hw)⟩
  obtain ⟨d0, iS0, hKn0⟩ := u_known (C := R_T) (T := F_T) (N := 4) (n := 4) cx.2.2.2.2 i_T (cx.2.2.2.2 _ mn_T)
  obtain ⟨d1, iS1, hKn1⟩ := u_known (C := R_O) (T := F_O) (N := 1) (n := 1) cx.2.2.2.2 i_O (cx.2.2.2.2 _ mn_O)
  obtain ⟨d2, iS2, hKn2⟩ := u_known (C := R_M) (T := F_M) (N := 3) (n := 3) cx.2.2.2.2 i_M (cx.2.2.2.2 _ mn_M)
  obtain ⟨D, hKc⟩ : ∃ D : va_G, ∀ (k : Nat) (q : vw_C), classes[k]? = some q → u_Kn s q.1 q.2.1 q.2.2 (D.1 k) (D.2 k) := by
    refine ⟨(fun k => if k = 0 then d0 else if k = 1 then d1 else d2, fun k => if k = 0 then iS0 else if k = 1 then iS1 else iS2), ?_⟩
    intro k q hq
    match k, hq with
    | 0, hq => cases hq; exact hKn0
    | 1, hq => cases hq; exact hKn1
    | 2, hq => cases hq; exact hKn2
    | k + 3, hq => simp [classes] at hq
  have hS : va_S (lA s) s.heap s.heap [] := va_S.rf
  have hK : va_K D classes [] s := ⟨hKc, fun k q h => by simp at h⟩
  have hP : va_P D classes [] s.heap := fun k q h => by simp at h
  have hD : va_D (lA s) [] := ⟨fun i j p q h => by simp at h, fun k q h => by simp at h⟩
  have hl := lv_entry ([.ref b]) (n := 7) (Nat.le_of_ble_eq_true rfl)
  rw [lg_entry_eq]
  generalize (lg_sl ([.ref b]) ++ List.replicate (7 - (lg_sl ([.ref b])).length) Slot.unset).toArray = ls at hl ⊢
  have hl : lv_has ls 7 [(0, .ref b)] := hl
  refine va_new (ci := 0) (fs := [.null, .null, .int 0, .int 0]) (C := R_T) (T := F_T) (N := 4) hx hb cx.2.2.2.2 i_T t_T0 t_T_ok cx.2.2.2.1 (cx.2.2.2.2 _ mk_L_8) (cx.2.2.2.2 _ mn_T) (cx.2.2.2.2 _ mi_T) hK hP hD hS hA rfl (fun j hj => by rcases (show j = 0 ∨ j = 1 ∨ j = 2 ∨ j = 3 by omega) with rfl | rfl | rfl | rfl <;> rfl) (Nat.le_of_ble_eq_true rfl) (Nat.le_of_ble_eq_true rfl) d_L_law_0 (fun h0 H hP hD hS => ?_)
  have hP : va_P D classes ([(h0, .inr (0, [.null, .null, .int 0, .int 0]))]) H := hP
  have hD : va_D (lA s) ([(h0, .inr (0, [.null, .null, .int 0, .int 0]))]) := hD
  refine lv_dup hx hb d_L_law_3 rfl ?_
  refine r_callIv (wr := List.filterMap (fun i : Nat => ([(h0, .inr (0, [.null, .null, .int 0, .int 0]))] : va_W)[i]?) []) (nA := 0) (rest := [.ref h0]) (ct_T_init l D) cx mc_T_init ml_L_42 ms_T_init mi_T rfl (by decide +kernel) rfl ⟨Nat.le_of_ble_eq_true rfl, Nat.le_of_ble_eq_true rfl⟩ ⟨Nat.le_of_ble_eq_true rfl, Nat.le_of_ble_eq_true rfl⟩ hK hP hD hS hA [0] [] [] rfl rfl rfl (by decide) (by decide) (by decide) hl.1 rfl (Nat.le_of_ble_eq_true rfl) d_L_law_4 (fun u9 H locs hw9 hK9 hP hD hS => ?_)
  obtain ⟨⟨h1, h2, h3⟩, c1, c2⟩ := u9
  have hK : va_K D classes (tT c1 c2) s := hK9
  have hP : va_P D classes (wT h0 h1 h2 h3 c1 c2 (nI 1024) (nI 1) (stS (fun _ => 0) 0 1024) (upd (fun _ => 0) 0 (nI 1024))) H := hP
  have hD : va_D (lA s) (wT h0 h1 h2 h3 c1 c2 (nI 1024) (nI 1) (stS (fun _ => 0) 0 1024) (upd (fun _ => 0) 0 (nI 1024))) := hD
  refine lv_astore_n (lv' := [(1, .ref h0), (0, .ref b)]) hx hb d_L_law_7 rfl hl (by decide) rfl (fun ls hl => ?_)
  refine va_new (ci := 2) (fs := [.int 0, .int 0, .null]) (C := R_M) (T := F_M) (N := 3) hx hb cx.2.2.2.2 i_M t_M0 t_M_ok cx.2.2.2.1 (cx.2.2.2.2 _ mk_L_43) (cx.2.2.2.2 _ mn_M) (cx.2.2.2.2 _ mi_M) hK hP hD hS hA rfl (fun j hj => by rcases (show j = 0 ∨ j = 1 ∨ j = 2 by omega) with rfl | rfl | rfl <;> rfl) (Nat.le_of_ble_eq_true rfl) (Nat.le_of_ble_eq_true rfl) d_L_law_8 (fun g0 H hP hD hS => ?_)
  have hP : va_P D classes (wT h0 h1 h2 h3 c1 c2 (nI 1024) (nI 1) (stS (fun _ => 0) 0 1024) (upd (fun _ => 0) 0 (nI 1024)) ++ [(g0, .inr (2, [.int 0, .int 0, .null]))]) H := hP
  have hD : va_D (lA s) (wT h0 h1 h2 h3 c1 c2 (nI 1024) (nI 1) (stS (fun _ => 0) 0 1024) (upd (fun _ => 0) 0 (nI 1024)) ++ [(g0, .inr (2, [.int 0, .int 0, .null]))]) := hD
  refine lv_dup hx hb d_L_law_11 rfl ?_
  refine r_callIv (wr := List.filterMap (fun i : Nat => (wT h0 h1 h2 h3 c1 c2 (nI 1024) (nI 1) (stS (fun _ => 0) 0 1024) (upd (fun _ => 0) 0 (nI 1024)) ++ [(g0, .inr (2, [.int 0, .int 0, .null]))] : va_W)[i]?) [0, 1, 2, 3]) (nA := 0) (rest := [.ref g0]) (ct_M_init l D) cx mc_M_init ml_L_45 ms_M_init mi_M rfl (by decide +kernel) rfl ⟨Nat.le_of_ble_eq_true rfl, Nat.le_of_ble_eq_true rfl⟩ ⟨Nat.le_of_ble_eq_true rfl, Nat.le_of_ble_eq_true rfl⟩ hK hP hD hS hA [4] [0, 1, 2, 3] [] rfl rfl rfl (by decide) (by decide) (by decide) hl.1 rfl (Nat.le_of_ble_eq_true rfl) d_L_law_12 (fun u9 H locs hw9 hK9 hP hD hS => ?_)
  obtain ⟨g1, c3⟩ := u9
  have hK : va_K D classes (tT c1 c2 ++ tM c3) s := hK.app hK9
  have hP : va_P D classes (wT h0 h1 h2 h3 c1 c2 (nI 1024) (nI 1) (stS (fun _ => 0) 0 1024) (upd (fun _ => 0) 0 (nI 1024)) ++ wM g0 g1 c3 0 (nI 1024) (sB (sB (fun _ => false) 0 true) 1024 true)) H := hP
  have hD : va_D (lA s) (wT h0 h1 h2 h3 c1 c2 (nI 1024) (nI 1) (stS (fun _ => 0) 0 1024) (upd (fun _ => 0) 0 (nI 1024)) ++ wM g0 g1 c3 0 (nI 1024) (sB (sB (fun _ => false) 0 true) 1024 true)) := hD
  refine lv_astore_n (lv' := [(2, .ref g0), (1, .ref h0), (0, .ref b)]) hx hb d_L_law_15 rfl hl (by decide) rfl (fun ls hl => ?_)
  refine lv_iconst (v := nI 1) hx hb d_L_law_16 (by decide +kernel) ?_
  refine va_newa (atype := .long) (ty := .long) hx hb (cx.2.2.2.2 _ ma_long) rfl hK hP hD hS hA (n := nI 1) (N' := 1) (a0 := (1, .inr (.inl (fun _ => 0)))) (fun cA => rfl) (nI_pos (by omega)) (nI_clamp (by omega)) (Nat.le_of_ble_eq_true rfl) (Nat.le_of_ble_eq_true rfl) (Nat.le_of_ble_eq_true rfl) d_L_law_17 (fun oa c4 H hK hP hD hS => ?_)
  have hP : va_P D classes (wZ h0 h1 h2 h3 c1 c2 (nI 1024) (nI 1) (stS (fun _ => 0) 0 1024) (upd (fun _ => 0) 0 (nI 1024)) oa c4 (fun _ => 0) g0 g1 c3 0 (nI 1024) (sB (sB (fun _ => false) 0 true) 1024 true)) H := hP.sub [0, 1, 2, 3, 6, 4, 5] rfl
  have hD : va_D (lA s) (wZ h0 h1 h2 h3 c1 c2 (nI 1024) (nI 1) (stS (fun _ => 0) 0 1024) (upd (fun _ => 0) 0 (nI 1024)) oa c4 (fun _ => 0) g0 g1 c3 0 (nI 1024) (sB (sB (fun _ => false) 0 true) 1024 true)) := hD.sub [0, 1, 2, 3, 6, 4, 5] (by decide) rfl
  have hK : va_K D classes (tZ c1 c2 c4 c3) s := hK.sub [0, 1, 3, 2] rfl
  refine lv_astore_n (lv' := [(3, .ref oa), (2, .ref g0), (1, .ref h0), (0, .ref b)]) hx hb d_L_law_19 rfl hl (by decide) rfl (fun ls hl => ?_)
  refine lv_iconst (v := nI 0) hx hb d_L_law_20 (by decide +kernel) ?_
  refine lv_istore (lv' := [(4, .int (nI 0)), (3, .ref oa), (2, .ref g0), (1, .ref h0), (0, .ref b)]) hx hb d_L_law_21 hl (by decide) rfl (fun ls hl => ?_)
  have hrep : Rep 1024 (sB (sB (fun _ => false) 0 true) 1024 true) (nI 1) (stS (fun _ => 0) 0 1024) (upd (fun _ => 0) 0 (nI 1024)) := rep_one (by omega) (by omega) (by decide +kernel) (by decide +kernel) (fun j z1 z2 => by rw [sB_ne (by omega), sB_ne (by omega)])
  refine W.widen (k := 10 + 0) (n := 40000 + 6 * 0) (Nat.le_of_ble_eq_true rfl) (Nat.le_of_ble_eq_true rfl) ?_
  exact law_loop htr hL C0 ⟨h0, h1, h2, h3, oa, g0, g1, c1, c2, c3, c4, 1024, (sB (sB (fun _ => false) 0 true) 1024 true), nI 1, 0, stS (fun _ => 0) 0 1024, upd (fun _ => 0) 0 (nI 1024), fun _ => 0, hrep, hK, hP, hD, hS, lv_sub hl [4, 3, 2, 1, 0] rfl⟩
end
section
set_option maxHeartbeats 4000000 in
theorem lw_walk (l : Launch) (htr : l.stackTraces = false) (b : Addr) (xs : List Int32) : MetFree l x (headSpec (Jvm.Cond.code x code maxLocals ret :: tables_1) room_1) (lw_P b xs) (fun _ _ _ _ _ => True) lw_Q := by
  refine MetFree.of_bodyS (code := code) (maxLocals := maxLocals) (ret := ret) (by decide) ?_ ?_
  · intro args s m h hn
    obtain ⟨meth, c, h1, h2, h3, h4, h5, h6, -, -⟩ := Cond.code_spec hn (atoms_spec (ws := Jvm.Cond.code x code maxLocals ret :: tables_1) h _ List.mem_cons_self)
    exact ⟨meth, c, h1, h2, h3, h4, h5, h6⟩
  · intro p e s m args below meth c s₁ B hml0 hP _
    obtain ⟨rfl, hx, hbd, hgv⟩ := hP
    obtain ⟨scr, harrAt, hlist, hof, hsmall⟩ := hx
    obtain ⟨hcb, hkn, -, -⟩ := State.arrayAt?_spec harrAt
    have hown : s.vm.findClass R_law = some m.cls := findClass_of_methodNamed B.named
    have hts0 : ∀ c ∈ (Jvm.Cond.code x code maxLocals ret :: tables_1), c.before #[Value.ref b] s = true := atoms_spec (ws := Jvm.Cond.code x code maxLocals ret :: tables_1) B.pre
    have hts : ∀ w ∈ lw_tbl, w.before #[Value.ref b] s = true := k2_hts_sels lw_privs (fun w hw => hts0 w (List.mem_cons_of_mem _ hw)) lw_privs_ok
    have hml : c.maxLocals = 7 := B.maxLocals_eq (hts0 _ List.mem_cons_self)
    have X₀ : Stand p l e room_1 s m #[Value.ref b] below meth c s₁ [] 0 0 := Stand.of_body B
    have hh0 : s₁.heap = s.heap := by rw [B.state]; rfl
    have hsz : scr.slots.size = xs.length := by rw [← Array.length_toList, hlist, List.length_map]
    have hval : ∀ j : Nat, j < xs.length → scr.slots[j]? = some (.int (xs.getD j 0)) := fun j hj => by
      rw [← Array.getElem?_toList, hlist]
      simp [hj]
    have hbl : b < s.heap.size := (Array.getElem?_eq_some_iff.mp hcb).1
    have hX : va_X b xs.length (fun j => xs.getD j 0) s s.heap := ⟨scr, hcb, hof, hkn, hsz, hval⟩
    have K : W p l e room_1 s m #[Value.ref b] below meth c s₁.heap [] 0 0 (lw_Z below #[Value.ref b] s) (entryFrame m ([Value.ref b] : List Value).toArray 7) := by
      rw [hh0]
      exact whole_start l htr hbd ⟨B.exec, B.bytes, B.returns, hml, hown, hts, hX, hbl, B.notSynchronized, hgv⟩
    obtain ⟨t, a1, o, b1, b2, b3⟩ := K s₁ rfl X₀
    exact ⟨t, o, a1, b1, b2, b3⟩
theorem lw_pre_spec {args : Array Value} {s : State} (h : (Jvm.Cond.and given_1 narrow_1).before args s = true) (hr : rest_1_c.before args s = true) : ∃ (b : Addr) (xs : List Int32), lw_P b xs args s := by
  have hs := flat_of_before _ h
  have hq := flat_of_before _ hr
  have hc : (Cond.count 1).before args s = true := hs _ (by decide +kernel)
  have harr : (Cond.arrayOf (.arg 0) .int).before args s = true := hs _ (by decide +kernel)
  have hle : (Cond.le (.length (.arg 0)) (.int 1536)).before args s = true := hs _ (by decide +kernel)
  have hlen : (Cond.isInt (.length (.arg 0))).before args s = true := hq _ (by decide +kernel)
  have hall : (Cond.all (.arg 0) (.isInt (.elem (.arg 0) (.index 0)))).before args s = true := hq _ (by decide +kernel)
  obtain ⟨b, xs, hb, hx⟩ := State.ints_of_pre rfl harr hlen hall
  have hsm : xs.length < 2 ^ 31 := hx.choose_spec.2.2.2
  have hev : (Term.length (.arg 0)).eval args s none [] s = some (.int xs.length.toInt32) := hx.length_eval hb
  have hv := Cond.le_ints hev (show (Term.int 1536).eval args s none [] s = some (.int 1536) from rfl)
  have hd : xs.length.toInt32 ≤ 1536 := by
    simpa [Cond.before, Cond.holds, hv] using hle
  have hN : xs.length ≤ 1536 := (Int32.ofNat_le_ofNat hsm (by decide)).mp (show Int32.ofNat xs.length ≤ Int32.ofNat 1536 from hd)
  exact ⟨b, xs, Cond.one_arg hc (show args[0]? = some (.ref b) from hb), hx, hN, h⟩
theorem lw_comes (l : Launch) (htr : l.stackTraces = false) : Comes l x (Jvm.Cond.code x code maxLocals ret :: tables_1) room_1 (fun tb e args s => Calls_1 tb e args s ∧ rest_1 tb e args s ∧ Pre_1 tb e args s)
    (fun _ _ args s o t => lw_Q args s o t) := by
  intro p e ha hc hk s m args below hf hfit hheap happ hpre
  obtain ⟨b, xs, hP⟩ := lw_pre_spec hpre.2.2 hpre.2.1
  obtain ⟨k, o, h1, h2, h3, hQ⟩ := lw_walk l htr b xs p e ha hc hk s m args below hf ((Spec.applies_iff_loose hf).mp happ).1 hP trivial
  exact ⟨k, o, h1, h2, h3, hQ⟩
theorem lw_frame {s t : State} {o : Outcome} {args : Array Value} (h : Framed s o t [] 601024 7293034) :
    Framed s o t (fieldLocs frame_1_writes args s ++ arrayLocs frame_1_arrays args s ++ staticLocs frame_1_statics s) 601024 7293034 := h
theorem lw_limb (L : Cond) (hL : ∀ (args : Array Value) (s t : State), L.after args s (.returned (some (.int 1))) t = true) :
    ArmFor flags0 classFile x code maxLocals ret World_1 tables_1 room_1 Calls_1 rest_1 Pre_1
      (fun tb e a s o t => postC L tb e a s o t ∧ Framed s o t (fieldLocs frame_1_writes a s ++ arrayLocs frame_1_arrays a s ++ staticLocs frame_1_statics s) 601024 7293034) := by
  intro l hfl _ _ p e ha hc hk s m args below hf hfit hheap happ hpre
  have htr : l.stackTraces = false := by rw [Launch.stackTraces, hfl]; decide +kernel
  obtain ⟨k, o, h1, h2, h3, rfl, hF⟩ := lw_comes l htr p e ha hc hk s m args below hf hfit hheap happ hpre
  exact ⟨k, _, h1, h2, h3, hL args s _, lw_frame hF⟩
theorem i_vc : Claimed_1_1 ∧ Claimed_1_2 := ⟨lw_limb limb_1_1 (fun args s t => by simp [limb_1_1, Cond.after, Cond.holds, Cond.value]), lw_limb limb_1_2 (fun args s t => Cond.after_iff.mpr (by
  first | (rw [show limb_1_2 = Cond.eq .result (.int 1) from rfl, Cond.eq_ints (x := 1) (y := 1) rfl rfl]; simp; done) | (simp [limb_1_2, Cond.value, Term.eval]; done)))⟩
end
