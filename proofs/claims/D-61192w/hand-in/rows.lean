section
-- ===== PART A: goes FIRST, ahead of the names: the tables' words, and 'selects' of the private methods out of them =====
/-- a private method of a class that the tables say can be made, by its rows of tables_1 -/
def lw_okq (q : MethodName × Nat) : Prop := (q.1.cls ≠ "java/lang/invoke/MethodHandle" ∧ q.1.cls ≠ "java/lang/invoke/VarHandle") ∧ Cond.instantiable q.1.cls q.2 ∈ tables_1 ∧ Cond.privateMethod q.1 ∈ tables_1 ∧ Cond.instanceMethod q.1 ∈ tables_1
theorem lw_p0 : lw_okq (⟨"OrderRows2", "isOrder", "(I)Z"⟩, 8) := ⟨⟨by decide +kernel, by decide +kernel⟩, List.mem_of_getElem? (i := 10) (by decide +kernel), List.mem_of_getElem? (i := 141) (by decide +kernel), List.mem_of_getElem? (i := 142) (by decide +kernel)⟩
theorem lw_p1 : lw_okq (⟨"OrderRows2", "isNoDay", "(J)Z"⟩, 8) := ⟨⟨by decide +kernel, by decide +kernel⟩, List.mem_of_getElem? (i := 10) (by decide +kernel), List.mem_of_getElem? (i := 145) (by decide +kernel), List.mem_of_getElem? (i := 146) (by decide +kernel)⟩
theorem lw_p2 : lw_okq (⟨"OrderRows2", "pass", "(J)I"⟩, 8) := ⟨⟨by decide +kernel, by decide +kernel⟩, List.mem_of_getElem? (i := 10) (by decide +kernel), List.mem_of_getElem? (i := 149) (by decide +kernel), List.mem_of_getElem? (i := 150) (by decide +kernel)⟩
theorem lw_p3 : lw_okq (⟨"OrderRows2", "find", "(IIIJ)LOrderRows2$Order;"⟩, 8) := ⟨⟨by decide +kernel, by decide +kernel⟩, List.mem_of_getElem? (i := 10) (by decide +kernel), List.mem_of_getElem? (i := 193) (by decide +kernel), List.mem_of_getElem? (i := 194) (by decide +kernel)⟩
theorem lw_p4 : lw_okq (⟨"OrderRows2", "tellRing", "(II)I"⟩, 8) := ⟨⟨by decide +kernel, by decide +kernel⟩, List.mem_of_getElem? (i := 10) (by decide +kernel), List.mem_of_getElem? (i := 231) (by decide +kernel), List.mem_of_getElem? (i := 232) (by decide +kernel)⟩
theorem lw_p5 : lw_okq (⟨"OrderRows2Model", "isOrder", "(I)Z"⟩, 17) := ⟨⟨by decide +kernel, by decide +kernel⟩, List.mem_of_getElem? (i := 256) (by decide +kernel), List.mem_of_getElem? (i := 330) (by decide +kernel), List.mem_of_getElem? (i := 331) (by decide +kernel)⟩
theorem lw_p6 : lw_okq (⟨"OrderRows2Model", "isDay", "(J)Z"⟩, 17) := ⟨⟨by decide +kernel, by decide +kernel⟩, List.mem_of_getElem? (i := 256) (by decide +kernel), List.mem_of_getElem? (i := 334) (by decide +kernel), List.mem_of_getElem? (i := 335) (by decide +kernel)⟩
theorem lw_p7 : lw_okq (⟨"OrderRows2Model", "set", "(J)I"⟩, 17) := ⟨⟨by decide +kernel, by decide +kernel⟩, List.mem_of_getElem? (i := 256) (by decide +kernel), List.mem_of_getElem? (i := 338) (by decide +kernel), List.mem_of_getElem? (i := 339) (by decide +kernel)⟩
theorem lw_p8 : lw_okq (⟨"OrderRows2Model", "find", "(IIIJ)I"⟩, 17) := ⟨⟨by decide +kernel, by decide +kernel⟩, List.mem_of_getElem? (i := 256) (by decide +kernel), List.mem_of_getElem? (i := 353) (by decide +kernel), List.mem_of_getElem? (i := 354) (by decide +kernel)⟩
theorem lw_p9 : lw_okq (⟨"OrderRows2Model", "isForce", "(IJ)Z"⟩, 17) := ⟨⟨by decide +kernel, by decide +kernel⟩, List.mem_of_getElem? (i := 256) (by decide +kernel), List.mem_of_getElem? (i := 357) (by decide +kernel), List.mem_of_getElem? (i := 358) (by decide +kernel)⟩
def lw_privs_1 : List (MethodName × Nat) := [(⟨"OrderRows2", "isOrder", "(I)Z"⟩, 8), (⟨"OrderRows2", "isNoDay", "(J)Z"⟩, 8), (⟨"OrderRows2", "pass", "(J)I"⟩, 8), (⟨"OrderRows2", "find", "(IIIJ)LOrderRows2$Order;"⟩, 8), (⟨"OrderRows2", "tellRing", "(II)I"⟩, 8), (⟨"OrderRows2Model", "isOrder", "(I)Z"⟩, 17), (⟨"OrderRows2Model", "isDay", "(J)Z"⟩, 17), (⟨"OrderRows2Model", "set", "(J)I"⟩, 17), (⟨"OrderRows2Model", "find", "(IIIJ)I"⟩, 17), (⟨"OrderRows2Model", "isForce", "(IJ)Z"⟩, 17)]
theorem lw_r1 : ∀ q ∈ lw_privs_1, lw_okq q := List.forall_mem_cons.mpr ⟨lw_p0, List.forall_mem_cons.mpr ⟨lw_p1, List.forall_mem_cons.mpr ⟨lw_p2, List.forall_mem_cons.mpr ⟨lw_p3, List.forall_mem_cons.mpr ⟨lw_p4, List.forall_mem_cons.mpr ⟨lw_p5, List.forall_mem_cons.mpr ⟨lw_p6, List.forall_mem_cons.mpr ⟨lw_p7, List.forall_mem_cons.mpr ⟨lw_p8, List.forall_mem_cons.mpr ⟨lw_p9, fun _ h => absurd h List.not_mem_nil⟩⟩⟩⟩⟩⟩⟩⟩⟩⟩
def lw_privs : List (MethodName × Nat) := lw_privs_1
def lw_tbl : List Cond := k2_sels lw_privs ++ tables_1
theorem lw_privs_ok : ∀ q ∈ lw_privs, lw_okq q := lw_r1
abbrev R_X : String := "OrderRows2"
abbrev R_M : String := "OrderRows2Model"
abbrev R_O : String := "OrderRows2$Order"
abbrev R_F : String := "OrderRows2$Forward"
abbrev R_H : String := "OrderRows2$Hold"
abbrev R_R : String := "OrderRows2$Refusal"
def F_X : u_T := fun k => match k with
  | 0 => ("OrderRows2", "orders", "[LOrderRows2$Order;", true)
  | 1 => ("OrderRows2", "count", "I", false)
  | 2 => ("OrderRows2", "ranks", "[I", true)
  | 3 => ("OrderRows2", "now", "J", false)
  | 4 => ("OrderRows2", "way", "[I", true)
  | 5 => ("OrderRows2", "passed", "[Z", true)
  | 6 => ("OrderRows2", "ring", "[I", true)
  | _ => ("OrderRows2", "ringSize", "I", false)
def t_X : Nat → FieldType := fun k => match k with
  | 0 => .array (.object "OrderRows2$Order")
  | 1 => .int
  | 2 => .array .int
  | 3 => .long
  | 4 => .array .int
  | 5 => .array .boolean
  | 6 => .array .int
  | _ => .int
theorem n_X : ∀ a, a < 8 → ∀ b, b < 8 → a ≠ b → (F_X a).2.1 ≠ (F_X b).2.1 := by decide +kernel
theorem t_X_ok : ∀ k, k < 8 → parseFieldDescriptor (F_X k).2.2.1 = some (t_X k) := by decide +kernel
def F_M : u_T := fun k => match k with
  | 0 => ("OrderRows2Model", "thrown", "I", false)
  | 1 => ("OrderRows2Model", "orders", "I", false)
  | 2 => ("OrderRows2Model", "kinds", "[I", true)
  | 3 => ("OrderRows2Model", "entries", "[I", true)
  | 4 => ("OrderRows2Model", "persons", "[I", true)
  | 5 => ("OrderRows2Model", "tos", "[I", true)
  | 6 => ("OrderRows2Model", "froms", "[J", true)
  | 7 => ("OrderRows2Model", "untils", "[J", true)
  | 8 => ("OrderRows2Model", "made", "[J", true)
  | 9 => ("OrderRows2Model", "proved", "[Z", true)
  | 10 => ("OrderRows2Model", "overs", "[J", true)
  | 11 => ("OrderRows2Model", "ranks", "[I", true)
  | 12 => ("OrderRows2Model", "now", "J", false)
  | 13 => ("OrderRows2Model", "way", "[I", true)
  | 14 => ("OrderRows2Model", "ringFrom", "I", false)
  | 15 => ("OrderRows2Model", "ringSize", "I", false)
  | _ => ("OrderRows2Model", "ring", "[I", true)
def t_M : Nat → FieldType := fun k => match k with
  | 0 => .int
  | 1 => .int
  | 2 => .array .int
  | 3 => .array .int
  | 4 => .array .int
  | 5 => .array .int
  | 6 => .array .long
  | 7 => .array .long
  | 8 => .array .long
  | 9 => .array .boolean
  | 10 => .array .long
  | 11 => .array .int
  | 12 => .long
  | 13 => .array .int
  | 14 => .int
  | 15 => .int
  | _ => .array .int
theorem n_M : ∀ a, a < 17 → ∀ b, b < 17 → a ≠ b → (F_M a).2.1 ≠ (F_M b).2.1 := by decide +kernel
theorem t_M_ok : ∀ k, k < 17 → parseFieldDescriptor (F_M k).2.2.1 = some (t_M k) := by decide +kernel
def F_O : u_T := fun k => match k with
  | 0 => ("OrderRows2$Order", "kind", "I", true)
  | 1 => ("OrderRows2$Order", "entry", "I", true)
  | 2 => ("OrderRows2$Order", "who", "I", true)
  | 3 => ("OrderRows2$Order", "from", "J", true)
  | 4 => ("OrderRows2$Order", "until", "J", false)
  | 5 => ("OrderRows2$Order", "made", "J", true)
  | 6 => ("OrderRows2$Order", "proved", "Z", false)
  | 7 => ("OrderRows2$Order", "over", "J", false)
  | _ => ("OrderRows2$Forward", "to", "I", true)
def t_O : Nat → FieldType := fun k => match k with
  | 0 => .int
  | 1 => .int
  | 2 => .int
  | 3 => .long
  | 4 => .long
  | 5 => .long
  | 6 => .boolean
  | 7 => .long
  | _ => .int
theorem n_O : ∀ a, a < 9 → ∀ b, b < 9 → a ≠ b → (F_O a).2.1 ≠ (F_O b).2.1 := by decide +kernel
theorem t_O_ok : ∀ k, k < 9 → parseFieldDescriptor (F_O k).2.2.1 = some (t_O k) := by decide +kernel
/-- the three kinds of order: 0 Forward, 1 Hold, 2 Refusal -/
def C_o (ci : Nat) : String := match ci with
  | 0 => R_F
  | 1 => R_H
  | _ => R_R
def N_o (ci : Nat) : Nat := match ci with
  | 0 => 9
  | _ => 8
abbrev classes : List vw_C := [(R_F, F_O, 9), (R_H, F_O, 8), (R_R, F_O, 8), (R_X, F_X, 8), (R_M, F_M, 17)]
abbrev b_X_init : ByteArray := prog_1_method_3_code
abbrev y_X_init : MethodName := ⟨"OrderRows2", "<init>", "()V"⟩
abbrev b_Obj_init : ByteArray := object_method_1_code
abbrev y_Obj_init : MethodName := ⟨"java/lang/Object", "<init>", "()V"⟩
abbrev b_X_order : ByteArray := prog_1_method_6_code
abbrev y_X_order : MethodName := ⟨"OrderRows2", "order", "(IIIIJJ)I"⟩
abbrev b_X_isKind : ByteArray := prog_1_method_5_code
abbrev y_X_isKind : MethodName := ⟨"OrderRows2", "isKind", "(I)Z"⟩
abbrev b_X_isAddress : ByteArray := prog_1_method_2_code
abbrev y_X_isAddress : MethodName := ⟨"OrderRows2", "isAddress", "(I)Z"⟩
abbrev b_X_outside : ByteArray := prog_1_method_1_code
abbrev y_X_outside : MethodName := ⟨"OrderRows2", "outside", "(JJJ)Z"⟩
abbrev b_F_init : ByteArray := prog_2_method_1_code
abbrev y_F_init : MethodName := ⟨"OrderRows2$Forward", "<init>", "(IIIIJJJ)V"⟩
abbrev b_O_init : ByteArray := prog_4_method_1_code
abbrev y_O_init : MethodName := ⟨"OrderRows2$Order", "<init>", "(IIIJJJ)V"⟩
abbrev b_H_init : ByteArray := prog_3_method_1_code
abbrev y_H_init : MethodName := ⟨"OrderRows2$Hold", "<init>", "(IIIJJJ)V"⟩
abbrev b_R_init : ByteArray := prog_5_method_1_code
abbrev y_R_init : MethodName := ⟨"OrderRows2$Refusal", "<init>", "(IIIJJJ)V"⟩
abbrev b_X_proof : ByteArray := prog_1_method_9_code
abbrev y_X_proof : MethodName := ⟨"OrderRows2", "proof", "(IZJ)I"⟩
abbrev b_X_isOrder : ByteArray := prog_1_method_4_code
abbrev y_X_isOrder : MethodName := ⟨"OrderRows2", "isOrder", "(I)Z"⟩
abbrev b_X_isNoDay : ByteArray := prog_1_method_7_code
abbrev y_X_isNoDay : MethodName := ⟨"OrderRows2", "isNoDay", "(J)Z"⟩
abbrev b_X_pass : ByteArray := prog_1_method_8_code
abbrev y_X_pass : MethodName := ⟨"OrderRows2", "pass", "(J)I"⟩
abbrev b_O_lapses : ByteArray := prog_4_method_5_code
abbrev y_O_lapses : MethodName := ⟨"OrderRows2$Order", "lapses", "(J)Z"⟩
abbrev b_O_isOver : ByteArray := prog_4_method_2_code
abbrev y_O_isOver : MethodName := ⟨"OrderRows2$Order", "isOver", "()Z"⟩
abbrev b_X_withdraw : ByteArray := prog_1_method_10_code
abbrev y_X_withdraw : MethodName := ⟨"OrderRows2", "withdraw", "(IJ)I"⟩
abbrev b_O_cut : ByteArray := prog_4_method_6_code
abbrev y_O_cut : MethodName := ⟨"OrderRows2$Order", "cut", "(J)I"⟩
abbrev b_Math_max : ByteArray := prog_8_method_66_code
abbrev y_Math_max : MethodName := ⟨"java/lang/Math", "max", "(JJ)J"⟩
abbrev b_X_tick : ByteArray := prog_1_method_11_code
abbrev y_X_tick : MethodName := ⟨"OrderRows2", "tick", "(J)I"⟩
abbrev b_X_effective : ByteArray := prog_1_method_14_code
abbrev y_X_effective : MethodName := ⟨"OrderRows2", "effective", "(IIIJ)I"⟩
abbrev b_X_find : ByteArray := prog_1_method_12_code
abbrev y_X_find : MethodName := ⟨"OrderRows2", "find", "(IIIJ)LOrderRows2$Order;"⟩
abbrev b_O_isFor : ByteArray := prog_4_method_4_code
abbrev y_O_isFor : MethodName := ⟨"OrderRows2$Order", "isFor", "(IIIJ)Z"⟩
abbrev b_O_isIn : ByteArray := prog_4_method_3_code
abbrev y_O_isIn : MethodName := ⟨"OrderRows2$Order", "isIn", "(J)Z"⟩
abbrev b_O_sendsOn : ByteArray := prog_4_method_8_code
abbrev y_O_sendsOn : MethodName := ⟨"OrderRows2$Order", "sendsOn", "()Z"⟩
abbrev b_F_goesTo : ByteArray := prog_2_method_2_code
abbrev y_F_goesTo : MethodName := ⟨"OrderRows2$Forward", "goesTo", "()I"⟩
abbrev b_H_goesTo : ByteArray := prog_3_method_2_code
abbrev y_H_goesTo : MethodName := ⟨"OrderRows2$Hold", "goesTo", "()I"⟩
abbrev b_R_goesTo : ByteArray := prog_5_method_2_code
abbrev y_R_goesTo : MethodName := ⟨"OrderRows2$Refusal", "goesTo", "()I"⟩
abbrev b_X_tellRing : ByteArray := prog_1_method_13_code
abbrev y_X_tellRing : MethodName := ⟨"OrderRows2", "tellRing", "(II)I"⟩
abbrev b_X_ring : ByteArray := prog_1_method_15_code
abbrev y_X_ring : MethodName := ⟨"OrderRows2", "ring", "(I)I"⟩
abbrev b_X_rank : ByteArray := prog_1_method_16_code
abbrev y_X_rank : MethodName := ⟨"OrderRows2", "rank", "(II)I"⟩
abbrev b_X_extend : ByteArray := prog_1_method_17_code
abbrev y_X_extend : MethodName := ⟨"OrderRows2", "extend", "(IJ)I"⟩
abbrev b_X_told : ByteArray := prog_1_method_18_code
abbrev y_X_told : MethodName := ⟨"OrderRows2", "told", "(II)I"⟩
abbrev b_M_init : ByteArray := prog_7_method_1_code
abbrev y_M_init : MethodName := ⟨"OrderRows2Model", "<init>", "()V"⟩
abbrev b_M_order : ByteArray := prog_7_method_6_code
abbrev y_M_order : MethodName := ⟨"OrderRows2Model", "order", "(IIIIJJ)I"⟩
abbrev b_M_isIn : ByteArray := prog_7_method_3_code
abbrev y_M_isIn : MethodName := ⟨"OrderRows2Model", "isIn", "(JJJ)Z"⟩
abbrev b_M_proof : ByteArray := prog_7_method_8_code
abbrev y_M_proof : MethodName := ⟨"OrderRows2Model", "proof", "(IZJ)I"⟩
abbrev b_M_isOrder : ByteArray := prog_7_method_4_code
abbrev y_M_isOrder : MethodName := ⟨"OrderRows2Model", "isOrder", "(I)Z"⟩
abbrev b_M_isDay : ByteArray := prog_7_method_5_code
abbrev y_M_isDay : MethodName := ⟨"OrderRows2Model", "isDay", "(J)Z"⟩
abbrev b_M_set : ByteArray := prog_7_method_7_code
abbrev y_M_set : MethodName := ⟨"OrderRows2Model", "set", "(J)I"⟩
abbrev b_M_withdraw : ByteArray := prog_7_method_9_code
abbrev y_M_withdraw : MethodName := ⟨"OrderRows2Model", "withdraw", "(IJ)I"⟩
abbrev b_M_effective : ByteArray := prog_7_method_12_code
abbrev y_M_effective : MethodName := ⟨"OrderRows2Model", "effective", "(IIIJ)I"⟩
abbrev b_M_find : ByteArray := prog_7_method_11_code
abbrev y_M_find : MethodName := ⟨"OrderRows2Model", "find", "(IIIJ)I"⟩
abbrev b_M_isForce : ByteArray := prog_7_method_10_code
abbrev y_M_isForce : MethodName := ⟨"OrderRows2Model", "isForce", "(IJ)Z"⟩
abbrev b_M_ring : ByteArray := prog_7_method_13_code
abbrev y_M_ring : MethodName := ⟨"OrderRows2Model", "ring", "(I)I"⟩
abbrev b_M_rank : ByteArray := prog_7_method_14_code
abbrev y_M_rank : MethodName := ⟨"OrderRows2Model", "rank", "(II)I"⟩
abbrev b_M_tick : ByteArray := prog_7_method_15_code
abbrev y_M_tick : MethodName := ⟨"OrderRows2Model", "tick", "(J)I"⟩
abbrev b_M_extend : ByteArray := prog_7_method_16_code
abbrev y_M_extend : MethodName := ⟨"OrderRows2Model", "extend", "(IJ)I"⟩
abbrev b_M_told : ByteArray := prog_7_method_17_code
abbrev y_M_told : MethodName := ⟨"OrderRows2Model", "told", "(II)I"⟩
/-- the tables' words that a callee may be handed -/
def wt : List Cond := lw_tbl.filter goodWord
theorem wt_in {w : Cond} (h : w ∈ tables_1) (g : goodWord w = true) : w ∈ wt := List.mem_filter.mpr ⟨List.mem_append_right _ h, g⟩
theorem wt_sub : ∀ w ∈ wt, w ∈ lw_tbl := fun _ h => (List.mem_filter.mp h).1
theorem wt_good {c : Cond} {big : List Cond} (hs : ∀ w ∈ wt, w ∈ big) (h : c ∈ wt) : GoodIn big (c :: wt) := by
  intro w hw
  rcases List.mem_cons.mp hw with rfl | hw
  · exact ⟨hs _ h, good_of_word (List.mem_filter.mp h).2⟩
  · exact ⟨hs _ hw, good_of_word (List.mem_filter.mp hw).2⟩
theorem tk_0 : Cond.initialized "OrderRows2Law" ∈ wt := wt_in (List.mem_of_getElem? (i := 0) rfl) rfl
theorem tk_1 : Cond.initialized "OrderRows2" ∈ wt := wt_in (List.mem_of_getElem? (i := 1) rfl) rfl
theorem tk_2 : Cond.initialized "OrderRows2Model" ∈ wt := wt_in (List.mem_of_getElem? (i := 2) rfl) rfl
theorem tk_3 : Cond.initialized "OrderRows2$Order" ∈ wt := wt_in (List.mem_of_getElem? (i := 3) rfl) rfl
theorem tk_4 : Cond.initialized "OrderRows2$Forward" ∈ wt := wt_in (List.mem_of_getElem? (i := 4) rfl) rfl
theorem tk_5 : Cond.initialized "OrderRows2$Hold" ∈ wt := wt_in (List.mem_of_getElem? (i := 5) rfl) rfl
theorem tk_6 : Cond.initialized "OrderRows2$Refusal" ∈ wt := wt_in (List.mem_of_getElem? (i := 6) rfl) rfl
theorem tk_7 : Cond.initialized "java/lang/Math" ∈ wt := wt_in (List.mem_of_getElem? (i := 7) rfl) rfl
theorem tk_8 : Cond.initialized "java/lang/System" ∈ wt := wt_in (List.mem_of_getElem? (i := 8) rfl) rfl
theorem tk_9 : Cond.classLink "OrderRows2Law" 7 "OrderRows2" ∈ wt := wt_in (List.mem_of_getElem? (i := 9) rfl) rfl
theorem tk_10 : Cond.instantiable "OrderRows2" 8 ∈ wt := wt_in (List.mem_of_getElem? (i := 10) rfl) rfl
theorem tk_11 : Cond.methodLink "OrderRows2Law" 9 ⟨"OrderRows2", "<init>", "()V"⟩ ∈ wt := wt_in (List.mem_of_getElem? (i := 11) rfl) rfl
theorem tk_12 : Cond.instanceMethod ⟨"OrderRows2", "<init>", "()V"⟩ ∈ wt := wt_in (List.mem_of_getElem? (i := 12) rfl) rfl
theorem tk_13 : Cond.code ⟨"OrderRows2", "<init>", "()V"⟩ prog_1_method_3_code 1 none ∈ wt := wt_in (List.mem_of_getElem? (i := 13) rfl) rfl
theorem tk_14 : Cond.methodLink "OrderRows2" 3 ⟨"java/lang/Object", "<init>", "()V"⟩ ∈ wt := wt_in (List.mem_of_getElem? (i := 14) rfl) rfl
theorem tk_15 : Cond.instanceMethod ⟨"java/lang/Object", "<init>", "()V"⟩ ∈ wt := wt_in (List.mem_of_getElem? (i := 15) rfl) rfl
theorem tk_16 : Cond.code ⟨"java/lang/Object", "<init>", "()V"⟩ object_method_1_code 1 none ∈ wt := wt_in (List.mem_of_getElem? (i := 16) rfl) rfl
theorem tk_17 : Cond.classLink "OrderRows2" 9 "OrderRows2$Order" ∈ wt := wt_in (List.mem_of_getElem? (i := 17) rfl) rfl
theorem tq_18 : Cond.arrayOver (.object "OrderRows2$Order") ∈ lw_tbl := List.mem_append_right _ (List.mem_of_getElem? (i := 18) rfl)
theorem tk_19 : Cond.fieldLink "OrderRows2" 11 "OrderRows2" "orders" "[LOrderRows2$Order;" ∈ wt := wt_in (List.mem_of_getElem? (i := 19) rfl) rfl
theorem tk_20 : Cond.fieldLink "OrderRows2" 29 "OrderRows2" "count" "I" ∈ wt := wt_in (List.mem_of_getElem? (i := 20) rfl) rfl
theorem tk_21 : Cond.fieldLink "OrderRows2" 15 "OrderRows2" "ranks" "[I" ∈ wt := wt_in (List.mem_of_getElem? (i := 21) rfl) rfl
theorem tk_22 : Cond.fieldLink "OrderRows2" 52 "OrderRows2" "now" "J" ∈ wt := wt_in (List.mem_of_getElem? (i := 22) rfl) rfl
theorem tk_23 : Cond.fieldLink "OrderRows2" 19 "OrderRows2" "way" "[I" ∈ wt := wt_in (List.mem_of_getElem? (i := 23) rfl) rfl
theorem tk_24 : Cond.fieldLink "OrderRows2" 22 "OrderRows2" "passed" "[Z" ∈ wt := wt_in (List.mem_of_getElem? (i := 24) rfl) rfl
theorem tk_25 : Cond.fieldLink "OrderRows2" 26 "OrderRows2" "ring" "[I" ∈ wt := wt_in (List.mem_of_getElem? (i := 25) rfl) rfl
theorem tk_26 : Cond.fieldLink "OrderRows2" 107 "OrderRows2" "ringSize" "I" ∈ wt := wt_in (List.mem_of_getElem? (i := 26) rfl) rfl
theorem tk_27 : Cond.laysFinal "OrderRows2" "OrderRows2" "orders" "[LOrderRows2$Order;" ∈ wt := wt_in (List.mem_of_getElem? (i := 27) rfl) rfl
theorem tk_29 : Cond.lays "OrderRows2" "OrderRows2" "count" "I" ∈ wt := wt_in (List.mem_of_getElem? (i := 29) rfl) rfl
theorem tk_31 : Cond.laysFinal "OrderRows2" "OrderRows2" "ranks" "[I" ∈ wt := wt_in (List.mem_of_getElem? (i := 31) rfl) rfl
theorem tk_33 : Cond.lays "OrderRows2" "OrderRows2" "now" "J" ∈ wt := wt_in (List.mem_of_getElem? (i := 33) rfl) rfl
theorem tk_35 : Cond.laysFinal "OrderRows2" "OrderRows2" "way" "[I" ∈ wt := wt_in (List.mem_of_getElem? (i := 35) rfl) rfl
theorem tk_37 : Cond.laysFinal "OrderRows2" "OrderRows2" "passed" "[Z" ∈ wt := wt_in (List.mem_of_getElem? (i := 37) rfl) rfl
theorem tk_39 : Cond.laysFinal "OrderRows2" "OrderRows2" "ring" "[I" ∈ wt := wt_in (List.mem_of_getElem? (i := 39) rfl) rfl
theorem tk_41 : Cond.lays "OrderRows2" "OrderRows2" "ringSize" "I" ∈ wt := wt_in (List.mem_of_getElem? (i := 41) rfl) rfl
theorem tk_44 : Cond.arrayClass .int ∈ wt := wt_in (List.mem_of_getElem? (i := 44) rfl) rfl
theorem tk_45 : Cond.arrayClass .boolean ∈ wt := wt_in (List.mem_of_getElem? (i := 45) rfl) rfl
theorem tk_46 : Cond.methodLink "OrderRows2Law" 15 ⟨"OrderRows2", "order", "(IIIIJJ)I"⟩ ∈ wt := wt_in (List.mem_of_getElem? (i := 46) rfl) rfl
theorem tk_47 : Cond.instanceMethod ⟨"OrderRows2", "order", "(IIIIJJ)I"⟩ ∈ wt := wt_in (List.mem_of_getElem? (i := 47) rfl) rfl
theorem tk_48 : Cond.selects "OrderRows2" ⟨"OrderRows2", "order", "(IIIIJJ)I"⟩ ⟨"OrderRows2", "order", "(IIIIJJ)I"⟩ ∈ wt := wt_in (List.mem_of_getElem? (i := 48) rfl) rfl
theorem tk_49 : Cond.code ⟨"OrderRows2", "order", "(IIIIJJ)I"⟩ prog_1_method_6_code 10 (some .int) ∈ wt := wt_in (List.mem_of_getElem? (i := 49) rfl) rfl
theorem tk_50 : Cond.methodLink "OrderRows2" 33 ⟨"OrderRows2", "isKind", "(I)Z"⟩ ∈ wt := wt_in (List.mem_of_getElem? (i := 50) rfl) rfl
theorem tk_51 : Cond.static ⟨"OrderRows2", "isKind", "(I)Z"⟩ ∈ wt := wt_in (List.mem_of_getElem? (i := 51) rfl) rfl
theorem tk_52 : Cond.code ⟨"OrderRows2", "isKind", "(I)Z"⟩ prog_1_method_5_code 1 (some .boolean) ∈ wt := wt_in (List.mem_of_getElem? (i := 52) rfl) rfl
theorem tk_53 : Cond.methodLink "OrderRows2" 37 ⟨"OrderRows2", "isAddress", "(I)Z"⟩ ∈ wt := wt_in (List.mem_of_getElem? (i := 53) rfl) rfl
theorem tk_54 : Cond.static ⟨"OrderRows2", "isAddress", "(I)Z"⟩ ∈ wt := wt_in (List.mem_of_getElem? (i := 54) rfl) rfl
theorem tk_55 : Cond.code ⟨"OrderRows2", "isAddress", "(I)Z"⟩ prog_1_method_2_code 1 (some .boolean) ∈ wt := wt_in (List.mem_of_getElem? (i := 55) rfl) rfl
theorem tk_56 : Cond.constantLong "OrderRows2" 40 (-1 : Int64) ∈ wt := wt_in (List.mem_of_getElem? (i := 56) rfl) rfl
theorem tk_57 : Cond.constantLong "OrderRows2" 42 (49 : Int64) ∈ wt := wt_in (List.mem_of_getElem? (i := 57) rfl) rfl
theorem tk_58 : Cond.methodLink "OrderRows2" 44 ⟨"OrderRows2", "outside", "(JJJ)Z"⟩ ∈ wt := wt_in (List.mem_of_getElem? (i := 58) rfl) rfl
theorem tk_59 : Cond.static ⟨"OrderRows2", "outside", "(JJJ)Z"⟩ ∈ wt := wt_in (List.mem_of_getElem? (i := 59) rfl) rfl
theorem tk_60 : Cond.code ⟨"OrderRows2", "outside", "(JJJ)Z"⟩ prog_1_method_1_code 6 (some .boolean) ∈ wt := wt_in (List.mem_of_getElem? (i := 60) rfl) rfl
theorem tk_61 : Cond.constantLong "OrderRows2" 48 (20000 : Int64) ∈ wt := wt_in (List.mem_of_getElem? (i := 61) rfl) rfl
theorem tk_62 : Cond.classLink "OrderRows2" 50 "OrderRows2$Forward" ∈ wt := wt_in (List.mem_of_getElem? (i := 62) rfl) rfl
theorem tk_63 : Cond.instantiable "OrderRows2$Forward" 9 ∈ wt := wt_in (List.mem_of_getElem? (i := 63) rfl) rfl
theorem tk_64 : Cond.methodLink "OrderRows2" 56 ⟨"OrderRows2$Forward", "<init>", "(IIIIJJJ)V"⟩ ∈ wt := wt_in (List.mem_of_getElem? (i := 64) rfl) rfl
theorem tk_65 : Cond.instanceMethod ⟨"OrderRows2$Forward", "<init>", "(IIIIJJJ)V"⟩ ∈ wt := wt_in (List.mem_of_getElem? (i := 65) rfl) rfl
theorem tk_66 : Cond.code ⟨"OrderRows2$Forward", "<init>", "(IIIIJJJ)V"⟩ prog_2_method_1_code 11 none ∈ wt := wt_in (List.mem_of_getElem? (i := 66) rfl) rfl
theorem tk_67 : Cond.methodLink "OrderRows2$Forward" 1 ⟨"OrderRows2$Order", "<init>", "(IIIJJJ)V"⟩ ∈ wt := wt_in (List.mem_of_getElem? (i := 67) rfl) rfl
theorem tk_68 : Cond.instanceMethod ⟨"OrderRows2$Order", "<init>", "(IIIJJJ)V"⟩ ∈ wt := wt_in (List.mem_of_getElem? (i := 68) rfl) rfl
theorem tk_69 : Cond.code ⟨"OrderRows2$Order", "<init>", "(IIIJJJ)V"⟩ prog_4_method_1_code 10 none ∈ wt := wt_in (List.mem_of_getElem? (i := 69) rfl) rfl
theorem tk_70 : Cond.methodLink "OrderRows2$Order" 3 ⟨"java/lang/Object", "<init>", "()V"⟩ ∈ wt := wt_in (List.mem_of_getElem? (i := 70) rfl) rfl
theorem tk_71 : Cond.constantLong "OrderRows2$Order" 9 (1000000 : Int64) ∈ wt := wt_in (List.mem_of_getElem? (i := 71) rfl) rfl
theorem tk_72 : Cond.fieldLink "OrderRows2$Forward" 7 "OrderRows2$Forward" "to" "I" ∈ wt := wt_in (List.mem_of_getElem? (i := 72) rfl) rfl
theorem tk_73 : Cond.fieldLink "OrderRows2$Order" 17 "OrderRows2$Order" "kind" "I" ∈ wt := wt_in (List.mem_of_getElem? (i := 73) rfl) rfl
theorem tq_74 : Cond.fieldLinkNest "OrderRows2" 104 "OrderRows2$Order" "kind" "I" "OrderRows2" ∈ lw_tbl := List.mem_append_right _ (List.mem_of_getElem? (i := 74) rfl)
theorem tk_75 : Cond.fieldLink "OrderRows2$Order" 21 "OrderRows2$Order" "entry" "I" ∈ wt := wt_in (List.mem_of_getElem? (i := 75) rfl) rfl
theorem tk_76 : Cond.fieldLink "OrderRows2$Order" 24 "OrderRows2$Order" "who" "I" ∈ wt := wt_in (List.mem_of_getElem? (i := 76) rfl) rfl
theorem tq_77 : Cond.fieldLinkNest "OrderRows2" 138 "OrderRows2$Order" "who" "I" "OrderRows2" ∈ lw_tbl := List.mem_append_right _ (List.mem_of_getElem? (i := 77) rfl)
theorem tk_78 : Cond.fieldLink "OrderRows2$Order" 27 "OrderRows2$Order" "from" "J" ∈ wt := wt_in (List.mem_of_getElem? (i := 78) rfl) rfl
theorem tk_79 : Cond.fieldLink "OrderRows2$Order" 30 "OrderRows2$Order" "until" "J" ∈ wt := wt_in (List.mem_of_getElem? (i := 79) rfl) rfl
theorem tq_80 : Cond.fieldLinkNest "OrderRows2" 135 "OrderRows2$Order" "until" "J" "OrderRows2" ∈ lw_tbl := List.mem_append_right _ (List.mem_of_getElem? (i := 80) rfl)
theorem tk_81 : Cond.fieldLink "OrderRows2$Order" 33 "OrderRows2$Order" "made" "J" ∈ wt := wt_in (List.mem_of_getElem? (i := 81) rfl) rfl
theorem tq_82 : Cond.fieldLinkNest "OrderRows2" 71 "OrderRows2$Order" "made" "J" "OrderRows2" ∈ lw_tbl := List.mem_append_right _ (List.mem_of_getElem? (i := 82) rfl)
theorem tk_83 : Cond.fieldLink "OrderRows2$Order" 40 "OrderRows2$Order" "proved" "Z" ∈ wt := wt_in (List.mem_of_getElem? (i := 83) rfl) rfl
theorem tq_84 : Cond.fieldLinkNest "OrderRows2" 93 "OrderRows2$Order" "proved" "Z" "OrderRows2" ∈ lw_tbl := List.mem_append_right _ (List.mem_of_getElem? (i := 84) rfl)
theorem tk_85 : Cond.fieldLink "OrderRows2$Order" 11 "OrderRows2$Order" "over" "J" ∈ wt := wt_in (List.mem_of_getElem? (i := 85) rfl) rfl
theorem tq_86 : Cond.fieldLinkNest "OrderRows2" 76 "OrderRows2$Order" "over" "J" "OrderRows2" ∈ lw_tbl := List.mem_append_right _ (List.mem_of_getElem? (i := 86) rfl)
theorem tk_87 : Cond.laysFinal "OrderRows2$Forward" "OrderRows2$Forward" "to" "I" ∈ wt := wt_in (List.mem_of_getElem? (i := 87) rfl) rfl
theorem tk_89 : Cond.laysFinal "OrderRows2$Forward" "OrderRows2$Order" "kind" "I" ∈ wt := wt_in (List.mem_of_getElem? (i := 89) rfl) rfl
theorem tk_91 : Cond.laysFinal "OrderRows2$Forward" "OrderRows2$Order" "entry" "I" ∈ wt := wt_in (List.mem_of_getElem? (i := 91) rfl) rfl
theorem tk_93 : Cond.laysFinal "OrderRows2$Forward" "OrderRows2$Order" "who" "I" ∈ wt := wt_in (List.mem_of_getElem? (i := 93) rfl) rfl
theorem tk_95 : Cond.laysFinal "OrderRows2$Forward" "OrderRows2$Order" "from" "J" ∈ wt := wt_in (List.mem_of_getElem? (i := 95) rfl) rfl
theorem tk_97 : Cond.lays "OrderRows2$Forward" "OrderRows2$Order" "until" "J" ∈ wt := wt_in (List.mem_of_getElem? (i := 97) rfl) rfl
theorem tk_99 : Cond.laysFinal "OrderRows2$Forward" "OrderRows2$Order" "made" "J" ∈ wt := wt_in (List.mem_of_getElem? (i := 99) rfl) rfl
theorem tk_101 : Cond.lays "OrderRows2$Forward" "OrderRows2$Order" "proved" "Z" ∈ wt := wt_in (List.mem_of_getElem? (i := 101) rfl) rfl
theorem tk_103 : Cond.lays "OrderRows2$Forward" "OrderRows2$Order" "over" "J" ∈ wt := wt_in (List.mem_of_getElem? (i := 103) rfl) rfl
theorem tk_106 : Cond.classLink "OrderRows2" 59 "OrderRows2$Hold" ∈ wt := wt_in (List.mem_of_getElem? (i := 106) rfl) rfl
theorem tk_107 : Cond.instantiable "OrderRows2$Hold" 8 ∈ wt := wt_in (List.mem_of_getElem? (i := 107) rfl) rfl
theorem tk_108 : Cond.methodLink "OrderRows2" 61 ⟨"OrderRows2$Hold", "<init>", "(IIIJJJ)V"⟩ ∈ wt := wt_in (List.mem_of_getElem? (i := 108) rfl) rfl
theorem tk_109 : Cond.instanceMethod ⟨"OrderRows2$Hold", "<init>", "(IIIJJJ)V"⟩ ∈ wt := wt_in (List.mem_of_getElem? (i := 109) rfl) rfl
theorem tk_110 : Cond.code ⟨"OrderRows2$Hold", "<init>", "(IIIJJJ)V"⟩ prog_3_method_1_code 10 none ∈ wt := wt_in (List.mem_of_getElem? (i := 110) rfl) rfl
theorem tk_111 : Cond.methodLink "OrderRows2$Hold" 3 ⟨"OrderRows2$Order", "<init>", "(IIIJJJ)V"⟩ ∈ wt := wt_in (List.mem_of_getElem? (i := 111) rfl) rfl
theorem tk_112 : Cond.laysFinal "OrderRows2$Hold" "OrderRows2$Order" "kind" "I" ∈ wt := wt_in (List.mem_of_getElem? (i := 112) rfl) rfl
theorem tk_113 : Cond.laysFinal "OrderRows2$Hold" "OrderRows2$Order" "entry" "I" ∈ wt := wt_in (List.mem_of_getElem? (i := 113) rfl) rfl
theorem tk_114 : Cond.laysFinal "OrderRows2$Hold" "OrderRows2$Order" "who" "I" ∈ wt := wt_in (List.mem_of_getElem? (i := 114) rfl) rfl
theorem tk_115 : Cond.laysFinal "OrderRows2$Hold" "OrderRows2$Order" "from" "J" ∈ wt := wt_in (List.mem_of_getElem? (i := 115) rfl) rfl
theorem tk_116 : Cond.lays "OrderRows2$Hold" "OrderRows2$Order" "until" "J" ∈ wt := wt_in (List.mem_of_getElem? (i := 116) rfl) rfl
theorem tk_117 : Cond.laysFinal "OrderRows2$Hold" "OrderRows2$Order" "made" "J" ∈ wt := wt_in (List.mem_of_getElem? (i := 117) rfl) rfl
theorem tk_118 : Cond.lays "OrderRows2$Hold" "OrderRows2$Order" "proved" "Z" ∈ wt := wt_in (List.mem_of_getElem? (i := 118) rfl) rfl
theorem tk_119 : Cond.lays "OrderRows2$Hold" "OrderRows2$Order" "over" "J" ∈ wt := wt_in (List.mem_of_getElem? (i := 119) rfl) rfl
theorem tk_121 : Cond.classLink "OrderRows2" 64 "OrderRows2$Refusal" ∈ wt := wt_in (List.mem_of_getElem? (i := 121) rfl) rfl
theorem tk_122 : Cond.instantiable "OrderRows2$Refusal" 8 ∈ wt := wt_in (List.mem_of_getElem? (i := 122) rfl) rfl
theorem tk_123 : Cond.methodLink "OrderRows2" 66 ⟨"OrderRows2$Refusal", "<init>", "(IIIJJJ)V"⟩ ∈ wt := wt_in (List.mem_of_getElem? (i := 123) rfl) rfl
theorem tk_124 : Cond.instanceMethod ⟨"OrderRows2$Refusal", "<init>", "(IIIJJJ)V"⟩ ∈ wt := wt_in (List.mem_of_getElem? (i := 124) rfl) rfl
theorem tk_125 : Cond.code ⟨"OrderRows2$Refusal", "<init>", "(IIIJJJ)V"⟩ prog_5_method_1_code 10 none ∈ wt := wt_in (List.mem_of_getElem? (i := 125) rfl) rfl
theorem tk_126 : Cond.methodLink "OrderRows2$Refusal" 3 ⟨"OrderRows2$Order", "<init>", "(IIIJJJ)V"⟩ ∈ wt := wt_in (List.mem_of_getElem? (i := 126) rfl) rfl
theorem tk_127 : Cond.laysFinal "OrderRows2$Refusal" "OrderRows2$Order" "kind" "I" ∈ wt := wt_in (List.mem_of_getElem? (i := 127) rfl) rfl
theorem tk_128 : Cond.laysFinal "OrderRows2$Refusal" "OrderRows2$Order" "entry" "I" ∈ wt := wt_in (List.mem_of_getElem? (i := 128) rfl) rfl
theorem tk_129 : Cond.laysFinal "OrderRows2$Refusal" "OrderRows2$Order" "who" "I" ∈ wt := wt_in (List.mem_of_getElem? (i := 129) rfl) rfl
theorem tk_130 : Cond.laysFinal "OrderRows2$Refusal" "OrderRows2$Order" "from" "J" ∈ wt := wt_in (List.mem_of_getElem? (i := 130) rfl) rfl
theorem tk_131 : Cond.lays "OrderRows2$Refusal" "OrderRows2$Order" "until" "J" ∈ wt := wt_in (List.mem_of_getElem? (i := 131) rfl) rfl
theorem tk_132 : Cond.laysFinal "OrderRows2$Refusal" "OrderRows2$Order" "made" "J" ∈ wt := wt_in (List.mem_of_getElem? (i := 132) rfl) rfl
theorem tk_133 : Cond.lays "OrderRows2$Refusal" "OrderRows2$Order" "proved" "Z" ∈ wt := wt_in (List.mem_of_getElem? (i := 133) rfl) rfl
theorem tk_134 : Cond.lays "OrderRows2$Refusal" "OrderRows2$Order" "over" "J" ∈ wt := wt_in (List.mem_of_getElem? (i := 134) rfl) rfl
theorem tk_136 : Cond.methodLink "OrderRows2Law" 20 ⟨"OrderRows2", "proof", "(IZJ)I"⟩ ∈ wt := wt_in (List.mem_of_getElem? (i := 136) rfl) rfl
theorem tk_137 : Cond.instanceMethod ⟨"OrderRows2", "proof", "(IZJ)I"⟩ ∈ wt := wt_in (List.mem_of_getElem? (i := 137) rfl) rfl
theorem tk_138 : Cond.selects "OrderRows2" ⟨"OrderRows2", "proof", "(IZJ)I"⟩ ⟨"OrderRows2", "proof", "(IZJ)I"⟩ ∈ wt := wt_in (List.mem_of_getElem? (i := 138) rfl) rfl
theorem tk_139 : Cond.code ⟨"OrderRows2", "proof", "(IZJ)I"⟩ prog_1_method_9_code 6 (some .int) ∈ wt := wt_in (List.mem_of_getElem? (i := 139) rfl) rfl
theorem tk_140 : Cond.methodLink "OrderRows2" 79 ⟨"OrderRows2", "isOrder", "(I)Z"⟩ ∈ wt := wt_in (List.mem_of_getElem? (i := 140) rfl) rfl
theorem tk_142 : Cond.instanceMethod ⟨"OrderRows2", "isOrder", "(I)Z"⟩ ∈ wt := wt_in (List.mem_of_getElem? (i := 142) rfl) rfl
theorem tk_143 : Cond.code ⟨"OrderRows2", "isOrder", "(I)Z"⟩ prog_1_method_4_code 2 (some .boolean) ∈ wt := wt_in (List.mem_of_getElem? (i := 143) rfl) rfl
theorem tk_144 : Cond.methodLink "OrderRows2" 82 ⟨"OrderRows2", "isNoDay", "(J)Z"⟩ ∈ wt := wt_in (List.mem_of_getElem? (i := 144) rfl) rfl
theorem tk_146 : Cond.instanceMethod ⟨"OrderRows2", "isNoDay", "(J)Z"⟩ ∈ wt := wt_in (List.mem_of_getElem? (i := 146) rfl) rfl
theorem tk_147 : Cond.code ⟨"OrderRows2", "isNoDay", "(J)Z"⟩ prog_1_method_7_code 3 (some .boolean) ∈ wt := wt_in (List.mem_of_getElem? (i := 147) rfl) rfl
theorem tk_148 : Cond.methodLink "OrderRows2" 85 ⟨"OrderRows2", "pass", "(J)I"⟩ ∈ wt := wt_in (List.mem_of_getElem? (i := 148) rfl) rfl
theorem tk_150 : Cond.instanceMethod ⟨"OrderRows2", "pass", "(J)I"⟩ ∈ wt := wt_in (List.mem_of_getElem? (i := 150) rfl) rfl
theorem tk_151 : Cond.code ⟨"OrderRows2", "pass", "(J)I"⟩ prog_1_method_8_code 5 (some .int) ∈ wt := wt_in (List.mem_of_getElem? (i := 151) rfl) rfl
theorem tk_152 : Cond.methodLink "OrderRows2" 67 ⟨"OrderRows2$Order", "lapses", "(J)Z"⟩ ∈ wt := wt_in (List.mem_of_getElem? (i := 152) rfl) rfl
theorem tk_153 : Cond.instanceMethod ⟨"OrderRows2$Order", "lapses", "(J)Z"⟩ ∈ wt := wt_in (List.mem_of_getElem? (i := 153) rfl) rfl
theorem tk_154 : Cond.sameMethod "OrderRows2$Order" "OrderRows2$Order" "lapses" "(J)Z" ∈ wt := wt_in (List.mem_of_getElem? (i := 154) rfl) rfl
theorem tk_155 : Cond.selects "OrderRows2$Forward" ⟨"OrderRows2$Order", "lapses", "(J)Z"⟩ ⟨"OrderRows2$Order", "lapses", "(J)Z"⟩ ∈ wt := wt_in (List.mem_of_getElem? (i := 155) rfl) rfl
theorem tk_156 : Cond.selects "OrderRows2$Hold" ⟨"OrderRows2$Order", "lapses", "(J)Z"⟩ ⟨"OrderRows2$Order", "lapses", "(J)Z"⟩ ∈ wt := wt_in (List.mem_of_getElem? (i := 156) rfl) rfl
theorem tk_157 : Cond.selects "OrderRows2$Refusal" ⟨"OrderRows2$Order", "lapses", "(J)Z"⟩ ⟨"OrderRows2$Order", "lapses", "(J)Z"⟩ ∈ wt := wt_in (List.mem_of_getElem? (i := 157) rfl) rfl
theorem tk_158 : Cond.code ⟨"OrderRows2$Order", "lapses", "(J)Z"⟩ prog_4_method_5_code 3 (some .boolean) ∈ wt := wt_in (List.mem_of_getElem? (i := 158) rfl) rfl
theorem tk_159 : Cond.methodLink "OrderRows2$Order" 44 ⟨"OrderRows2$Order", "isOver", "()Z"⟩ ∈ wt := wt_in (List.mem_of_getElem? (i := 159) rfl) rfl
theorem tk_160 : Cond.instanceMethod ⟨"OrderRows2$Order", "isOver", "()Z"⟩ ∈ wt := wt_in (List.mem_of_getElem? (i := 160) rfl) rfl
theorem tk_161 : Cond.sameMethod "OrderRows2$Order" "OrderRows2$Order" "isOver" "()Z" ∈ wt := wt_in (List.mem_of_getElem? (i := 161) rfl) rfl
theorem tk_162 : Cond.selects "OrderRows2$Forward" ⟨"OrderRows2$Order", "isOver", "()Z"⟩ ⟨"OrderRows2$Order", "isOver", "()Z"⟩ ∈ wt := wt_in (List.mem_of_getElem? (i := 162) rfl) rfl
theorem tk_163 : Cond.selects "OrderRows2$Hold" ⟨"OrderRows2$Order", "isOver", "()Z"⟩ ⟨"OrderRows2$Order", "isOver", "()Z"⟩ ∈ wt := wt_in (List.mem_of_getElem? (i := 163) rfl) rfl
theorem tk_164 : Cond.selects "OrderRows2$Refusal" ⟨"OrderRows2$Order", "isOver", "()Z"⟩ ⟨"OrderRows2$Order", "isOver", "()Z"⟩ ∈ wt := wt_in (List.mem_of_getElem? (i := 164) rfl) rfl
theorem tk_165 : Cond.code ⟨"OrderRows2$Order", "isOver", "()Z"⟩ prog_4_method_2_code 1 (some .boolean) ∈ wt := wt_in (List.mem_of_getElem? (i := 165) rfl) rfl
theorem tk_166 : Cond.constantLong "OrderRows2$Order" 48 (14 : Int64) ∈ wt := wt_in (List.mem_of_getElem? (i := 166) rfl) rfl
theorem tk_167 : Cond.constantLong "OrderRows2" 74 (14 : Int64) ∈ wt := wt_in (List.mem_of_getElem? (i := 167) rfl) rfl
theorem tk_168 : Cond.methodLink "OrderRows2" 89 ⟨"OrderRows2$Order", "isOver", "()Z"⟩ ∈ wt := wt_in (List.mem_of_getElem? (i := 168) rfl) rfl
theorem tk_169 : Cond.methodLink "OrderRows2Law" 25 ⟨"OrderRows2", "withdraw", "(IJ)I"⟩ ∈ wt := wt_in (List.mem_of_getElem? (i := 169) rfl) rfl
theorem tk_170 : Cond.instanceMethod ⟨"OrderRows2", "withdraw", "(IJ)I"⟩ ∈ wt := wt_in (List.mem_of_getElem? (i := 170) rfl) rfl
theorem tk_171 : Cond.selects "OrderRows2" ⟨"OrderRows2", "withdraw", "(IJ)I"⟩ ⟨"OrderRows2", "withdraw", "(IJ)I"⟩ ∈ wt := wt_in (List.mem_of_getElem? (i := 171) rfl) rfl
theorem tk_172 : Cond.code ⟨"OrderRows2", "withdraw", "(IJ)I"⟩ prog_1_method_10_code 4 (some .int) ∈ wt := wt_in (List.mem_of_getElem? (i := 172) rfl) rfl
theorem tk_173 : Cond.methodLink "OrderRows2" 97 ⟨"OrderRows2$Order", "cut", "(J)I"⟩ ∈ wt := wt_in (List.mem_of_getElem? (i := 173) rfl) rfl
theorem tk_174 : Cond.instanceMethod ⟨"OrderRows2$Order", "cut", "(J)I"⟩ ∈ wt := wt_in (List.mem_of_getElem? (i := 174) rfl) rfl
theorem tk_175 : Cond.sameMethod "OrderRows2$Order" "OrderRows2$Order" "cut" "(J)I" ∈ wt := wt_in (List.mem_of_getElem? (i := 175) rfl) rfl
theorem tk_176 : Cond.selects "OrderRows2$Forward" ⟨"OrderRows2$Order", "cut", "(J)I"⟩ ⟨"OrderRows2$Order", "cut", "(J)I"⟩ ∈ wt := wt_in (List.mem_of_getElem? (i := 176) rfl) rfl
theorem tk_177 : Cond.selects "OrderRows2$Hold" ⟨"OrderRows2$Order", "cut", "(J)I"⟩ ⟨"OrderRows2$Order", "cut", "(J)I"⟩ ∈ wt := wt_in (List.mem_of_getElem? (i := 177) rfl) rfl
theorem tk_178 : Cond.selects "OrderRows2$Refusal" ⟨"OrderRows2$Order", "cut", "(J)I"⟩ ⟨"OrderRows2$Order", "cut", "(J)I"⟩ ∈ wt := wt_in (List.mem_of_getElem? (i := 178) rfl) rfl
theorem tk_179 : Cond.code ⟨"OrderRows2$Order", "cut", "(J)I"⟩ prog_4_method_6_code 3 (some .int) ∈ wt := wt_in (List.mem_of_getElem? (i := 179) rfl) rfl
theorem tk_180 : Cond.methodLink "OrderRows2$Order" 50 ⟨"java/lang/Math", "max", "(JJ)J"⟩ ∈ wt := wt_in (List.mem_of_getElem? (i := 180) rfl) rfl
theorem tk_181 : Cond.static ⟨"java/lang/Math", "max", "(JJ)J"⟩ ∈ wt := wt_in (List.mem_of_getElem? (i := 181) rfl) rfl
theorem tk_182 : Cond.code ⟨"java/lang/Math", "max", "(JJ)J"⟩ prog_8_method_66_code 4 (some .long) ∈ wt := wt_in (List.mem_of_getElem? (i := 182) rfl) rfl
theorem tk_183 : Cond.methodLink "OrderRows2Law" 45 ⟨"OrderRows2", "tick", "(J)I"⟩ ∈ wt := wt_in (List.mem_of_getElem? (i := 183) rfl) rfl
theorem tk_184 : Cond.instanceMethod ⟨"OrderRows2", "tick", "(J)I"⟩ ∈ wt := wt_in (List.mem_of_getElem? (i := 184) rfl) rfl
theorem tk_185 : Cond.selects "OrderRows2" ⟨"OrderRows2", "tick", "(J)I"⟩ ⟨"OrderRows2", "tick", "(J)I"⟩ ∈ wt := wt_in (List.mem_of_getElem? (i := 185) rfl) rfl
theorem tk_186 : Cond.code ⟨"OrderRows2", "tick", "(J)I"⟩ prog_1_method_11_code 3 (some .int) ∈ wt := wt_in (List.mem_of_getElem? (i := 186) rfl) rfl
theorem tk_187 : Cond.methodLink "OrderRows2Law" 30 ⟨"OrderRows2", "effective", "(IIIJ)I"⟩ ∈ wt := wt_in (List.mem_of_getElem? (i := 187) rfl) rfl
theorem tk_188 : Cond.instanceMethod ⟨"OrderRows2", "effective", "(IIIJ)I"⟩ ∈ wt := wt_in (List.mem_of_getElem? (i := 188) rfl) rfl
theorem tk_189 : Cond.selects "OrderRows2" ⟨"OrderRows2", "effective", "(IIIJ)I"⟩ ⟨"OrderRows2", "effective", "(IIIJ)I"⟩ ∈ wt := wt_in (List.mem_of_getElem? (i := 189) rfl) rfl
theorem tk_190 : Cond.code ⟨"OrderRows2", "effective", "(IIIJ)I"⟩ prog_1_method_14_code 9 (some .int) ∈ wt := wt_in (List.mem_of_getElem? (i := 190) rfl) rfl
theorem tk_191 : Cond.constantLong "OrderRows2" 116 (2 : Int64) ∈ wt := wt_in (List.mem_of_getElem? (i := 191) rfl) rfl
theorem tk_192 : Cond.methodLink "OrderRows2" 118 ⟨"OrderRows2", "find", "(IIIJ)LOrderRows2$Order;"⟩ ∈ wt := wt_in (List.mem_of_getElem? (i := 192) rfl) rfl
theorem tk_194 : Cond.instanceMethod ⟨"OrderRows2", "find", "(IIIJ)LOrderRows2$Order;"⟩ ∈ wt := wt_in (List.mem_of_getElem? (i := 194) rfl) rfl
theorem tk_195 : Cond.code ⟨"OrderRows2", "find", "(IIIJ)LOrderRows2$Order;"⟩ prog_1_method_12_code 9 (some (.object "OrderRows2$Order")) ∈ wt := wt_in (List.mem_of_getElem? (i := 195) rfl) rfl
theorem tk_196 : Cond.methodLink "OrderRows2" 100 ⟨"OrderRows2$Order", "isFor", "(IIIJ)Z"⟩ ∈ wt := wt_in (List.mem_of_getElem? (i := 196) rfl) rfl
theorem tk_197 : Cond.instanceMethod ⟨"OrderRows2$Order", "isFor", "(IIIJ)Z"⟩ ∈ wt := wt_in (List.mem_of_getElem? (i := 197) rfl) rfl
theorem tk_198 : Cond.sameMethod "OrderRows2$Order" "OrderRows2$Order" "isFor" "(IIIJ)Z" ∈ wt := wt_in (List.mem_of_getElem? (i := 198) rfl) rfl
theorem tk_199 : Cond.selects "OrderRows2$Forward" ⟨"OrderRows2$Order", "isFor", "(IIIJ)Z"⟩ ⟨"OrderRows2$Order", "isFor", "(IIIJ)Z"⟩ ∈ wt := wt_in (List.mem_of_getElem? (i := 199) rfl) rfl
theorem tk_200 : Cond.selects "OrderRows2$Hold" ⟨"OrderRows2$Order", "isFor", "(IIIJ)Z"⟩ ⟨"OrderRows2$Order", "isFor", "(IIIJ)Z"⟩ ∈ wt := wt_in (List.mem_of_getElem? (i := 200) rfl) rfl
theorem tk_201 : Cond.selects "OrderRows2$Refusal" ⟨"OrderRows2$Order", "isFor", "(IIIJ)Z"⟩ ⟨"OrderRows2$Order", "isFor", "(IIIJ)Z"⟩ ∈ wt := wt_in (List.mem_of_getElem? (i := 201) rfl) rfl
theorem tk_202 : Cond.code ⟨"OrderRows2$Order", "isFor", "(IIIJ)Z"⟩ prog_4_method_4_code 6 (some .boolean) ∈ wt := wt_in (List.mem_of_getElem? (i := 202) rfl) rfl
theorem tk_203 : Cond.methodLink "OrderRows2$Order" 36 ⟨"OrderRows2$Order", "isIn", "(J)Z"⟩ ∈ wt := wt_in (List.mem_of_getElem? (i := 203) rfl) rfl
theorem tk_204 : Cond.instanceMethod ⟨"OrderRows2$Order", "isIn", "(J)Z"⟩ ∈ wt := wt_in (List.mem_of_getElem? (i := 204) rfl) rfl
theorem tk_205 : Cond.sameMethod "OrderRows2$Order" "OrderRows2$Order" "isIn" "(J)Z" ∈ wt := wt_in (List.mem_of_getElem? (i := 205) rfl) rfl
theorem tk_206 : Cond.selects "OrderRows2$Forward" ⟨"OrderRows2$Order", "isIn", "(J)Z"⟩ ⟨"OrderRows2$Order", "isIn", "(J)Z"⟩ ∈ wt := wt_in (List.mem_of_getElem? (i := 206) rfl) rfl
theorem tk_207 : Cond.selects "OrderRows2$Hold" ⟨"OrderRows2$Order", "isIn", "(J)Z"⟩ ⟨"OrderRows2$Order", "isIn", "(J)Z"⟩ ∈ wt := wt_in (List.mem_of_getElem? (i := 207) rfl) rfl
theorem tk_208 : Cond.selects "OrderRows2$Refusal" ⟨"OrderRows2$Order", "isIn", "(J)Z"⟩ ⟨"OrderRows2$Order", "isIn", "(J)Z"⟩ ∈ wt := wt_in (List.mem_of_getElem? (i := 208) rfl) rfl
theorem tk_209 : Cond.code ⟨"OrderRows2$Order", "isIn", "(J)Z"⟩ prog_4_method_3_code 3 (some .boolean) ∈ wt := wt_in (List.mem_of_getElem? (i := 209) rfl) rfl
theorem tk_210 : Cond.methodLink "OrderRows2" 122 ⟨"OrderRows2$Order", "sendsOn", "()Z"⟩ ∈ wt := wt_in (List.mem_of_getElem? (i := 210) rfl) rfl
theorem tk_211 : Cond.instanceMethod ⟨"OrderRows2$Order", "sendsOn", "()Z"⟩ ∈ wt := wt_in (List.mem_of_getElem? (i := 211) rfl) rfl
theorem tk_212 : Cond.sameMethod "OrderRows2$Order" "OrderRows2$Order" "sendsOn" "()Z" ∈ wt := wt_in (List.mem_of_getElem? (i := 212) rfl) rfl
theorem tk_213 : Cond.selects "OrderRows2$Forward" ⟨"OrderRows2$Order", "sendsOn", "()Z"⟩ ⟨"OrderRows2$Order", "sendsOn", "()Z"⟩ ∈ wt := wt_in (List.mem_of_getElem? (i := 213) rfl) rfl
theorem tk_214 : Cond.selects "OrderRows2$Hold" ⟨"OrderRows2$Order", "sendsOn", "()Z"⟩ ⟨"OrderRows2$Order", "sendsOn", "()Z"⟩ ∈ wt := wt_in (List.mem_of_getElem? (i := 214) rfl) rfl
theorem tk_215 : Cond.selects "OrderRows2$Refusal" ⟨"OrderRows2$Order", "sendsOn", "()Z"⟩ ⟨"OrderRows2$Order", "sendsOn", "()Z"⟩ ∈ wt := wt_in (List.mem_of_getElem? (i := 215) rfl) rfl
theorem tk_216 : Cond.code ⟨"OrderRows2$Order", "sendsOn", "()Z"⟩ prog_4_method_8_code 1 (some .boolean) ∈ wt := wt_in (List.mem_of_getElem? (i := 216) rfl) rfl
theorem tk_217 : Cond.methodLink "OrderRows2$Order" 56 ⟨"OrderRows2$Order", "goesTo", "()I"⟩ ∈ wt := wt_in (List.mem_of_getElem? (i := 217) rfl) rfl
theorem tq_218 : Cond.declares ⟨"OrderRows2$Order", "goesTo", "()I"⟩ ∈ lw_tbl := List.mem_append_right _ (List.mem_of_getElem? (i := 218) rfl)
theorem tk_219 : Cond.sameMethod "OrderRows2$Order" "OrderRows2$Order" "goesTo" "()I" ∈ wt := wt_in (List.mem_of_getElem? (i := 219) rfl) rfl
theorem tk_220 : Cond.selects "OrderRows2$Forward" ⟨"OrderRows2$Order", "goesTo", "()I"⟩ ⟨"OrderRows2$Forward", "goesTo", "()I"⟩ ∈ wt := wt_in (List.mem_of_getElem? (i := 220) rfl) rfl
theorem tk_221 : Cond.instanceMethod ⟨"OrderRows2$Forward", "goesTo", "()I"⟩ ∈ wt := wt_in (List.mem_of_getElem? (i := 221) rfl) rfl
theorem tk_222 : Cond.code ⟨"OrderRows2$Forward", "goesTo", "()I"⟩ prog_2_method_2_code 1 (some .int) ∈ wt := wt_in (List.mem_of_getElem? (i := 222) rfl) rfl
theorem tk_223 : Cond.selects "OrderRows2$Hold" ⟨"OrderRows2$Order", "goesTo", "()I"⟩ ⟨"OrderRows2$Hold", "goesTo", "()I"⟩ ∈ wt := wt_in (List.mem_of_getElem? (i := 223) rfl) rfl
theorem tk_224 : Cond.instanceMethod ⟨"OrderRows2$Hold", "goesTo", "()I"⟩ ∈ wt := wt_in (List.mem_of_getElem? (i := 224) rfl) rfl
theorem tk_225 : Cond.code ⟨"OrderRows2$Hold", "goesTo", "()I"⟩ prog_3_method_2_code 1 (some .int) ∈ wt := wt_in (List.mem_of_getElem? (i := 225) rfl) rfl
theorem tk_226 : Cond.selects "OrderRows2$Refusal" ⟨"OrderRows2$Order", "goesTo", "()I"⟩ ⟨"OrderRows2$Refusal", "goesTo", "()I"⟩ ∈ wt := wt_in (List.mem_of_getElem? (i := 226) rfl) rfl
theorem tk_227 : Cond.instanceMethod ⟨"OrderRows2$Refusal", "goesTo", "()I"⟩ ∈ wt := wt_in (List.mem_of_getElem? (i := 227) rfl) rfl
theorem tk_228 : Cond.code ⟨"OrderRows2$Refusal", "goesTo", "()I"⟩ prog_5_method_2_code 1 (some .int) ∈ wt := wt_in (List.mem_of_getElem? (i := 228) rfl) rfl
theorem tk_229 : Cond.methodLink "OrderRows2" 125 ⟨"OrderRows2$Order", "goesTo", "()I"⟩ ∈ wt := wt_in (List.mem_of_getElem? (i := 229) rfl) rfl
theorem tk_230 : Cond.methodLink "OrderRows2" 129 ⟨"OrderRows2", "tellRing", "(II)I"⟩ ∈ wt := wt_in (List.mem_of_getElem? (i := 230) rfl) rfl
theorem tk_232 : Cond.instanceMethod ⟨"OrderRows2", "tellRing", "(II)I"⟩ ∈ wt := wt_in (List.mem_of_getElem? (i := 232) rfl) rfl
theorem tk_233 : Cond.code ⟨"OrderRows2", "tellRing", "(II)I"⟩ prog_1_method_13_code 4 (some .int) ∈ wt := wt_in (List.mem_of_getElem? (i := 233) rfl) rfl
theorem tk_234 : Cond.methodLink "OrderRows2" 110 ⟨"java/lang/System", "arraycopy", "(Ljava/lang/Object;ILjava/lang/Object;II)V"⟩ ∈ wt := wt_in (List.mem_of_getElem? (i := 234) rfl) rfl
theorem tk_235 : Cond.static ⟨"java/lang/System", "arraycopy", "(Ljava/lang/Object;ILjava/lang/Object;II)V"⟩ ∈ wt := wt_in (List.mem_of_getElem? (i := 235) rfl) rfl
theorem tk_236 : Cond.native ⟨"java/lang/System", "arraycopy", "(Ljava/lang/Object;ILjava/lang/Object;II)V"⟩ ∈ wt := wt_in (List.mem_of_getElem? (i := 236) rfl) rfl
theorem tk_237 : Cond.methodLink "OrderRows2Law" 35 ⟨"OrderRows2", "ring", "(I)I"⟩ ∈ wt := wt_in (List.mem_of_getElem? (i := 237) rfl) rfl
theorem tk_238 : Cond.instanceMethod ⟨"OrderRows2", "ring", "(I)I"⟩ ∈ wt := wt_in (List.mem_of_getElem? (i := 238) rfl) rfl
theorem tk_239 : Cond.selects "OrderRows2" ⟨"OrderRows2", "ring", "(I)I"⟩ ⟨"OrderRows2", "ring", "(I)I"⟩ ∈ wt := wt_in (List.mem_of_getElem? (i := 239) rfl) rfl
theorem tk_240 : Cond.code ⟨"OrderRows2", "ring", "(I)I"⟩ prog_1_method_15_code 2 (some .int) ∈ wt := wt_in (List.mem_of_getElem? (i := 240) rfl) rfl
theorem tk_241 : Cond.methodLink "OrderRows2Law" 40 ⟨"OrderRows2", "rank", "(II)I"⟩ ∈ wt := wt_in (List.mem_of_getElem? (i := 241) rfl) rfl
theorem tk_242 : Cond.instanceMethod ⟨"OrderRows2", "rank", "(II)I"⟩ ∈ wt := wt_in (List.mem_of_getElem? (i := 242) rfl) rfl
theorem tk_243 : Cond.selects "OrderRows2" ⟨"OrderRows2", "rank", "(II)I"⟩ ⟨"OrderRows2", "rank", "(II)I"⟩ ∈ wt := wt_in (List.mem_of_getElem? (i := 243) rfl) rfl
theorem tk_244 : Cond.code ⟨"OrderRows2", "rank", "(II)I"⟩ prog_1_method_16_code 4 (some .int) ∈ wt := wt_in (List.mem_of_getElem? (i := 244) rfl) rfl
theorem tk_245 : Cond.constantLong "OrderRows2" 133 (100 : Int64) ∈ wt := wt_in (List.mem_of_getElem? (i := 245) rfl) rfl
theorem tk_246 : Cond.methodLink "OrderRows2Law" 50 ⟨"OrderRows2", "extend", "(IJ)I"⟩ ∈ wt := wt_in (List.mem_of_getElem? (i := 246) rfl) rfl
theorem tk_247 : Cond.instanceMethod ⟨"OrderRows2", "extend", "(IJ)I"⟩ ∈ wt := wt_in (List.mem_of_getElem? (i := 247) rfl) rfl
theorem tk_248 : Cond.selects "OrderRows2" ⟨"OrderRows2", "extend", "(IJ)I"⟩ ⟨"OrderRows2", "extend", "(IJ)I"⟩ ∈ wt := wt_in (List.mem_of_getElem? (i := 248) rfl) rfl
theorem tk_249 : Cond.code ⟨"OrderRows2", "extend", "(IJ)I"⟩ prog_1_method_17_code 5 (some .int) ∈ wt := wt_in (List.mem_of_getElem? (i := 249) rfl) rfl
theorem tk_250 : Cond.methodLink "OrderRows2Law" 54 ⟨"OrderRows2", "told", "(II)I"⟩ ∈ wt := wt_in (List.mem_of_getElem? (i := 250) rfl) rfl
theorem tk_251 : Cond.instanceMethod ⟨"OrderRows2", "told", "(II)I"⟩ ∈ wt := wt_in (List.mem_of_getElem? (i := 251) rfl) rfl
theorem tk_252 : Cond.selects "OrderRows2" ⟨"OrderRows2", "told", "(II)I"⟩ ⟨"OrderRows2", "told", "(II)I"⟩ ∈ wt := wt_in (List.mem_of_getElem? (i := 252) rfl) rfl
theorem tk_253 : Cond.code ⟨"OrderRows2", "told", "(II)I"⟩ prog_1_method_18_code 6 (some .int) ∈ wt := wt_in (List.mem_of_getElem? (i := 253) rfl) rfl
theorem tk_254 : Cond.methodLink "OrderRows2" 141 ⟨"OrderRows2$Order", "isIn", "(J)Z"⟩ ∈ wt := wt_in (List.mem_of_getElem? (i := 254) rfl) rfl
theorem tk_255 : Cond.classLink "OrderRows2Law" 10 "OrderRows2Model" ∈ wt := wt_in (List.mem_of_getElem? (i := 255) rfl) rfl
theorem tk_256 : Cond.instantiable "OrderRows2Model" 17 ∈ wt := wt_in (List.mem_of_getElem? (i := 256) rfl) rfl
theorem tk_257 : Cond.methodLink "OrderRows2Law" 12 ⟨"OrderRows2Model", "<init>", "()V"⟩ ∈ wt := wt_in (List.mem_of_getElem? (i := 257) rfl) rfl
theorem tk_258 : Cond.instanceMethod ⟨"OrderRows2Model", "<init>", "()V"⟩ ∈ wt := wt_in (List.mem_of_getElem? (i := 258) rfl) rfl
theorem tk_259 : Cond.code ⟨"OrderRows2Model", "<init>", "()V"⟩ prog_7_method_1_code 1 none ∈ wt := wt_in (List.mem_of_getElem? (i := 259) rfl) rfl
theorem tk_260 : Cond.methodLink "OrderRows2Model" 1 ⟨"java/lang/Object", "<init>", "()V"⟩ ∈ wt := wt_in (List.mem_of_getElem? (i := 260) rfl) rfl
theorem tk_261 : Cond.fieldLink "OrderRows2Model" 52 "OrderRows2Model" "thrown" "I" ∈ wt := wt_in (List.mem_of_getElem? (i := 261) rfl) rfl
theorem tk_262 : Cond.fieldLink "OrderRows2Model" 55 "OrderRows2Model" "orders" "I" ∈ wt := wt_in (List.mem_of_getElem? (i := 262) rfl) rfl
theorem tk_263 : Cond.fieldLink "OrderRows2Model" 7 "OrderRows2Model" "kinds" "[I" ∈ wt := wt_in (List.mem_of_getElem? (i := 263) rfl) rfl
theorem tk_264 : Cond.fieldLink "OrderRows2Model" 13 "OrderRows2Model" "entries" "[I" ∈ wt := wt_in (List.mem_of_getElem? (i := 264) rfl) rfl
theorem tk_265 : Cond.fieldLink "OrderRows2Model" 16 "OrderRows2Model" "persons" "[I" ∈ wt := wt_in (List.mem_of_getElem? (i := 265) rfl) rfl
theorem tk_266 : Cond.fieldLink "OrderRows2Model" 19 "OrderRows2Model" "tos" "[I" ∈ wt := wt_in (List.mem_of_getElem? (i := 266) rfl) rfl
theorem tk_267 : Cond.fieldLink "OrderRows2Model" 22 "OrderRows2Model" "froms" "[J" ∈ wt := wt_in (List.mem_of_getElem? (i := 267) rfl) rfl
theorem tk_268 : Cond.fieldLink "OrderRows2Model" 26 "OrderRows2Model" "untils" "[J" ∈ wt := wt_in (List.mem_of_getElem? (i := 268) rfl) rfl
theorem tk_269 : Cond.fieldLink "OrderRows2Model" 29 "OrderRows2Model" "made" "[J" ∈ wt := wt_in (List.mem_of_getElem? (i := 269) rfl) rfl
theorem tk_270 : Cond.fieldLink "OrderRows2Model" 32 "OrderRows2Model" "proved" "[Z" ∈ wt := wt_in (List.mem_of_getElem? (i := 270) rfl) rfl
theorem tk_271 : Cond.fieldLink "OrderRows2Model" 36 "OrderRows2Model" "overs" "[J" ∈ wt := wt_in (List.mem_of_getElem? (i := 271) rfl) rfl
theorem tk_272 : Cond.fieldLink "OrderRows2Model" 39 "OrderRows2Model" "ranks" "[I" ∈ wt := wt_in (List.mem_of_getElem? (i := 272) rfl) rfl
theorem tk_273 : Cond.fieldLink "OrderRows2Model" 62 "OrderRows2Model" "now" "J" ∈ wt := wt_in (List.mem_of_getElem? (i := 273) rfl) rfl
theorem tk_274 : Cond.fieldLink "OrderRows2Model" 42 "OrderRows2Model" "way" "[I" ∈ wt := wt_in (List.mem_of_getElem? (i := 274) rfl) rfl
theorem tk_275 : Cond.fieldLink "OrderRows2Model" 48 "OrderRows2Model" "ringSize" "I" ∈ wt := wt_in (List.mem_of_getElem? (i := 275) rfl) rfl
theorem tk_276 : Cond.fieldLink "OrderRows2Model" 45 "OrderRows2Model" "ring" "[I" ∈ wt := wt_in (List.mem_of_getElem? (i := 276) rfl) rfl
theorem tk_277 : Cond.lays "OrderRows2Model" "OrderRows2Model" "thrown" "I" ∈ wt := wt_in (List.mem_of_getElem? (i := 277) rfl) rfl
theorem tk_279 : Cond.lays "OrderRows2Model" "OrderRows2Model" "orders" "I" ∈ wt := wt_in (List.mem_of_getElem? (i := 279) rfl) rfl
theorem tk_281 : Cond.laysFinal "OrderRows2Model" "OrderRows2Model" "kinds" "[I" ∈ wt := wt_in (List.mem_of_getElem? (i := 281) rfl) rfl
theorem tk_283 : Cond.laysFinal "OrderRows2Model" "OrderRows2Model" "entries" "[I" ∈ wt := wt_in (List.mem_of_getElem? (i := 283) rfl) rfl
theorem tk_285 : Cond.laysFinal "OrderRows2Model" "OrderRows2Model" "persons" "[I" ∈ wt := wt_in (List.mem_of_getElem? (i := 285) rfl) rfl
theorem tk_287 : Cond.laysFinal "OrderRows2Model" "OrderRows2Model" "tos" "[I" ∈ wt := wt_in (List.mem_of_getElem? (i := 287) rfl) rfl
theorem tk_289 : Cond.laysFinal "OrderRows2Model" "OrderRows2Model" "froms" "[J" ∈ wt := wt_in (List.mem_of_getElem? (i := 289) rfl) rfl
theorem tk_291 : Cond.laysFinal "OrderRows2Model" "OrderRows2Model" "untils" "[J" ∈ wt := wt_in (List.mem_of_getElem? (i := 291) rfl) rfl
theorem tk_293 : Cond.laysFinal "OrderRows2Model" "OrderRows2Model" "made" "[J" ∈ wt := wt_in (List.mem_of_getElem? (i := 293) rfl) rfl
theorem tk_295 : Cond.laysFinal "OrderRows2Model" "OrderRows2Model" "proved" "[Z" ∈ wt := wt_in (List.mem_of_getElem? (i := 295) rfl) rfl
theorem tk_297 : Cond.laysFinal "OrderRows2Model" "OrderRows2Model" "overs" "[J" ∈ wt := wt_in (List.mem_of_getElem? (i := 297) rfl) rfl
theorem tk_299 : Cond.laysFinal "OrderRows2Model" "OrderRows2Model" "ranks" "[I" ∈ wt := wt_in (List.mem_of_getElem? (i := 299) rfl) rfl
theorem tk_301 : Cond.lays "OrderRows2Model" "OrderRows2Model" "now" "J" ∈ wt := wt_in (List.mem_of_getElem? (i := 301) rfl) rfl
theorem tk_303 : Cond.laysFinal "OrderRows2Model" "OrderRows2Model" "way" "[I" ∈ wt := wt_in (List.mem_of_getElem? (i := 303) rfl) rfl
theorem tk_305 : Cond.lays "OrderRows2Model" "OrderRows2Model" "ringFrom" "I" ∈ wt := wt_in (List.mem_of_getElem? (i := 305) rfl) rfl
theorem tk_307 : Cond.lays "OrderRows2Model" "OrderRows2Model" "ringSize" "I" ∈ wt := wt_in (List.mem_of_getElem? (i := 307) rfl) rfl
theorem tk_309 : Cond.laysFinal "OrderRows2Model" "OrderRows2Model" "ring" "[I" ∈ wt := wt_in (List.mem_of_getElem? (i := 309) rfl) rfl
theorem tk_312 : Cond.arrayClass .long ∈ wt := wt_in (List.mem_of_getElem? (i := 312) rfl) rfl
theorem tk_313 : Cond.methodLink "OrderRows2Law" 19 ⟨"OrderRows2Model", "order", "(IIIIJJ)I"⟩ ∈ wt := wt_in (List.mem_of_getElem? (i := 313) rfl) rfl
theorem tk_314 : Cond.instanceMethod ⟨"OrderRows2Model", "order", "(IIIIJJ)I"⟩ ∈ wt := wt_in (List.mem_of_getElem? (i := 314) rfl) rfl
theorem tk_315 : Cond.selects "OrderRows2Model" ⟨"OrderRows2Model", "order", "(IIIIJJ)I"⟩ ⟨"OrderRows2Model", "order", "(IIIIJJ)I"⟩ ∈ wt := wt_in (List.mem_of_getElem? (i := 315) rfl) rfl
theorem tk_316 : Cond.code ⟨"OrderRows2Model", "order", "(IIIIJJ)I"⟩ prog_7_method_6_code 10 (some .int) ∈ wt := wt_in (List.mem_of_getElem? (i := 316) rfl) rfl
theorem tk_317 : Cond.constantLong "OrderRows2Model" 68 (99 : Int64) ∈ wt := wt_in (List.mem_of_getElem? (i := 317) rfl) rfl
theorem tk_318 : Cond.methodLink "OrderRows2Model" 58 ⟨"OrderRows2Model", "isIn", "(JJJ)Z"⟩ ∈ wt := wt_in (List.mem_of_getElem? (i := 318) rfl) rfl
theorem tk_319 : Cond.static ⟨"OrderRows2Model", "isIn", "(JJJ)Z"⟩ ∈ wt := wt_in (List.mem_of_getElem? (i := 319) rfl) rfl
theorem tk_320 : Cond.code ⟨"OrderRows2Model", "isIn", "(JJJ)Z"⟩ prog_7_method_3_code 6 (some .boolean) ∈ wt := wt_in (List.mem_of_getElem? (i := 320) rfl) rfl
theorem tk_321 : Cond.constantLong "OrderRows2Model" 70 (-1 : Int64) ∈ wt := wt_in (List.mem_of_getElem? (i := 321) rfl) rfl
theorem tk_322 : Cond.constantLong "OrderRows2Model" 72 (49 : Int64) ∈ wt := wt_in (List.mem_of_getElem? (i := 322) rfl) rfl
theorem tk_323 : Cond.constantLong "OrderRows2Model" 74 (8 : Int64) ∈ wt := wt_in (List.mem_of_getElem? (i := 323) rfl) rfl
theorem tk_324 : Cond.constantLong "OrderRows2Model" 66 (20000 : Int64) ∈ wt := wt_in (List.mem_of_getElem? (i := 324) rfl) rfl
theorem tk_325 : Cond.methodLink "OrderRows2Law" 24 ⟨"OrderRows2Model", "proof", "(IZJ)I"⟩ ∈ wt := wt_in (List.mem_of_getElem? (i := 325) rfl) rfl
theorem tk_326 : Cond.instanceMethod ⟨"OrderRows2Model", "proof", "(IZJ)I"⟩ ∈ wt := wt_in (List.mem_of_getElem? (i := 326) rfl) rfl
theorem tk_327 : Cond.selects "OrderRows2Model" ⟨"OrderRows2Model", "proof", "(IZJ)I"⟩ ⟨"OrderRows2Model", "proof", "(IZJ)I"⟩ ∈ wt := wt_in (List.mem_of_getElem? (i := 327) rfl) rfl
theorem tk_328 : Cond.code ⟨"OrderRows2Model", "proof", "(IZJ)I"⟩ prog_7_method_8_code 6 (some .int) ∈ wt := wt_in (List.mem_of_getElem? (i := 328) rfl) rfl
theorem tk_329 : Cond.methodLink "OrderRows2Model" 80 ⟨"OrderRows2Model", "isOrder", "(I)Z"⟩ ∈ wt := wt_in (List.mem_of_getElem? (i := 329) rfl) rfl
theorem tk_331 : Cond.instanceMethod ⟨"OrderRows2Model", "isOrder", "(I)Z"⟩ ∈ wt := wt_in (List.mem_of_getElem? (i := 331) rfl) rfl
theorem tk_332 : Cond.code ⟨"OrderRows2Model", "isOrder", "(I)Z"⟩ prog_7_method_4_code 2 (some .boolean) ∈ wt := wt_in (List.mem_of_getElem? (i := 332) rfl) rfl
theorem tk_333 : Cond.methodLink "OrderRows2Model" 84 ⟨"OrderRows2Model", "isDay", "(J)Z"⟩ ∈ wt := wt_in (List.mem_of_getElem? (i := 333) rfl) rfl
theorem tk_335 : Cond.instanceMethod ⟨"OrderRows2Model", "isDay", "(J)Z"⟩ ∈ wt := wt_in (List.mem_of_getElem? (i := 335) rfl) rfl
theorem tk_336 : Cond.code ⟨"OrderRows2Model", "isDay", "(J)Z"⟩ prog_7_method_5_code 3 (some .boolean) ∈ wt := wt_in (List.mem_of_getElem? (i := 336) rfl) rfl
theorem tk_337 : Cond.methodLink "OrderRows2Model" 88 ⟨"OrderRows2Model", "set", "(J)I"⟩ ∈ wt := wt_in (List.mem_of_getElem? (i := 337) rfl) rfl
theorem tk_339 : Cond.instanceMethod ⟨"OrderRows2Model", "set", "(J)I"⟩ ∈ wt := wt_in (List.mem_of_getElem? (i := 339) rfl) rfl
theorem tk_340 : Cond.code ⟨"OrderRows2Model", "set", "(J)I"⟩ prog_7_method_7_code 5 (some .int) ∈ wt := wt_in (List.mem_of_getElem? (i := 340) rfl) rfl
theorem tk_341 : Cond.constantLong "OrderRows2Model" 76 (14 : Int64) ∈ wt := wt_in (List.mem_of_getElem? (i := 341) rfl) rfl
theorem tk_342 : Cond.constantLong "OrderRows2Model" 78 (15 : Int64) ∈ wt := wt_in (List.mem_of_getElem? (i := 342) rfl) rfl
theorem tk_343 : Cond.methodLink "OrderRows2Law" 29 ⟨"OrderRows2Model", "withdraw", "(IJ)I"⟩ ∈ wt := wt_in (List.mem_of_getElem? (i := 343) rfl) rfl
theorem tk_344 : Cond.instanceMethod ⟨"OrderRows2Model", "withdraw", "(IJ)I"⟩ ∈ wt := wt_in (List.mem_of_getElem? (i := 344) rfl) rfl
theorem tk_345 : Cond.selects "OrderRows2Model" ⟨"OrderRows2Model", "withdraw", "(IJ)I"⟩ ⟨"OrderRows2Model", "withdraw", "(IJ)I"⟩ ∈ wt := wt_in (List.mem_of_getElem? (i := 345) rfl) rfl
theorem tk_346 : Cond.code ⟨"OrderRows2Model", "withdraw", "(IJ)I"⟩ prog_7_method_9_code 8 (some .int) ∈ wt := wt_in (List.mem_of_getElem? (i := 346) rfl) rfl
theorem tk_347 : Cond.methodLink "OrderRows2Law" 34 ⟨"OrderRows2Model", "effective", "(IIIJ)I"⟩ ∈ wt := wt_in (List.mem_of_getElem? (i := 347) rfl) rfl
theorem tk_348 : Cond.instanceMethod ⟨"OrderRows2Model", "effective", "(IIIJ)I"⟩ ∈ wt := wt_in (List.mem_of_getElem? (i := 348) rfl) rfl
theorem tk_349 : Cond.selects "OrderRows2Model" ⟨"OrderRows2Model", "effective", "(IIIJ)I"⟩ ⟨"OrderRows2Model", "effective", "(IIIJ)I"⟩ ∈ wt := wt_in (List.mem_of_getElem? (i := 349) rfl) rfl
theorem tk_350 : Cond.code ⟨"OrderRows2Model", "effective", "(IIIJ)I"⟩ prog_7_method_12_code 10 (some .int) ∈ wt := wt_in (List.mem_of_getElem? (i := 350) rfl) rfl
theorem tk_351 : Cond.constantLong "OrderRows2Model" 96 (2 : Int64) ∈ wt := wt_in (List.mem_of_getElem? (i := 351) rfl) rfl
theorem tk_352 : Cond.methodLink "OrderRows2Model" 98 ⟨"OrderRows2Model", "find", "(IIIJ)I"⟩ ∈ wt := wt_in (List.mem_of_getElem? (i := 352) rfl) rfl
theorem tk_354 : Cond.instanceMethod ⟨"OrderRows2Model", "find", "(IIIJ)I"⟩ ∈ wt := wt_in (List.mem_of_getElem? (i := 354) rfl) rfl
theorem tk_355 : Cond.code ⟨"OrderRows2Model", "find", "(IIIJ)I"⟩ prog_7_method_11_code 9 (some .int) ∈ wt := wt_in (List.mem_of_getElem? (i := 355) rfl) rfl
theorem tk_356 : Cond.methodLink "OrderRows2Model" 92 ⟨"OrderRows2Model", "isForce", "(IJ)Z"⟩ ∈ wt := wt_in (List.mem_of_getElem? (i := 356) rfl) rfl
theorem tk_358 : Cond.instanceMethod ⟨"OrderRows2Model", "isForce", "(IJ)Z"⟩ ∈ wt := wt_in (List.mem_of_getElem? (i := 358) rfl) rfl
theorem tk_359 : Cond.code ⟨"OrderRows2Model", "isForce", "(IJ)Z"⟩ prog_7_method_10_code 4 (some .boolean) ∈ wt := wt_in (List.mem_of_getElem? (i := 359) rfl) rfl
theorem tk_360 : Cond.methodLink "OrderRows2Law" 39 ⟨"OrderRows2Model", "ring", "(I)I"⟩ ∈ wt := wt_in (List.mem_of_getElem? (i := 360) rfl) rfl
theorem tk_361 : Cond.instanceMethod ⟨"OrderRows2Model", "ring", "(I)I"⟩ ∈ wt := wt_in (List.mem_of_getElem? (i := 361) rfl) rfl
theorem tk_362 : Cond.selects "OrderRows2Model" ⟨"OrderRows2Model", "ring", "(I)I"⟩ ⟨"OrderRows2Model", "ring", "(I)I"⟩ ∈ wt := wt_in (List.mem_of_getElem? (i := 362) rfl) rfl
theorem tk_363 : Cond.code ⟨"OrderRows2Model", "ring", "(I)I"⟩ prog_7_method_13_code 2 (some .int) ∈ wt := wt_in (List.mem_of_getElem? (i := 363) rfl) rfl
theorem tk_364 : Cond.methodLink "OrderRows2Law" 44 ⟨"OrderRows2Model", "rank", "(II)I"⟩ ∈ wt := wt_in (List.mem_of_getElem? (i := 364) rfl) rfl
theorem tk_365 : Cond.instanceMethod ⟨"OrderRows2Model", "rank", "(II)I"⟩ ∈ wt := wt_in (List.mem_of_getElem? (i := 365) rfl) rfl
theorem tk_366 : Cond.selects "OrderRows2Model" ⟨"OrderRows2Model", "rank", "(II)I"⟩ ⟨"OrderRows2Model", "rank", "(II)I"⟩ ∈ wt := wt_in (List.mem_of_getElem? (i := 366) rfl) rfl
theorem tk_367 : Cond.code ⟨"OrderRows2Model", "rank", "(II)I"⟩ prog_7_method_14_code 4 (some .int) ∈ wt := wt_in (List.mem_of_getElem? (i := 367) rfl) rfl
theorem tk_368 : Cond.constantLong "OrderRows2Model" 102 (100 : Int64) ∈ wt := wt_in (List.mem_of_getElem? (i := 368) rfl) rfl
theorem tk_369 : Cond.methodLink "OrderRows2Law" 49 ⟨"OrderRows2Model", "tick", "(J)I"⟩ ∈ wt := wt_in (List.mem_of_getElem? (i := 369) rfl) rfl
theorem tk_370 : Cond.instanceMethod ⟨"OrderRows2Model", "tick", "(J)I"⟩ ∈ wt := wt_in (List.mem_of_getElem? (i := 370) rfl) rfl
theorem tk_371 : Cond.selects "OrderRows2Model" ⟨"OrderRows2Model", "tick", "(J)I"⟩ ⟨"OrderRows2Model", "tick", "(J)I"⟩ ∈ wt := wt_in (List.mem_of_getElem? (i := 371) rfl) rfl
theorem tk_372 : Cond.code ⟨"OrderRows2Model", "tick", "(J)I"⟩ prog_7_method_15_code 3 (some .int) ∈ wt := wt_in (List.mem_of_getElem? (i := 372) rfl) rfl
theorem tk_373 : Cond.methodLink "OrderRows2Law" 53 ⟨"OrderRows2Model", "extend", "(IJ)I"⟩ ∈ wt := wt_in (List.mem_of_getElem? (i := 373) rfl) rfl
theorem tk_374 : Cond.instanceMethod ⟨"OrderRows2Model", "extend", "(IJ)I"⟩ ∈ wt := wt_in (List.mem_of_getElem? (i := 374) rfl) rfl
theorem tk_375 : Cond.selects "OrderRows2Model" ⟨"OrderRows2Model", "extend", "(IJ)I"⟩ ⟨"OrderRows2Model", "extend", "(IJ)I"⟩ ∈ wt := wt_in (List.mem_of_getElem? (i := 375) rfl) rfl
theorem tk_376 : Cond.code ⟨"OrderRows2Model", "extend", "(IJ)I"⟩ prog_7_method_16_code 5 (some .int) ∈ wt := wt_in (List.mem_of_getElem? (i := 376) rfl) rfl
theorem tk_377 : Cond.methodLink "OrderRows2Law" 57 ⟨"OrderRows2Model", "told", "(II)I"⟩ ∈ wt := wt_in (List.mem_of_getElem? (i := 377) rfl) rfl
theorem tk_378 : Cond.instanceMethod ⟨"OrderRows2Model", "told", "(II)I"⟩ ∈ wt := wt_in (List.mem_of_getElem? (i := 378) rfl) rfl
theorem tk_379 : Cond.selects "OrderRows2Model" ⟨"OrderRows2Model", "told", "(II)I"⟩ ⟨"OrderRows2Model", "told", "(II)I"⟩ ∈ wt := wt_in (List.mem_of_getElem? (i := 379) rfl) rfl
theorem tk_380 : Cond.code ⟨"OrderRows2Model", "told", "(II)I"⟩ prog_7_method_17_code 6 (some .int) ∈ wt := wt_in (List.mem_of_getElem? (i := 380) rfl) rfl
theorem tk_381 : Cond.constantLong "OrderRows2Law" 13 (4294967295 : Int64) ∈ wt := wt_in (List.mem_of_getElem? (i := 381) rfl) rfl
theorem tq_382 : Cond.castable "OrderRows2$Forward" "OrderRows2$Order" ∈ lw_tbl := List.mem_append_right _ (List.mem_of_getElem? (i := 382) rfl)
theorem tq_383 : Cond.castable "OrderRows2$Hold" "OrderRows2$Order" ∈ lw_tbl := List.mem_append_right _ (List.mem_of_getElem? (i := 383) rfl)
theorem tq_384 : Cond.castable "OrderRows2$Refusal" "OrderRows2$Order" ∈ lw_tbl := List.mem_append_right _ (List.mem_of_getElem? (i := 384) rfl)
theorem ts_X_isOrder : Cond.selects "OrderRows2" y_X_isOrder y_X_isOrder ∈ wt := List.mem_filter.mpr ⟨List.mem_append_left _ (List.mem_of_getElem? (i := 0) rfl), rfl⟩
theorem ts_X_isNoDay : Cond.selects "OrderRows2" y_X_isNoDay y_X_isNoDay ∈ wt := List.mem_filter.mpr ⟨List.mem_append_left _ (List.mem_of_getElem? (i := 1) rfl), rfl⟩
theorem ts_X_pass : Cond.selects "OrderRows2" y_X_pass y_X_pass ∈ wt := List.mem_filter.mpr ⟨List.mem_append_left _ (List.mem_of_getElem? (i := 2) rfl), rfl⟩
theorem ts_X_find : Cond.selects "OrderRows2" y_X_find y_X_find ∈ wt := List.mem_filter.mpr ⟨List.mem_append_left _ (List.mem_of_getElem? (i := 3) rfl), rfl⟩
theorem ts_X_tellRing : Cond.selects "OrderRows2" y_X_tellRing y_X_tellRing ∈ wt := List.mem_filter.mpr ⟨List.mem_append_left _ (List.mem_of_getElem? (i := 4) rfl), rfl⟩
theorem ts_M_isOrder : Cond.selects "OrderRows2Model" y_M_isOrder y_M_isOrder ∈ wt := List.mem_filter.mpr ⟨List.mem_append_left _ (List.mem_of_getElem? (i := 5) rfl), rfl⟩
theorem ts_M_isDay : Cond.selects "OrderRows2Model" y_M_isDay y_M_isDay ∈ wt := List.mem_filter.mpr ⟨List.mem_append_left _ (List.mem_of_getElem? (i := 6) rfl), rfl⟩
theorem ts_M_set : Cond.selects "OrderRows2Model" y_M_set y_M_set ∈ wt := List.mem_filter.mpr ⟨List.mem_append_left _ (List.mem_of_getElem? (i := 7) rfl), rfl⟩
theorem ts_M_find : Cond.selects "OrderRows2Model" y_M_find y_M_find ∈ wt := List.mem_filter.mpr ⟨List.mem_append_left _ (List.mem_of_getElem? (i := 8) rfl), rfl⟩
theorem ts_M_isForce : Cond.selects "OrderRows2Model" y_M_isForce y_M_isForce ∈ wt := List.mem_filter.mpr ⟨List.mem_append_left _ (List.mem_of_getElem? (i := 9) rfl), rfl⟩
theorem i_X : ∀ w ∈ u_ws R_X F_X 8, w ∈ wt := by
  show ∀ w ∈ ([u_lay R_X F_X 0, u_lay R_X F_X 1, u_lay R_X F_X 2, u_lay R_X F_X 3, u_lay R_X F_X 4, u_lay R_X F_X 5, u_lay R_X F_X 6, u_lay R_X F_X 7] : List Cond), w ∈ wt
  exact List.forall_mem_cons.mpr ⟨tk_27, List.forall_mem_cons.mpr ⟨tk_29, List.forall_mem_cons.mpr ⟨tk_31, List.forall_mem_cons.mpr ⟨tk_33, List.forall_mem_cons.mpr ⟨tk_35, List.forall_mem_cons.mpr ⟨tk_37, List.forall_mem_cons.mpr ⟨tk_39, List.forall_mem_cons.mpr ⟨tk_41, fun _ h => absurd h List.not_mem_nil⟩⟩⟩⟩⟩⟩⟩⟩
theorem i_M : ∀ w ∈ u_ws R_M F_M 17, w ∈ wt := by
  show ∀ w ∈ ([u_lay R_M F_M 0, u_lay R_M F_M 1, u_lay R_M F_M 2, u_lay R_M F_M 3, u_lay R_M F_M 4, u_lay R_M F_M 5, u_lay R_M F_M 6, u_lay R_M F_M 7, u_lay R_M F_M 8, u_lay R_M F_M 9, u_lay R_M F_M 10, u_lay R_M F_M 11, u_lay R_M F_M 12, u_lay R_M F_M 13, u_lay R_M F_M 14, u_lay R_M F_M 15, u_lay R_M F_M 16] : List Cond), w ∈ wt
  exact List.forall_mem_cons.mpr ⟨tk_277, List.forall_mem_cons.mpr ⟨tk_279, List.forall_mem_cons.mpr ⟨tk_281, List.forall_mem_cons.mpr ⟨tk_283, List.forall_mem_cons.mpr ⟨tk_285, List.forall_mem_cons.mpr ⟨tk_287, List.forall_mem_cons.mpr ⟨tk_289, List.forall_mem_cons.mpr ⟨tk_291, List.forall_mem_cons.mpr ⟨tk_293, List.forall_mem_cons.mpr ⟨tk_295, List.forall_mem_cons.mpr ⟨tk_297, List.forall_mem_cons.mpr ⟨tk_299, List.forall_mem_cons.mpr ⟨tk_301, List.forall_mem_cons.mpr ⟨tk_303, List.forall_mem_cons.mpr ⟨tk_305, List.forall_mem_cons.mpr ⟨tk_307, List.forall_mem_cons.mpr ⟨tk_309, fun _ h => absurd h List.not_mem_nil⟩⟩⟩⟩⟩⟩⟩⟩⟩⟩⟩⟩⟩⟩⟩⟩⟩
theorem i_F : ∀ w ∈ u_ws R_F F_O 9, w ∈ wt := by
  show ∀ w ∈ ([u_lay R_F F_O 0, u_lay R_F F_O 1, u_lay R_F F_O 2, u_lay R_F F_O 3, u_lay R_F F_O 4, u_lay R_F F_O 5, u_lay R_F F_O 6, u_lay R_F F_O 7, u_lay R_F F_O 8] : List Cond), w ∈ wt
  exact List.forall_mem_cons.mpr ⟨tk_89, List.forall_mem_cons.mpr ⟨tk_91, List.forall_mem_cons.mpr ⟨tk_93, List.forall_mem_cons.mpr ⟨tk_95, List.forall_mem_cons.mpr ⟨tk_97, List.forall_mem_cons.mpr ⟨tk_99, List.forall_mem_cons.mpr ⟨tk_101, List.forall_mem_cons.mpr ⟨tk_103, List.forall_mem_cons.mpr ⟨tk_87, fun _ h => absurd h List.not_mem_nil⟩⟩⟩⟩⟩⟩⟩⟩⟩
theorem i_H : ∀ w ∈ u_ws R_H F_O 8, w ∈ wt := by
  show ∀ w ∈ ([u_lay R_H F_O 0, u_lay R_H F_O 1, u_lay R_H F_O 2, u_lay R_H F_O 3, u_lay R_H F_O 4, u_lay R_H F_O 5, u_lay R_H F_O 6, u_lay R_H F_O 7] : List Cond), w ∈ wt
  exact List.forall_mem_cons.mpr ⟨tk_112, List.forall_mem_cons.mpr ⟨tk_113, List.forall_mem_cons.mpr ⟨tk_114, List.forall_mem_cons.mpr ⟨tk_115, List.forall_mem_cons.mpr ⟨tk_116, List.forall_mem_cons.mpr ⟨tk_117, List.forall_mem_cons.mpr ⟨tk_118, List.forall_mem_cons.mpr ⟨tk_119, fun _ h => absurd h List.not_mem_nil⟩⟩⟩⟩⟩⟩⟩⟩
theorem i_R : ∀ w ∈ u_ws R_R F_O 8, w ∈ wt := by
  show ∀ w ∈ ([u_lay R_R F_O 0, u_lay R_R F_O 1, u_lay R_R F_O 2, u_lay R_R F_O 3, u_lay R_R F_O 4, u_lay R_R F_O 5, u_lay R_R F_O 6, u_lay R_R F_O 7] : List Cond), w ∈ wt
  exact List.forall_mem_cons.mpr ⟨tk_127, List.forall_mem_cons.mpr ⟨tk_128, List.forall_mem_cons.mpr ⟨tk_129, List.forall_mem_cons.mpr ⟨tk_130, List.forall_mem_cons.mpr ⟨tk_131, List.forall_mem_cons.mpr ⟨tk_132, List.forall_mem_cons.mpr ⟨tk_133, List.forall_mem_cons.mpr ⟨tk_134, fun _ h => absurd h List.not_mem_nil⟩⟩⟩⟩⟩⟩⟩⟩
theorem i_o {ci : Nat} (h : ci < 3) : ∀ w ∈ u_ws (C_o ci) F_O (N_o ci), w ∈ wt := by
  match ci, h with
  | 0, _ => exact i_F
  | 1, _ => exact i_H
  | 2, _ => exact i_R
theorem cl_o {ci : Nat} (h : ci < 3) : classes[ci]? = some (C_o ci, F_O, N_o ci) := by
  match ci, h with
  | 0, _ => rfl
  | 1, _ => rfl
  | 2, _ => rfl
theorem n_o {ci k : Nat} (h : k < 8) : k < N_o ci := by
  unfold N_o
  split <;> omega
theorem n9_o {ci k : Nat} (h : k < N_o ci) : k < 9 := by
  unfold N_o at h
  split at h <;> omega
theorem ty_o {ci : Nat} : ∀ k, k < N_o ci → parseFieldDescriptor (F_O k).2.2.1 = some (t_O k) := fun k h => t_O_ok k (n9_o h)
theorem nm_o {ci : Nat} : ∀ a, a < N_o ci → ∀ b, b < N_o ci → a ≠ b → (F_O a).2.1 ≠ (F_O b).2.1 := fun a h b g => n_O a (n9_o h) b (n9_o g)
theorem hd_X_init : y_X_init.cls ≠ "java/lang/invoke/MethodHandle" ∧ y_X_init.cls ≠ "java/lang/invoke/VarHandle" ∧ (parseMethodDescriptor y_X_init.desc).map (fun d => d.parameters.length) = some 0 := by decide +kernel
theorem hd_X_order : y_X_order.cls ≠ "java/lang/invoke/MethodHandle" ∧ y_X_order.cls ≠ "java/lang/invoke/VarHandle" ∧ (parseMethodDescriptor y_X_order.desc).map (fun d => d.parameters.length) = some 6 := by decide +kernel
theorem hd_X_isKind : y_X_isKind.cls ≠ "java/lang/invoke/MethodHandle" ∧ y_X_isKind.cls ≠ "java/lang/invoke/VarHandle" ∧ (parseMethodDescriptor y_X_isKind.desc).map (fun d => d.parameters.length) = some 1 := by decide +kernel
theorem hd_X_isAddress : y_X_isAddress.cls ≠ "java/lang/invoke/MethodHandle" ∧ y_X_isAddress.cls ≠ "java/lang/invoke/VarHandle" ∧ (parseMethodDescriptor y_X_isAddress.desc).map (fun d => d.parameters.length) = some 1 := by decide +kernel
theorem hd_X_outside : y_X_outside.cls ≠ "java/lang/invoke/MethodHandle" ∧ y_X_outside.cls ≠ "java/lang/invoke/VarHandle" ∧ (parseMethodDescriptor y_X_outside.desc).map (fun d => d.parameters.length) = some 3 := by decide +kernel
theorem hd_F_init : y_F_init.cls ≠ "java/lang/invoke/MethodHandle" ∧ y_F_init.cls ≠ "java/lang/invoke/VarHandle" ∧ (parseMethodDescriptor y_F_init.desc).map (fun d => d.parameters.length) = some 7 := by decide +kernel
theorem hd_O_init : y_O_init.cls ≠ "java/lang/invoke/MethodHandle" ∧ y_O_init.cls ≠ "java/lang/invoke/VarHandle" ∧ (parseMethodDescriptor y_O_init.desc).map (fun d => d.parameters.length) = some 6 := by decide +kernel
theorem hd_H_init : y_H_init.cls ≠ "java/lang/invoke/MethodHandle" ∧ y_H_init.cls ≠ "java/lang/invoke/VarHandle" ∧ (parseMethodDescriptor y_H_init.desc).map (fun d => d.parameters.length) = some 6 := by decide +kernel
theorem hd_R_init : y_R_init.cls ≠ "java/lang/invoke/MethodHandle" ∧ y_R_init.cls ≠ "java/lang/invoke/VarHandle" ∧ (parseMethodDescriptor y_R_init.desc).map (fun d => d.parameters.length) = some 6 := by decide +kernel
theorem hd_X_proof : y_X_proof.cls ≠ "java/lang/invoke/MethodHandle" ∧ y_X_proof.cls ≠ "java/lang/invoke/VarHandle" ∧ (parseMethodDescriptor y_X_proof.desc).map (fun d => d.parameters.length) = some 3 := by decide +kernel
theorem hd_X_isOrder : y_X_isOrder.cls ≠ "java/lang/invoke/MethodHandle" ∧ y_X_isOrder.cls ≠ "java/lang/invoke/VarHandle" ∧ (parseMethodDescriptor y_X_isOrder.desc).map (fun d => d.parameters.length) = some 1 := by decide +kernel
theorem hd_X_isNoDay : y_X_isNoDay.cls ≠ "java/lang/invoke/MethodHandle" ∧ y_X_isNoDay.cls ≠ "java/lang/invoke/VarHandle" ∧ (parseMethodDescriptor y_X_isNoDay.desc).map (fun d => d.parameters.length) = some 1 := by decide +kernel
theorem hd_X_pass : y_X_pass.cls ≠ "java/lang/invoke/MethodHandle" ∧ y_X_pass.cls ≠ "java/lang/invoke/VarHandle" ∧ (parseMethodDescriptor y_X_pass.desc).map (fun d => d.parameters.length) = some 1 := by decide +kernel
theorem hd_O_lapses : y_O_lapses.cls ≠ "java/lang/invoke/MethodHandle" ∧ y_O_lapses.cls ≠ "java/lang/invoke/VarHandle" ∧ (parseMethodDescriptor y_O_lapses.desc).map (fun d => d.parameters.length) = some 1 := by decide +kernel
theorem hd_O_isOver : y_O_isOver.cls ≠ "java/lang/invoke/MethodHandle" ∧ y_O_isOver.cls ≠ "java/lang/invoke/VarHandle" ∧ (parseMethodDescriptor y_O_isOver.desc).map (fun d => d.parameters.length) = some 0 := by decide +kernel
theorem hd_X_withdraw : y_X_withdraw.cls ≠ "java/lang/invoke/MethodHandle" ∧ y_X_withdraw.cls ≠ "java/lang/invoke/VarHandle" ∧ (parseMethodDescriptor y_X_withdraw.desc).map (fun d => d.parameters.length) = some 2 := by decide +kernel
theorem hd_O_cut : y_O_cut.cls ≠ "java/lang/invoke/MethodHandle" ∧ y_O_cut.cls ≠ "java/lang/invoke/VarHandle" ∧ (parseMethodDescriptor y_O_cut.desc).map (fun d => d.parameters.length) = some 1 := by decide +kernel
theorem hd_Math_max : y_Math_max.cls ≠ "java/lang/invoke/MethodHandle" ∧ y_Math_max.cls ≠ "java/lang/invoke/VarHandle" ∧ (parseMethodDescriptor y_Math_max.desc).map (fun d => d.parameters.length) = some 2 := by decide +kernel
theorem hd_X_tick : y_X_tick.cls ≠ "java/lang/invoke/MethodHandle" ∧ y_X_tick.cls ≠ "java/lang/invoke/VarHandle" ∧ (parseMethodDescriptor y_X_tick.desc).map (fun d => d.parameters.length) = some 1 := by decide +kernel
theorem hd_X_effective : y_X_effective.cls ≠ "java/lang/invoke/MethodHandle" ∧ y_X_effective.cls ≠ "java/lang/invoke/VarHandle" ∧ (parseMethodDescriptor y_X_effective.desc).map (fun d => d.parameters.length) = some 4 := by decide +kernel
theorem hd_X_find : y_X_find.cls ≠ "java/lang/invoke/MethodHandle" ∧ y_X_find.cls ≠ "java/lang/invoke/VarHandle" ∧ (parseMethodDescriptor y_X_find.desc).map (fun d => d.parameters.length) = some 4 := by decide +kernel
theorem hd_O_isFor : y_O_isFor.cls ≠ "java/lang/invoke/MethodHandle" ∧ y_O_isFor.cls ≠ "java/lang/invoke/VarHandle" ∧ (parseMethodDescriptor y_O_isFor.desc).map (fun d => d.parameters.length) = some 4 := by decide +kernel
theorem hd_O_isIn : y_O_isIn.cls ≠ "java/lang/invoke/MethodHandle" ∧ y_O_isIn.cls ≠ "java/lang/invoke/VarHandle" ∧ (parseMethodDescriptor y_O_isIn.desc).map (fun d => d.parameters.length) = some 1 := by decide +kernel
theorem hd_O_sendsOn : y_O_sendsOn.cls ≠ "java/lang/invoke/MethodHandle" ∧ y_O_sendsOn.cls ≠ "java/lang/invoke/VarHandle" ∧ (parseMethodDescriptor y_O_sendsOn.desc).map (fun d => d.parameters.length) = some 0 := by decide +kernel
theorem hd_F_goesTo : y_F_goesTo.cls ≠ "java/lang/invoke/MethodHandle" ∧ y_F_goesTo.cls ≠ "java/lang/invoke/VarHandle" ∧ (parseMethodDescriptor y_F_goesTo.desc).map (fun d => d.parameters.length) = some 0 := by decide +kernel
theorem hd_H_goesTo : y_H_goesTo.cls ≠ "java/lang/invoke/MethodHandle" ∧ y_H_goesTo.cls ≠ "java/lang/invoke/VarHandle" ∧ (parseMethodDescriptor y_H_goesTo.desc).map (fun d => d.parameters.length) = some 0 := by decide +kernel
theorem hd_R_goesTo : y_R_goesTo.cls ≠ "java/lang/invoke/MethodHandle" ∧ y_R_goesTo.cls ≠ "java/lang/invoke/VarHandle" ∧ (parseMethodDescriptor y_R_goesTo.desc).map (fun d => d.parameters.length) = some 0 := by decide +kernel
theorem hd_X_tellRing : y_X_tellRing.cls ≠ "java/lang/invoke/MethodHandle" ∧ y_X_tellRing.cls ≠ "java/lang/invoke/VarHandle" ∧ (parseMethodDescriptor y_X_tellRing.desc).map (fun d => d.parameters.length) = some 2 := by decide +kernel
theorem hd_X_ring : y_X_ring.cls ≠ "java/lang/invoke/MethodHandle" ∧ y_X_ring.cls ≠ "java/lang/invoke/VarHandle" ∧ (parseMethodDescriptor y_X_ring.desc).map (fun d => d.parameters.length) = some 1 := by decide +kernel
theorem hd_X_rank : y_X_rank.cls ≠ "java/lang/invoke/MethodHandle" ∧ y_X_rank.cls ≠ "java/lang/invoke/VarHandle" ∧ (parseMethodDescriptor y_X_rank.desc).map (fun d => d.parameters.length) = some 2 := by decide +kernel
theorem hd_X_extend : y_X_extend.cls ≠ "java/lang/invoke/MethodHandle" ∧ y_X_extend.cls ≠ "java/lang/invoke/VarHandle" ∧ (parseMethodDescriptor y_X_extend.desc).map (fun d => d.parameters.length) = some 2 := by decide +kernel
theorem hd_X_told : y_X_told.cls ≠ "java/lang/invoke/MethodHandle" ∧ y_X_told.cls ≠ "java/lang/invoke/VarHandle" ∧ (parseMethodDescriptor y_X_told.desc).map (fun d => d.parameters.length) = some 2 := by decide +kernel
theorem hd_M_init : y_M_init.cls ≠ "java/lang/invoke/MethodHandle" ∧ y_M_init.cls ≠ "java/lang/invoke/VarHandle" ∧ (parseMethodDescriptor y_M_init.desc).map (fun d => d.parameters.length) = some 0 := by decide +kernel
theorem hd_M_order : y_M_order.cls ≠ "java/lang/invoke/MethodHandle" ∧ y_M_order.cls ≠ "java/lang/invoke/VarHandle" ∧ (parseMethodDescriptor y_M_order.desc).map (fun d => d.parameters.length) = some 6 := by decide +kernel
theorem hd_M_isIn : y_M_isIn.cls ≠ "java/lang/invoke/MethodHandle" ∧ y_M_isIn.cls ≠ "java/lang/invoke/VarHandle" ∧ (parseMethodDescriptor y_M_isIn.desc).map (fun d => d.parameters.length) = some 3 := by decide +kernel
theorem hd_M_proof : y_M_proof.cls ≠ "java/lang/invoke/MethodHandle" ∧ y_M_proof.cls ≠ "java/lang/invoke/VarHandle" ∧ (parseMethodDescriptor y_M_proof.desc).map (fun d => d.parameters.length) = some 3 := by decide +kernel
theorem hd_M_isOrder : y_M_isOrder.cls ≠ "java/lang/invoke/MethodHandle" ∧ y_M_isOrder.cls ≠ "java/lang/invoke/VarHandle" ∧ (parseMethodDescriptor y_M_isOrder.desc).map (fun d => d.parameters.length) = some 1 := by decide +kernel
theorem hd_M_isDay : y_M_isDay.cls ≠ "java/lang/invoke/MethodHandle" ∧ y_M_isDay.cls ≠ "java/lang/invoke/VarHandle" ∧ (parseMethodDescriptor y_M_isDay.desc).map (fun d => d.parameters.length) = some 1 := by decide +kernel
theorem hd_M_set : y_M_set.cls ≠ "java/lang/invoke/MethodHandle" ∧ y_M_set.cls ≠ "java/lang/invoke/VarHandle" ∧ (parseMethodDescriptor y_M_set.desc).map (fun d => d.parameters.length) = some 1 := by decide +kernel
theorem hd_M_withdraw : y_M_withdraw.cls ≠ "java/lang/invoke/MethodHandle" ∧ y_M_withdraw.cls ≠ "java/lang/invoke/VarHandle" ∧ (parseMethodDescriptor y_M_withdraw.desc).map (fun d => d.parameters.length) = some 2 := by decide +kernel
theorem hd_M_effective : y_M_effective.cls ≠ "java/lang/invoke/MethodHandle" ∧ y_M_effective.cls ≠ "java/lang/invoke/VarHandle" ∧ (parseMethodDescriptor y_M_effective.desc).map (fun d => d.parameters.length) = some 4 := by decide +kernel
theorem hd_M_find : y_M_find.cls ≠ "java/lang/invoke/MethodHandle" ∧ y_M_find.cls ≠ "java/lang/invoke/VarHandle" ∧ (parseMethodDescriptor y_M_find.desc).map (fun d => d.parameters.length) = some 4 := by decide +kernel
theorem hd_M_isForce : y_M_isForce.cls ≠ "java/lang/invoke/MethodHandle" ∧ y_M_isForce.cls ≠ "java/lang/invoke/VarHandle" ∧ (parseMethodDescriptor y_M_isForce.desc).map (fun d => d.parameters.length) = some 2 := by decide +kernel
theorem hd_M_ring : y_M_ring.cls ≠ "java/lang/invoke/MethodHandle" ∧ y_M_ring.cls ≠ "java/lang/invoke/VarHandle" ∧ (parseMethodDescriptor y_M_ring.desc).map (fun d => d.parameters.length) = some 1 := by decide +kernel
theorem hd_M_rank : y_M_rank.cls ≠ "java/lang/invoke/MethodHandle" ∧ y_M_rank.cls ≠ "java/lang/invoke/VarHandle" ∧ (parseMethodDescriptor y_M_rank.desc).map (fun d => d.parameters.length) = some 2 := by decide +kernel
theorem hd_M_tick : y_M_tick.cls ≠ "java/lang/invoke/MethodHandle" ∧ y_M_tick.cls ≠ "java/lang/invoke/VarHandle" ∧ (parseMethodDescriptor y_M_tick.desc).map (fun d => d.parameters.length) = some 1 := by decide +kernel
theorem hd_M_extend : y_M_extend.cls ≠ "java/lang/invoke/MethodHandle" ∧ y_M_extend.cls ≠ "java/lang/invoke/VarHandle" ∧ (parseMethodDescriptor y_M_extend.desc).map (fun d => d.parameters.length) = some 2 := by decide +kernel
theorem hd_M_told : y_M_told.cls ≠ "java/lang/invoke/MethodHandle" ∧ y_M_told.cls ≠ "java/lang/invoke/VarHandle" ∧ (parseMethodDescriptor y_M_told.desc).map (fun d => d.parameters.length) = some 2 := by decide +kernel
/-! THE CLAIM OUT OF ONE WALK OF THE LAW'S BODY. Your part is whole_start (and what it stands on); all else here is the same for every law, but numbers. -/
def R_law : String := "OrderRows2Law"
def lw_P (b : Addr) (xs : List Int32) (args : Array Value) (s : State) : Prop := args = #[.ref b] ∧ s.IntsAt b xs ∧ xs.length ≤ 4608 ∧ (Jvm.Cond.and given_1 narrow_1).before args s = true
def lw_Q (_ : Array Value) (s : State) (o : Outcome) (t : State) : Prop := o = .returned (some (.int 1)) ∧ Framed s o t [] 600000 7302250
def lw_Z (below : List Frame) (a : Array Value) (s : State) : State → Prop := fun t => ∃ o, t.status = .running ∧ Ended t below o ∧ lw_Q a s o t
/-- the law's own end, with 1 on the stack, nothing written that was there before, its room as the claim has it -/
theorem lw_ret {p : Program} {l : Launch} {e : Env} {s : State} {m : MethodId} {below : List Frame} {meth : Method} {c : Code} {b : Nat} (hx : p.tables.exec = Jvm.exec) (hb : c.code = code) (hr : meth.sig.returnType = ret) (hlocks : meth.locks = false) {pc : Nat} {H : Heap} {ls : Array Slot} (hdg : decode code pc = .ok (.ireturn, 1)) : W p l e room_1 s m #[Value.ref b] below meth c H [] 600000 7302250 (lw_Z below #[Value.ref b] s) (F0 m pc ls [.int 1]) := by
  intro T hT X
  obtain ⟨fs, hret, hrun, hended, hW, hframe⟩ := X.leave (v := some (.int 1)) (hlocks := hlocks) (fun h => by rw [hr] at h; cases h)
  have hmeth' : T.vm.method? m = some meth := X.method'
  refine ⟨T.setFrames fs, ?_, .returned (some (.int 1)), hrun, hended, rfl, ⟨_, rfl⟩, hW, hframe⟩
  jvm_step X.here [X.here.top, hx, hb, hdg, hmeth', hr, ret, narrow_b1]
  (try refine ⟨rfl, ?_⟩); (try refine ⟨rfl, ?_⟩)
  first | (intro acts; rw [hret _ acts rfl rfl rfl]) | rw [hret _ _ rfl rfl rfl]
  exact Steps.refl _
/-- what holds at the law's entry: the machine, the code, the tables' words (any of lw_tbl by 'hts w (by decide +kernel)'), the script of L ints xs at the cell b, what the Statement gives of the start (any of its parts by flat_of_before) -/
def lw_At (p : Program) (s : State) (m : MethodId) (meth : Method) (c : Code) (b L : Nat) (xs : Nat → Int32) : Prop :=
  p.tables.exec = Jvm.exec ∧ c.code = code ∧ meth.sig.returnType = ret ∧ c.maxLocals = 4 ∧ s.vm.findClass R_law = some m.cls ∧ (∀ w ∈ lw_tbl, w.before #[Value.ref b] s = true) ∧ va_X b L xs s s.heap ∧ b < s.heap.size ∧ meth.locks = false ∧ (Jvm.Cond.and given_1 narrow_1).before #[Value.ref b] s = true
end
section
theorem d_X_init_0 : decode b_X_init 0 = .ok (.aload_n 0, 1) := by decide +kernel
theorem d_X_init_1 : decode b_X_init 1 = .ok (.invokespecial 3, 3) := by decide +kernel
theorem d_X_init_4 : decode b_X_init 4 = .ok (.aload_n 0, 1) := by decide +kernel
theorem d_X_init_5 : decode b_X_init 5 = .ok (.sipush 201, 3) := by decide +kernel
theorem d_X_init_8 : decode b_X_init 8 = .ok (.anewarray 9, 3) := by decide +kernel
theorem d_X_init_11 : decode b_X_init 11 = .ok (.putfield 11, 3) := by decide +kernel
theorem d_X_init_14 : decode b_X_init 14 = .ok (.aload_n 0, 1) := by decide +kernel
theorem d_X_init_15 : decode b_X_init 15 = .ok (.bipush 9, 2) := by decide +kernel
theorem d_X_init_17 : decode b_X_init 17 = .ok (.newarray .int, 2) := by decide +kernel
theorem d_X_init_19 : decode b_X_init 19 = .ok (.putfield 15, 3) := by decide +kernel
theorem d_X_init_22 : decode b_X_init 22 = .ok (.aload_n 0, 1) := by decide +kernel
theorem d_X_init_23 : decode b_X_init 23 = .ok (.bipush 100, 2) := by decide +kernel
theorem d_X_init_25 : decode b_X_init 25 = .ok (.newarray .int, 2) := by decide +kernel
theorem d_X_init_27 : decode b_X_init 27 = .ok (.putfield 19, 3) := by decide +kernel
theorem d_X_init_30 : decode b_X_init 30 = .ok (.aload_n 0, 1) := by decide +kernel
theorem d_X_init_31 : decode b_X_init 31 = .ok (.bipush 100, 2) := by decide +kernel
theorem d_X_init_33 : decode b_X_init 33 = .ok (.newarray .boolean, 2) := by decide +kernel
theorem d_X_init_35 : decode b_X_init 35 = .ok (.putfield 22, 3) := by decide +kernel
theorem d_X_init_38 : decode b_X_init 38 = .ok (.aload_n 0, 1) := by decide +kernel
theorem d_X_init_39 : decode b_X_init 39 = .ok (.bipush 100, 2) := by decide +kernel
theorem d_X_init_41 : decode b_X_init 41 = .ok (.newarray .int, 2) := by decide +kernel
theorem d_X_init_43 : decode b_X_init 43 = .ok (.putfield 26, 3) := by decide +kernel
theorem d_X_init_46 : decode b_X_init 46 = .ok (.return_, 1) := by decide +kernel
theorem d_X_order_0 : decode b_X_order 0 = .ok (.iload_n 1, 1) := by decide +kernel
theorem d_X_order_1 : decode b_X_order 1 = .ok (.invokestatic 33, 3) := by decide +kernel
theorem d_X_order_4 : decode b_X_order 4 = .ok (.ifCond .eq 12, 3) := by decide +kernel
theorem d_X_order_7 : decode b_X_order 7 = .ok (.iload_n 1, 1) := by decide +kernel
theorem d_X_order_8 : decode b_X_order 8 = .ok (.iconst 3, 1) := by decide +kernel
theorem d_X_order_9 : decode b_X_order 9 = .ok (.if_icmp .ge 7, 3) := by decide +kernel
theorem d_X_order_12 : decode b_X_order 12 = .ok (.iconst 1, 1) := by decide +kernel
theorem d_X_order_13 : decode b_X_order 13 = .ok (.goto 4, 3) := by decide +kernel
theorem d_X_order_16 : decode b_X_order 16 = .ok (.iconst 0, 1) := by decide +kernel
theorem d_X_order_17 : decode b_X_order 17 = .ok (.istore 9, 2) := by decide +kernel
theorem d_X_order_19 : decode b_X_order 19 = .ok (.iload_n 2, 1) := by decide +kernel
theorem d_X_order_20 : decode b_X_order 20 = .ok (.invokestatic 37, 3) := by decide +kernel
theorem d_X_order_23 : decode b_X_order 23 = .ok (.ifCond .eq 30, 3) := by decide +kernel
theorem d_X_order_26 : decode b_X_order 26 = .ok (.iload_n 3, 1) := by decide +kernel
theorem d_X_order_27 : decode b_X_order 27 = .ok (.i2l, 1) := by decide +kernel
theorem d_X_order_28 : decode b_X_order 28 = .ok (.ldc2_w 40, 3) := by decide +kernel
theorem d_X_order_31 : decode b_X_order 31 = .ok (.ldc2_w 42, 3) := by decide +kernel
theorem d_X_order_34 : decode b_X_order 34 = .ok (.invokestatic 44, 3) := by decide +kernel
theorem d_X_order_37 : decode b_X_order 37 = .ok (.ifCond .ne 16, 3) := by decide +kernel
theorem d_X_order_40 : decode b_X_order 40 = .ok (.iload 9, 2) := by decide +kernel
theorem d_X_order_42 : decode b_X_order 42 = .ok (.ifCond .eq 14, 3) := by decide +kernel
theorem d_X_order_45 : decode b_X_order 45 = .ok (.iload 4, 2) := by decide +kernel
theorem d_X_order_47 : decode b_X_order 47 = .ok (.invokestatic 37, 3) := by decide +kernel
theorem d_X_order_50 : decode b_X_order 50 = .ok (.ifCond .ne 6, 3) := by decide +kernel
theorem d_X_order_53 : decode b_X_order 53 = .ok (.bipush (-101), 2) := by decide +kernel
theorem d_X_order_55 : decode b_X_order 55 = .ok (.ireturn, 1) := by decide +kernel
theorem d_X_order_56 : decode b_X_order 56 = .ok (.iload_n 1, 1) := by decide +kernel
theorem d_X_order_57 : decode b_X_order 57 = .ok (.invokestatic 33, 3) := by decide +kernel
theorem d_X_order_60 : decode b_X_order 60 = .ok (.ifCond .eq 34, 3) := by decide +kernel
theorem d_X_order_63 : decode b_X_order 63 = .ok (.lload 5, 2) := by decide +kernel
theorem d_X_order_65 : decode b_X_order 65 = .ok (.lconst 0, 1) := by decide +kernel
theorem d_X_order_66 : decode b_X_order 66 = .ok (.lload 7, 2) := by decide +kernel
theorem d_X_order_68 : decode b_X_order 68 = .ok (.invokestatic 44, 3) := by decide +kernel
theorem d_X_order_71 : decode b_X_order 71 = .ok (.ifCond .ne 23, 3) := by decide +kernel
theorem d_X_order_74 : decode b_X_order 74 = .ok (.lload 7, 2) := by decide +kernel
theorem d_X_order_76 : decode b_X_order 76 = .ok (.ldc2_w 48, 3) := by decide +kernel
theorem d_X_order_79 : decode b_X_order 79 = .ok (.lcmp, 1) := by decide +kernel
theorem d_X_order_80 : decode b_X_order 80 = .ok (.ifCond .gt 14, 3) := by decide +kernel
theorem d_X_order_83 : decode b_X_order 83 = .ok (.iload 9, 2) := by decide +kernel
theorem d_X_order_85 : decode b_X_order 85 = .ok (.ifCond .eq 12, 3) := by decide +kernel
theorem d_X_order_88 : decode b_X_order 88 = .ok (.iload 4, 2) := by decide +kernel
theorem d_X_order_90 : decode b_X_order 90 = .ok (.iload_n 2, 1) := by decide +kernel
theorem d_X_order_91 : decode b_X_order 91 = .ok (.if_icmp .ne 6, 3) := by decide +kernel
theorem d_X_order_94 : decode b_X_order 94 = .ok (.bipush (-102), 2) := by decide +kernel
theorem d_X_order_96 : decode b_X_order 96 = .ok (.ireturn, 1) := by decide +kernel
theorem d_X_order_97 : decode b_X_order 97 = .ok (.aload_n 0, 1) := by decide +kernel
theorem d_X_order_98 : decode b_X_order 98 = .ok (.getfield 29, 3) := by decide +kernel
theorem d_X_order_101 : decode b_X_order 101 = .ok (.sipush 200, 3) := by decide +kernel
theorem d_X_order_104 : decode b_X_order 104 = .ok (.if_icmp .ne 6, 3) := by decide +kernel
theorem d_X_order_107 : decode b_X_order 107 = .ok (.bipush (-104), 2) := by decide +kernel
theorem d_X_order_109 : decode b_X_order 109 = .ok (.ireturn, 1) := by decide +kernel
theorem d_X_order_110 : decode b_X_order 110 = .ok (.aload_n 0, 1) := by decide +kernel
theorem d_X_order_111 : decode b_X_order 111 = .ok (.dup, 1) := by decide +kernel
theorem d_X_order_112 : decode b_X_order 112 = .ok (.getfield 29, 3) := by decide +kernel
theorem d_X_order_115 : decode b_X_order 115 = .ok (.iconst 1, 1) := by decide +kernel
theorem d_X_order_116 : decode b_X_order 116 = .ok (.iadd, 1) := by decide +kernel
theorem d_X_order_117 : decode b_X_order 117 = .ok (.putfield 29, 3) := by decide +kernel
theorem d_X_order_120 : decode b_X_order 120 = .ok (.iload_n 1, 1) := by decide +kernel
theorem d_X_order_121 : decode b_X_order 121 = .ok (.iconst 3, 1) := by decide +kernel
theorem d_X_order_122 : decode b_X_order 122 = .ok (.idiv, 1) := by decide +kernel
theorem d_X_order_123 : decode b_X_order 123 = .ok (.lookupswitch 87 #[(0, 25), (1, 57)], 25) := by decide +kernel
theorem d_X_order_148 : decode b_X_order 148 = .ok (.aload_n 0, 1) := by decide +kernel
theorem d_X_order_149 : decode b_X_order 149 = .ok (.getfield 11, 3) := by decide +kernel
theorem d_X_order_152 : decode b_X_order 152 = .ok (.aload_n 0, 1) := by decide +kernel
theorem d_X_order_153 : decode b_X_order 153 = .ok (.getfield 29, 3) := by decide +kernel
theorem d_X_order_156 : decode b_X_order 156 = .ok (.new 50, 3) := by decide +kernel
theorem d_X_order_159 : decode b_X_order 159 = .ok (.dup, 1) := by decide +kernel
theorem d_X_order_160 : decode b_X_order 160 = .ok (.iload_n 1, 1) := by decide +kernel
theorem d_X_order_161 : decode b_X_order 161 = .ok (.iload_n 2, 1) := by decide +kernel
theorem d_X_order_162 : decode b_X_order 162 = .ok (.iload_n 3, 1) := by decide +kernel
theorem d_X_order_163 : decode b_X_order 163 = .ok (.iload 4, 2) := by decide +kernel
theorem d_X_order_165 : decode b_X_order 165 = .ok (.lload 5, 2) := by decide +kernel
theorem d_X_order_167 : decode b_X_order 167 = .ok (.lload 7, 2) := by decide +kernel
theorem d_X_order_169 : decode b_X_order 169 = .ok (.aload_n 0, 1) := by decide +kernel
theorem d_X_order_170 : decode b_X_order 170 = .ok (.getfield 52, 3) := by decide +kernel
theorem d_X_order_173 : decode b_X_order 173 = .ok (.invokespecial 56, 3) := by decide +kernel
theorem d_X_order_176 : decode b_X_order 176 = .ok (.aastore, 1) := by decide +kernel
theorem d_X_order_177 : decode b_X_order 177 = .ok (.goto 60, 3) := by decide +kernel
theorem d_X_order_180 : decode b_X_order 180 = .ok (.aload_n 0, 1) := by decide +kernel
theorem d_X_order_181 : decode b_X_order 181 = .ok (.getfield 11, 3) := by decide +kernel
theorem d_X_order_184 : decode b_X_order 184 = .ok (.aload_n 0, 1) := by decide +kernel
theorem d_X_order_185 : decode b_X_order 185 = .ok (.getfield 29, 3) := by decide +kernel
theorem d_X_order_188 : decode b_X_order 188 = .ok (.new 59, 3) := by decide +kernel
theorem d_X_order_191 : decode b_X_order 191 = .ok (.dup, 1) := by decide +kernel
theorem d_X_order_192 : decode b_X_order 192 = .ok (.iload_n 1, 1) := by decide +kernel
theorem d_X_order_193 : decode b_X_order 193 = .ok (.iload_n 2, 1) := by decide +kernel
theorem d_X_order_194 : decode b_X_order 194 = .ok (.iload_n 3, 1) := by decide +kernel
theorem d_X_order_195 : decode b_X_order 195 = .ok (.lload 5, 2) := by decide +kernel
theorem d_X_order_197 : decode b_X_order 197 = .ok (.lload 7, 2) := by decide +kernel
theorem d_X_order_199 : decode b_X_order 199 = .ok (.aload_n 0, 1) := by decide +kernel
theorem d_X_order_200 : decode b_X_order 200 = .ok (.getfield 52, 3) := by decide +kernel
theorem d_X_order_203 : decode b_X_order 203 = .ok (.invokespecial 61, 3) := by decide +kernel
theorem d_X_order_206 : decode b_X_order 206 = .ok (.aastore, 1) := by decide +kernel
theorem d_X_order_207 : decode b_X_order 207 = .ok (.goto 30, 3) := by decide +kernel
theorem d_X_order_210 : decode b_X_order 210 = .ok (.aload_n 0, 1) := by decide +kernel
theorem d_X_order_211 : decode b_X_order 211 = .ok (.getfield 11, 3) := by decide +kernel
theorem d_X_order_214 : decode b_X_order 214 = .ok (.aload_n 0, 1) := by decide +kernel
theorem d_X_order_215 : decode b_X_order 215 = .ok (.getfield 29, 3) := by decide +kernel
theorem d_X_order_218 : decode b_X_order 218 = .ok (.new 64, 3) := by decide +kernel
theorem d_X_order_221 : decode b_X_order 221 = .ok (.dup, 1) := by decide +kernel
theorem d_X_order_222 : decode b_X_order 222 = .ok (.iload_n 1, 1) := by decide +kernel
theorem d_X_order_223 : decode b_X_order 223 = .ok (.iload_n 2, 1) := by decide +kernel
theorem d_X_order_224 : decode b_X_order 224 = .ok (.iload_n 3, 1) := by decide +kernel
theorem d_X_order_225 : decode b_X_order 225 = .ok (.lload 5, 2) := by decide +kernel
theorem d_X_order_227 : decode b_X_order 227 = .ok (.lload 7, 2) := by decide +kernel
theorem d_X_order_229 : decode b_X_order 229 = .ok (.aload_n 0, 1) := by decide +kernel
theorem d_X_order_230 : decode b_X_order 230 = .ok (.getfield 52, 3) := by decide +kernel
theorem d_X_order_233 : decode b_X_order 233 = .ok (.invokespecial 66, 3) := by decide +kernel
theorem d_X_order_236 : decode b_X_order 236 = .ok (.aastore, 1) := by decide +kernel
theorem d_X_order_237 : decode b_X_order 237 = .ok (.aload_n 0, 1) := by decide +kernel
theorem d_X_order_238 : decode b_X_order 238 = .ok (.getfield 29, 3) := by decide +kernel
theorem d_X_order_241 : decode b_X_order 241 = .ok (.ireturn, 1) := by decide +kernel
theorem d_X_isKind_0 : decode b_X_isKind 0 = .ok (.iload_n 0, 1) := by decide +kernel
theorem d_X_isKind_1 : decode b_X_isKind 1 = .ok (.ifCond .lt 13, 3) := by decide +kernel
theorem d_X_isKind_4 : decode b_X_isKind 4 = .ok (.iload_n 0, 1) := by decide +kernel
theorem d_X_isKind_5 : decode b_X_isKind 5 = .ok (.bipush 9, 2) := by decide +kernel
theorem d_X_isKind_7 : decode b_X_isKind 7 = .ok (.if_icmp .ge 7, 3) := by decide +kernel
theorem d_X_isKind_10 : decode b_X_isKind 10 = .ok (.iconst 1, 1) := by decide +kernel
theorem d_X_isKind_11 : decode b_X_isKind 11 = .ok (.goto 4, 3) := by decide +kernel
theorem d_X_isKind_14 : decode b_X_isKind 14 = .ok (.iconst 0, 1) := by decide +kernel
theorem d_X_isKind_15 : decode b_X_isKind 15 = .ok (.ireturn, 1) := by decide +kernel
theorem d_X_isAddress_0 : decode b_X_isAddress 0 = .ok (.iload_n 0, 1) := by decide +kernel
theorem d_X_isAddress_1 : decode b_X_isAddress 1 = .ok (.ifCond .le 13, 3) := by decide +kernel
theorem d_X_isAddress_4 : decode b_X_isAddress 4 = .ok (.iload_n 0, 1) := by decide +kernel
theorem d_X_isAddress_5 : decode b_X_isAddress 5 = .ok (.bipush 99, 2) := by decide +kernel
theorem d_X_isAddress_7 : decode b_X_isAddress 7 = .ok (.if_icmp .gt 7, 3) := by decide +kernel
theorem d_X_isAddress_10 : decode b_X_isAddress 10 = .ok (.iconst 1, 1) := by decide +kernel
theorem d_X_isAddress_11 : decode b_X_isAddress 11 = .ok (.goto 4, 3) := by decide +kernel
theorem d_X_isAddress_14 : decode b_X_isAddress 14 = .ok (.iconst 0, 1) := by decide +kernel
theorem d_X_isAddress_15 : decode b_X_isAddress 15 = .ok (.ireturn, 1) := by decide +kernel
theorem d_X_outside_0 : decode b_X_outside 0 = .ok (.lload_n 0, 1) := by decide +kernel
theorem d_X_outside_1 : decode b_X_outside 1 = .ok (.lload_n 2, 1) := by decide +kernel
theorem d_X_outside_2 : decode b_X_outside 2 = .ok (.lcmp, 1) := by decide +kernel
theorem d_X_outside_3 : decode b_X_outside 3 = .ok (.ifCond .lt 10, 3) := by decide +kernel
theorem d_X_outside_6 : decode b_X_outside 6 = .ok (.lload_n 0, 1) := by decide +kernel
theorem d_X_outside_7 : decode b_X_outside 7 = .ok (.lload 4, 2) := by decide +kernel
theorem d_X_outside_9 : decode b_X_outside 9 = .ok (.lcmp, 1) := by decide +kernel
theorem d_X_outside_10 : decode b_X_outside 10 = .ok (.ifCond .le 7, 3) := by decide +kernel
theorem d_X_outside_13 : decode b_X_outside 13 = .ok (.iconst 1, 1) := by decide +kernel
theorem d_X_outside_14 : decode b_X_outside 14 = .ok (.goto 4, 3) := by decide +kernel
theorem d_X_outside_17 : decode b_X_outside 17 = .ok (.iconst 0, 1) := by decide +kernel
theorem d_X_outside_18 : decode b_X_outside 18 = .ok (.ireturn, 1) := by decide +kernel
theorem d_F_init_0 : decode b_F_init 0 = .ok (.aload_n 0, 1) := by decide +kernel
theorem d_F_init_1 : decode b_F_init 1 = .ok (.iload_n 1, 1) := by decide +kernel
theorem d_F_init_2 : decode b_F_init 2 = .ok (.iload_n 2, 1) := by decide +kernel
theorem d_F_init_3 : decode b_F_init 3 = .ok (.iload_n 3, 1) := by decide +kernel
theorem d_F_init_4 : decode b_F_init 4 = .ok (.lload 5, 2) := by decide +kernel
theorem d_F_init_6 : decode b_F_init 6 = .ok (.lload 7, 2) := by decide +kernel
theorem d_F_init_8 : decode b_F_init 8 = .ok (.lload 9, 2) := by decide +kernel
theorem d_F_init_10 : decode b_F_init 10 = .ok (.invokespecial 1, 3) := by decide +kernel
theorem d_F_init_13 : decode b_F_init 13 = .ok (.aload_n 0, 1) := by decide +kernel
theorem d_F_init_14 : decode b_F_init 14 = .ok (.iload 4, 2) := by decide +kernel
theorem d_F_init_16 : decode b_F_init 16 = .ok (.putfield 7, 3) := by decide +kernel
theorem d_F_init_19 : decode b_F_init 19 = .ok (.return_, 1) := by decide +kernel
theorem d_O_init_0 : decode b_O_init 0 = .ok (.aload_n 0, 1) := by decide +kernel
theorem d_O_init_1 : decode b_O_init 1 = .ok (.invokespecial 3, 3) := by decide +kernel
theorem d_O_init_4 : decode b_O_init 4 = .ok (.aload_n 0, 1) := by decide +kernel
theorem d_O_init_5 : decode b_O_init 5 = .ok (.ldc2_w 9, 3) := by decide +kernel
theorem d_O_init_8 : decode b_O_init 8 = .ok (.putfield 11, 3) := by decide +kernel
theorem d_O_init_11 : decode b_O_init 11 = .ok (.aload_n 0, 1) := by decide +kernel
theorem d_O_init_12 : decode b_O_init 12 = .ok (.iload_n 1, 1) := by decide +kernel
theorem d_O_init_13 : decode b_O_init 13 = .ok (.putfield 17, 3) := by decide +kernel
theorem d_O_init_16 : decode b_O_init 16 = .ok (.aload_n 0, 1) := by decide +kernel
theorem d_O_init_17 : decode b_O_init 17 = .ok (.iload_n 2, 1) := by decide +kernel
theorem d_O_init_18 : decode b_O_init 18 = .ok (.putfield 21, 3) := by decide +kernel
theorem d_O_init_21 : decode b_O_init 21 = .ok (.aload_n 0, 1) := by decide +kernel
theorem d_O_init_22 : decode b_O_init 22 = .ok (.iload_n 3, 1) := by decide +kernel
theorem d_O_init_23 : decode b_O_init 23 = .ok (.putfield 24, 3) := by decide +kernel
theorem d_O_init_26 : decode b_O_init 26 = .ok (.aload_n 0, 1) := by decide +kernel
theorem d_O_init_27 : decode b_O_init 27 = .ok (.lload 4, 2) := by decide +kernel
theorem d_O_init_29 : decode b_O_init 29 = .ok (.putfield 27, 3) := by decide +kernel
theorem d_O_init_32 : decode b_O_init 32 = .ok (.aload_n 0, 1) := by decide +kernel
theorem d_O_init_33 : decode b_O_init 33 = .ok (.lload 6, 2) := by decide +kernel
theorem d_O_init_35 : decode b_O_init 35 = .ok (.putfield 30, 3) := by decide +kernel
theorem d_O_init_38 : decode b_O_init 38 = .ok (.aload_n 0, 1) := by decide +kernel
theorem d_O_init_39 : decode b_O_init 39 = .ok (.lload 8, 2) := by decide +kernel
theorem d_O_init_41 : decode b_O_init 41 = .ok (.putfield 33, 3) := by decide +kernel
theorem d_O_init_44 : decode b_O_init 44 = .ok (.return_, 1) := by decide +kernel
theorem d_H_init_0 : decode b_H_init 0 = .ok (.aload_n 0, 1) := by decide +kernel
theorem d_H_init_1 : decode b_H_init 1 = .ok (.iload_n 1, 1) := by decide +kernel
theorem d_H_init_2 : decode b_H_init 2 = .ok (.iload_n 2, 1) := by decide +kernel
theorem d_H_init_3 : decode b_H_init 3 = .ok (.iload_n 3, 1) := by decide +kernel
theorem d_H_init_4 : decode b_H_init 4 = .ok (.lload 4, 2) := by decide +kernel
theorem d_H_init_6 : decode b_H_init 6 = .ok (.lload 6, 2) := by decide +kernel
theorem d_H_init_8 : decode b_H_init 8 = .ok (.lload 8, 2) := by decide +kernel
theorem d_H_init_10 : decode b_H_init 10 = .ok (.invokespecial 3, 3) := by decide +kernel
theorem d_H_init_13 : decode b_H_init 13 = .ok (.return_, 1) := by decide +kernel
theorem d_R_init_0 : decode b_R_init 0 = .ok (.aload_n 0, 1) := by decide +kernel
theorem d_R_init_1 : decode b_R_init 1 = .ok (.iload_n 1, 1) := by decide +kernel
theorem d_R_init_2 : decode b_R_init 2 = .ok (.iload_n 2, 1) := by decide +kernel
theorem d_R_init_3 : decode b_R_init 3 = .ok (.iload_n 3, 1) := by decide +kernel
theorem d_R_init_4 : decode b_R_init 4 = .ok (.lload 4, 2) := by decide +kernel
theorem d_R_init_6 : decode b_R_init 6 = .ok (.lload 6, 2) := by decide +kernel
theorem d_R_init_8 : decode b_R_init 8 = .ok (.lload 8, 2) := by decide +kernel
theorem d_R_init_10 : decode b_R_init 10 = .ok (.invokespecial 3, 3) := by decide +kernel
theorem d_R_init_13 : decode b_R_init 13 = .ok (.return_, 1) := by decide +kernel
theorem d_X_proof_0 : decode b_X_proof 0 = .ok (.aload_n 0, 1) := by decide +kernel
theorem d_X_proof_1 : decode b_X_proof 1 = .ok (.iload_n 1, 1) := by decide +kernel
theorem d_X_proof_2 : decode b_X_proof 2 = .ok (.invokevirtual 79, 3) := by decide +kernel
theorem d_X_proof_5 : decode b_X_proof 5 = .ok (.ifCond .ne 6, 3) := by decide +kernel
theorem d_X_proof_8 : decode b_X_proof 8 = .ok (.bipush (-101), 2) := by decide +kernel
theorem d_X_proof_10 : decode b_X_proof 10 = .ok (.ireturn, 1) := by decide +kernel
theorem d_X_proof_11 : decode b_X_proof 11 = .ok (.aload_n 0, 1) := by decide +kernel
theorem d_X_proof_12 : decode b_X_proof 12 = .ok (.lload_n 3, 1) := by decide +kernel
theorem d_X_proof_13 : decode b_X_proof 13 = .ok (.invokevirtual 82, 3) := by decide +kernel
theorem d_X_proof_16 : decode b_X_proof 16 = .ok (.ifCond .eq 6, 3) := by decide +kernel
theorem d_X_proof_19 : decode b_X_proof 19 = .ok (.bipush (-102), 2) := by decide +kernel
theorem d_X_proof_21 : decode b_X_proof 21 = .ok (.ireturn, 1) := by decide +kernel
theorem d_X_proof_22 : decode b_X_proof 22 = .ok (.aload_n 0, 1) := by decide +kernel
theorem d_X_proof_23 : decode b_X_proof 23 = .ok (.lload_n 3, 1) := by decide +kernel
theorem d_X_proof_24 : decode b_X_proof 24 = .ok (.invokevirtual 85, 3) := by decide +kernel
theorem d_X_proof_27 : decode b_X_proof 27 = .ok (.pop, 1) := by decide +kernel
theorem d_X_proof_28 : decode b_X_proof 28 = .ok (.aload_n 0, 1) := by decide +kernel
theorem d_X_proof_29 : decode b_X_proof 29 = .ok (.getfield 11, 3) := by decide +kernel
theorem d_X_proof_32 : decode b_X_proof 32 = .ok (.iload_n 1, 1) := by decide +kernel
theorem d_X_proof_33 : decode b_X_proof 33 = .ok (.aaload, 1) := by decide +kernel
theorem d_X_proof_34 : decode b_X_proof 34 = .ok (.astore 5, 2) := by decide +kernel
theorem d_X_proof_36 : decode b_X_proof 36 = .ok (.aload 5, 2) := by decide +kernel
theorem d_X_proof_38 : decode b_X_proof 38 = .ok (.invokevirtual 89, 3) := by decide +kernel
theorem d_X_proof_41 : decode b_X_proof 41 = .ok (.ifCond .ne 11, 3) := by decide +kernel
theorem d_X_proof_44 : decode b_X_proof 44 = .ok (.aload 5, 2) := by decide +kernel
theorem d_X_proof_46 : decode b_X_proof 46 = .ok (.getfield 93, 3) := by decide +kernel
theorem d_X_proof_49 : decode b_X_proof 49 = .ok (.ifCond .eq 6, 3) := by decide +kernel
theorem d_X_proof_52 : decode b_X_proof 52 = .ok (.bipush (-103), 2) := by decide +kernel
theorem d_X_proof_54 : decode b_X_proof 54 = .ok (.ireturn, 1) := by decide +kernel
theorem d_X_proof_55 : decode b_X_proof 55 = .ok (.iload_n 2, 1) := by decide +kernel
theorem d_X_proof_56 : decode b_X_proof 56 = .ok (.ifCond .eq 12, 3) := by decide +kernel
theorem d_X_proof_59 : decode b_X_proof 59 = .ok (.aload 5, 2) := by decide +kernel
theorem d_X_proof_61 : decode b_X_proof 61 = .ok (.iconst 1, 1) := by decide +kernel
theorem d_X_proof_62 : decode b_X_proof 62 = .ok (.putfield 93, 3) := by decide +kernel
theorem d_X_proof_65 : decode b_X_proof 65 = .ok (.goto 9, 3) := by decide +kernel
theorem d_X_proof_68 : decode b_X_proof 68 = .ok (.aload 5, 2) := by decide +kernel
theorem d_X_proof_70 : decode b_X_proof 70 = .ok (.lload_n 3, 1) := by decide +kernel
theorem d_X_proof_71 : decode b_X_proof 71 = .ok (.putfield 76, 3) := by decide +kernel
theorem d_X_proof_74 : decode b_X_proof 74 = .ok (.iload_n 2, 1) := by decide +kernel
theorem d_X_proof_75 : decode b_X_proof 75 = .ok (.ifCond .eq 7, 3) := by decide +kernel
theorem d_X_proof_78 : decode b_X_proof 78 = .ok (.iconst 1, 1) := by decide +kernel
theorem d_X_proof_79 : decode b_X_proof 79 = .ok (.goto 4, 3) := by decide +kernel
theorem d_X_proof_82 : decode b_X_proof 82 = .ok (.iconst 0, 1) := by decide +kernel
theorem d_X_proof_83 : decode b_X_proof 83 = .ok (.ireturn, 1) := by decide +kernel
theorem d_X_isOrder_0 : decode b_X_isOrder 0 = .ok (.iload_n 1, 1) := by decide +kernel
theorem d_X_isOrder_1 : decode b_X_isOrder 1 = .ok (.ifCond .le 15, 3) := by decide +kernel
theorem d_X_isOrder_4 : decode b_X_isOrder 4 = .ok (.iload_n 1, 1) := by decide +kernel
theorem d_X_isOrder_5 : decode b_X_isOrder 5 = .ok (.aload_n 0, 1) := by decide +kernel
theorem d_X_isOrder_6 : decode b_X_isOrder 6 = .ok (.getfield 29, 3) := by decide +kernel
theorem d_X_isOrder_9 : decode b_X_isOrder 9 = .ok (.if_icmp .gt 7, 3) := by decide +kernel
theorem d_X_isOrder_12 : decode b_X_isOrder 12 = .ok (.iconst 1, 1) := by decide +kernel
theorem d_X_isOrder_13 : decode b_X_isOrder 13 = .ok (.goto 4, 3) := by decide +kernel
theorem d_X_isOrder_16 : decode b_X_isOrder 16 = .ok (.iconst 0, 1) := by decide +kernel
theorem d_X_isOrder_17 : decode b_X_isOrder 17 = .ok (.ireturn, 1) := by decide +kernel
theorem d_X_isNoDay_0 : decode b_X_isNoDay 0 = .ok (.lload_n 1, 1) := by decide +kernel
theorem d_X_isNoDay_1 : decode b_X_isNoDay 1 = .ok (.aload_n 0, 1) := by decide +kernel
theorem d_X_isNoDay_2 : decode b_X_isNoDay 2 = .ok (.getfield 52, 3) := by decide +kernel
theorem d_X_isNoDay_5 : decode b_X_isNoDay 5 = .ok (.ldc2_w 48, 3) := by decide +kernel
theorem d_X_isNoDay_8 : decode b_X_isNoDay 8 = .ok (.invokestatic 44, 3) := by decide +kernel
theorem d_X_isNoDay_11 : decode b_X_isNoDay 11 = .ok (.ireturn, 1) := by decide +kernel
theorem d_X_pass_0 : decode b_X_pass 0 = .ok (.aload_n 0, 1) := by decide +kernel
theorem d_X_pass_1 : decode b_X_pass 1 = .ok (.lload_n 1, 1) := by decide +kernel
theorem d_X_pass_2 : decode b_X_pass 2 = .ok (.putfield 52, 3) := by decide +kernel
theorem d_X_pass_5 : decode b_X_pass 5 = .ok (.iconst 0, 1) := by decide +kernel
theorem d_X_pass_6 : decode b_X_pass 6 = .ok (.istore_n 3, 1) := by decide +kernel
theorem d_X_pass_7 : decode b_X_pass 7 = .ok (.iconst 1, 1) := by decide +kernel
theorem d_X_pass_8 : decode b_X_pass 8 = .ok (.istore 4, 2) := by decide +kernel
theorem d_X_pass_10 : decode b_X_pass 10 = .ok (.iload 4, 2) := by decide +kernel
theorem d_X_pass_12 : decode b_X_pass 12 = .ok (.aload_n 0, 1) := by decide +kernel
theorem d_X_pass_13 : decode b_X_pass 13 = .ok (.getfield 29, 3) := by decide +kernel
theorem d_X_pass_16 : decode b_X_pass 16 = .ok (.if_icmp .gt 55, 3) := by decide +kernel
theorem d_X_pass_19 : decode b_X_pass 19 = .ok (.aload_n 0, 1) := by decide +kernel
theorem d_X_pass_20 : decode b_X_pass 20 = .ok (.getfield 11, 3) := by decide +kernel
theorem d_X_pass_23 : decode b_X_pass 23 = .ok (.iload 4, 2) := by decide +kernel
theorem d_X_pass_25 : decode b_X_pass 25 = .ok (.aaload, 1) := by decide +kernel
theorem d_X_pass_26 : decode b_X_pass 26 = .ok (.lload_n 1, 1) := by decide +kernel
theorem d_X_pass_27 : decode b_X_pass 27 = .ok (.invokevirtual 67, 3) := by decide +kernel
theorem d_X_pass_30 : decode b_X_pass 30 = .ok (.ifCond .ne 6, 3) := by decide +kernel
theorem d_X_pass_33 : decode b_X_pass 33 = .ok (.goto 32, 3) := by decide +kernel
theorem d_X_pass_36 : decode b_X_pass 36 = .ok (.aload_n 0, 1) := by decide +kernel
theorem d_X_pass_37 : decode b_X_pass 37 = .ok (.getfield 11, 3) := by decide +kernel
theorem d_X_pass_40 : decode b_X_pass 40 = .ok (.iload 4, 2) := by decide +kernel
theorem d_X_pass_42 : decode b_X_pass 42 = .ok (.aaload, 1) := by decide +kernel
theorem d_X_pass_43 : decode b_X_pass 43 = .ok (.aload_n 0, 1) := by decide +kernel
theorem d_X_pass_44 : decode b_X_pass 44 = .ok (.getfield 11, 3) := by decide +kernel
theorem d_X_pass_47 : decode b_X_pass 47 = .ok (.iload 4, 2) := by decide +kernel
theorem d_X_pass_49 : decode b_X_pass 49 = .ok (.aaload, 1) := by decide +kernel
theorem d_X_pass_50 : decode b_X_pass 50 = .ok (.getfield 71, 3) := by decide +kernel
theorem d_X_pass_53 : decode b_X_pass 53 = .ok (.ldc2_w 74, 3) := by decide +kernel
theorem d_X_pass_56 : decode b_X_pass 56 = .ok (.ladd, 1) := by decide +kernel
theorem d_X_pass_57 : decode b_X_pass 57 = .ok (.lconst 1, 1) := by decide +kernel
theorem d_X_pass_58 : decode b_X_pass 58 = .ok (.ladd, 1) := by decide +kernel
theorem d_X_pass_59 : decode b_X_pass 59 = .ok (.putfield 76, 3) := by decide +kernel
theorem d_X_pass_62 : decode b_X_pass 62 = .ok (.iinc 3 1, 3) := by decide +kernel
theorem d_X_pass_65 : decode b_X_pass 65 = .ok (.iinc 4 1, 3) := by decide +kernel
theorem d_X_pass_68 : decode b_X_pass 68 = .ok (.goto (-58), 3) := by decide +kernel
theorem d_X_pass_71 : decode b_X_pass 71 = .ok (.iload_n 3, 1) := by decide +kernel
theorem d_X_pass_72 : decode b_X_pass 72 = .ok (.ireturn, 1) := by decide +kernel
theorem d_O_lapses_0 : decode b_O_lapses 0 = .ok (.aload_n 0, 1) := by decide +kernel
theorem d_O_lapses_1 : decode b_O_lapses 1 = .ok (.getfield 40, 3) := by decide +kernel
theorem d_O_lapses_4 : decode b_O_lapses 4 = .ok (.ifCond .ne 27, 3) := by decide +kernel
theorem d_O_lapses_7 : decode b_O_lapses 7 = .ok (.aload_n 0, 1) := by decide +kernel
theorem d_O_lapses_8 : decode b_O_lapses 8 = .ok (.invokevirtual 44, 3) := by decide +kernel
theorem d_O_lapses_11 : decode b_O_lapses 11 = .ok (.ifCond .ne 20, 3) := by decide +kernel
theorem d_O_lapses_14 : decode b_O_lapses 14 = .ok (.lload_n 1, 1) := by decide +kernel
theorem d_O_lapses_15 : decode b_O_lapses 15 = .ok (.aload_n 0, 1) := by decide +kernel
theorem d_O_lapses_16 : decode b_O_lapses 16 = .ok (.getfield 33, 3) := by decide +kernel
theorem d_O_lapses_19 : decode b_O_lapses 19 = .ok (.ldc2_w 48, 3) := by decide +kernel
theorem d_O_lapses_22 : decode b_O_lapses 22 = .ok (.ladd, 1) := by decide +kernel
theorem d_O_lapses_23 : decode b_O_lapses 23 = .ok (.lcmp, 1) := by decide +kernel
theorem d_O_lapses_24 : decode b_O_lapses 24 = .ok (.ifCond .le 7, 3) := by decide +kernel
theorem d_O_lapses_27 : decode b_O_lapses 27 = .ok (.iconst 1, 1) := by decide +kernel
theorem d_O_lapses_28 : decode b_O_lapses 28 = .ok (.goto 4, 3) := by decide +kernel
theorem d_O_lapses_31 : decode b_O_lapses 31 = .ok (.iconst 0, 1) := by decide +kernel
theorem d_O_lapses_32 : decode b_O_lapses 32 = .ok (.ireturn, 1) := by decide +kernel
theorem d_O_isOver_0 : decode b_O_isOver 0 = .ok (.aload_n 0, 1) := by decide +kernel
theorem d_O_isOver_1 : decode b_O_isOver 1 = .ok (.getfield 11, 3) := by decide +kernel
theorem d_O_isOver_4 : decode b_O_isOver 4 = .ok (.ldc2_w 9, 3) := by decide +kernel
theorem d_O_isOver_7 : decode b_O_isOver 7 = .ok (.lcmp, 1) := by decide +kernel
theorem d_O_isOver_8 : decode b_O_isOver 8 = .ok (.ifCond .ge 7, 3) := by decide +kernel
theorem d_O_isOver_11 : decode b_O_isOver 11 = .ok (.iconst 1, 1) := by decide +kernel
theorem d_O_isOver_12 : decode b_O_isOver 12 = .ok (.goto 4, 3) := by decide +kernel
theorem d_O_isOver_15 : decode b_O_isOver 15 = .ok (.iconst 0, 1) := by decide +kernel
theorem d_O_isOver_16 : decode b_O_isOver 16 = .ok (.ireturn, 1) := by decide +kernel
theorem d_X_withdraw_0 : decode b_X_withdraw 0 = .ok (.aload_n 0, 1) := by decide +kernel
theorem d_X_withdraw_1 : decode b_X_withdraw 1 = .ok (.iload_n 1, 1) := by decide +kernel
theorem d_X_withdraw_2 : decode b_X_withdraw 2 = .ok (.invokevirtual 79, 3) := by decide +kernel
theorem d_X_withdraw_5 : decode b_X_withdraw 5 = .ok (.ifCond .ne 6, 3) := by decide +kernel
theorem d_X_withdraw_8 : decode b_X_withdraw 8 = .ok (.bipush (-101), 2) := by decide +kernel
theorem d_X_withdraw_10 : decode b_X_withdraw 10 = .ok (.ireturn, 1) := by decide +kernel
theorem d_X_withdraw_11 : decode b_X_withdraw 11 = .ok (.aload_n 0, 1) := by decide +kernel
theorem d_X_withdraw_12 : decode b_X_withdraw 12 = .ok (.lload_n 2, 1) := by decide +kernel
theorem d_X_withdraw_13 : decode b_X_withdraw 13 = .ok (.invokevirtual 82, 3) := by decide +kernel
theorem d_X_withdraw_16 : decode b_X_withdraw 16 = .ok (.ifCond .eq 6, 3) := by decide +kernel
theorem d_X_withdraw_19 : decode b_X_withdraw 19 = .ok (.bipush (-102), 2) := by decide +kernel
theorem d_X_withdraw_21 : decode b_X_withdraw 21 = .ok (.ireturn, 1) := by decide +kernel
theorem d_X_withdraw_22 : decode b_X_withdraw 22 = .ok (.aload_n 0, 1) := by decide +kernel
theorem d_X_withdraw_23 : decode b_X_withdraw 23 = .ok (.lload_n 2, 1) := by decide +kernel
theorem d_X_withdraw_24 : decode b_X_withdraw 24 = .ok (.invokevirtual 85, 3) := by decide +kernel
theorem d_X_withdraw_27 : decode b_X_withdraw 27 = .ok (.pop, 1) := by decide +kernel
theorem d_X_withdraw_28 : decode b_X_withdraw 28 = .ok (.aload_n 0, 1) := by decide +kernel
theorem d_X_withdraw_29 : decode b_X_withdraw 29 = .ok (.getfield 11, 3) := by decide +kernel
theorem d_X_withdraw_32 : decode b_X_withdraw 32 = .ok (.iload_n 1, 1) := by decide +kernel
theorem d_X_withdraw_33 : decode b_X_withdraw 33 = .ok (.aaload, 1) := by decide +kernel
theorem d_X_withdraw_34 : decode b_X_withdraw 34 = .ok (.invokevirtual 89, 3) := by decide +kernel
theorem d_X_withdraw_37 : decode b_X_withdraw 37 = .ok (.ifCond .eq 8, 3) := by decide +kernel
theorem d_X_withdraw_40 : decode b_X_withdraw 40 = .ok (.bipush (-103), 2) := by decide +kernel
theorem d_X_withdraw_42 : decode b_X_withdraw 42 = .ok (.goto 13, 3) := by decide +kernel
theorem d_X_withdraw_45 : decode b_X_withdraw 45 = .ok (.aload_n 0, 1) := by decide +kernel
theorem d_X_withdraw_46 : decode b_X_withdraw 46 = .ok (.getfield 11, 3) := by decide +kernel
theorem d_X_withdraw_49 : decode b_X_withdraw 49 = .ok (.iload_n 1, 1) := by decide +kernel
theorem d_X_withdraw_50 : decode b_X_withdraw 50 = .ok (.aaload, 1) := by decide +kernel
theorem d_X_withdraw_51 : decode b_X_withdraw 51 = .ok (.lload_n 2, 1) := by decide +kernel
theorem d_X_withdraw_52 : decode b_X_withdraw 52 = .ok (.invokevirtual 97, 3) := by decide +kernel
theorem d_X_withdraw_55 : decode b_X_withdraw 55 = .ok (.ireturn, 1) := by decide +kernel
theorem d_O_cut_0 : decode b_O_cut 0 = .ok (.aload_n 0, 1) := by decide +kernel
theorem d_O_cut_1 : decode b_O_cut 1 = .ok (.lload_n 1, 1) := by decide +kernel
theorem d_O_cut_2 : decode b_O_cut 2 = .ok (.putfield 11, 3) := by decide +kernel
theorem d_O_cut_5 : decode b_O_cut 5 = .ok (.lconst 0, 1) := by decide +kernel
theorem d_O_cut_6 : decode b_O_cut 6 = .ok (.aload_n 0, 1) := by decide +kernel
theorem d_O_cut_7 : decode b_O_cut 7 = .ok (.getfield 30, 3) := by decide +kernel
theorem d_O_cut_10 : decode b_O_cut 10 = .ok (.lconst 1, 1) := by decide +kernel
theorem d_O_cut_11 : decode b_O_cut 11 = .ok (.ladd, 1) := by decide +kernel
theorem d_O_cut_12 : decode b_O_cut 12 = .ok (.aload_n 0, 1) := by decide +kernel
theorem d_O_cut_13 : decode b_O_cut 13 = .ok (.getfield 27, 3) := by decide +kernel
theorem d_O_cut_16 : decode b_O_cut 16 = .ok (.lload_n 1, 1) := by decide +kernel
theorem d_O_cut_17 : decode b_O_cut 17 = .ok (.invokestatic 50, 3) := by decide +kernel
theorem d_O_cut_20 : decode b_O_cut 20 = .ok (.lsub, 1) := by decide +kernel
theorem d_O_cut_21 : decode b_O_cut 21 = .ok (.invokestatic 50, 3) := by decide +kernel
theorem d_O_cut_24 : decode b_O_cut 24 = .ok (.l2i, 1) := by decide +kernel
theorem d_O_cut_25 : decode b_O_cut 25 = .ok (.ireturn, 1) := by decide +kernel
theorem d_X_tick_0 : decode b_X_tick 0 = .ok (.aload_n 0, 1) := by decide +kernel
theorem d_X_tick_1 : decode b_X_tick 1 = .ok (.lload_n 1, 1) := by decide +kernel
theorem d_X_tick_2 : decode b_X_tick 2 = .ok (.invokevirtual 82, 3) := by decide +kernel
theorem d_X_tick_5 : decode b_X_tick 5 = .ok (.ifCond .eq 8, 3) := by decide +kernel
theorem d_X_tick_8 : decode b_X_tick 8 = .ok (.bipush (-102), 2) := by decide +kernel
theorem d_X_tick_10 : decode b_X_tick 10 = .ok (.goto 8, 3) := by decide +kernel
theorem d_X_tick_13 : decode b_X_tick 13 = .ok (.aload_n 0, 1) := by decide +kernel
theorem d_X_tick_14 : decode b_X_tick 14 = .ok (.lload_n 1, 1) := by decide +kernel
theorem d_X_tick_15 : decode b_X_tick 15 = .ok (.invokevirtual 85, 3) := by decide +kernel
theorem d_X_tick_18 : decode b_X_tick 18 = .ok (.ireturn, 1) := by decide +kernel
theorem d_X_effective_0 : decode b_X_effective 0 = .ok (.iload_n 1, 1) := by decide +kernel
theorem d_X_effective_1 : decode b_X_effective 1 = .ok (.invokestatic 37, 3) := by decide +kernel
theorem d_X_effective_4 : decode b_X_effective 4 = .ok (.ifCond .eq 15, 3) := by decide +kernel
theorem d_X_effective_7 : decode b_X_effective 7 = .ok (.iload_n 2, 1) := by decide +kernel
theorem d_X_effective_8 : decode b_X_effective 8 = .ok (.i2l, 1) := by decide +kernel
theorem d_X_effective_9 : decode b_X_effective 9 = .ok (.lconst 0, 1) := by decide +kernel
theorem d_X_effective_10 : decode b_X_effective 10 = .ok (.ldc2_w 42, 3) := by decide +kernel
theorem d_X_effective_13 : decode b_X_effective 13 = .ok (.invokestatic 44, 3) := by decide +kernel
theorem d_X_effective_16 : decode b_X_effective 16 = .ok (.ifCond .eq 6, 3) := by decide +kernel
theorem d_X_effective_19 : decode b_X_effective 19 = .ok (.bipush (-101), 2) := by decide +kernel
theorem d_X_effective_21 : decode b_X_effective 21 = .ok (.ireturn, 1) := by decide +kernel
theorem d_X_effective_22 : decode b_X_effective 22 = .ok (.iload_n 3, 1) := by decide +kernel
theorem d_X_effective_23 : decode b_X_effective 23 = .ok (.i2l, 1) := by decide +kernel
theorem d_X_effective_24 : decode b_X_effective 24 = .ok (.lconst 0, 1) := by decide +kernel
theorem d_X_effective_25 : decode b_X_effective 25 = .ok (.ldc2_w 116, 3) := by decide +kernel
theorem d_X_effective_28 : decode b_X_effective 28 = .ok (.invokestatic 44, 3) := by decide +kernel
theorem d_X_effective_31 : decode b_X_effective 31 = .ok (.ifCond .ne 15, 3) := by decide +kernel
theorem d_X_effective_34 : decode b_X_effective 34 = .ok (.lload 4, 2) := by decide +kernel
theorem d_X_effective_36 : decode b_X_effective 36 = .ok (.lconst 0, 1) := by decide +kernel
theorem d_X_effective_37 : decode b_X_effective 37 = .ok (.ldc2_w 48, 3) := by decide +kernel
theorem d_X_effective_40 : decode b_X_effective 40 = .ok (.invokestatic 44, 3) := by decide +kernel
theorem d_X_effective_43 : decode b_X_effective 43 = .ok (.ifCond .eq 6, 3) := by decide +kernel
theorem d_X_effective_46 : decode b_X_effective 46 = .ok (.bipush (-102), 2) := by decide +kernel
theorem d_X_effective_48 : decode b_X_effective 48 = .ok (.ireturn, 1) := by decide +kernel
theorem d_X_effective_49 : decode b_X_effective 49 = .ok (.iconst 0, 1) := by decide +kernel
theorem d_X_effective_50 : decode b_X_effective 50 = .ok (.istore 6, 2) := by decide +kernel
theorem d_X_effective_52 : decode b_X_effective 52 = .ok (.iload 6, 2) := by decide +kernel
theorem d_X_effective_54 : decode b_X_effective 54 = .ok (.bipush 99, 2) := by decide +kernel
theorem d_X_effective_56 : decode b_X_effective 56 = .ok (.if_icmp .gt 17, 3) := by decide +kernel
theorem d_X_effective_59 : decode b_X_effective 59 = .ok (.aload_n 0, 1) := by decide +kernel
theorem d_X_effective_60 : decode b_X_effective 60 = .ok (.getfield 22, 3) := by decide +kernel
theorem d_X_effective_63 : decode b_X_effective 63 = .ok (.iload 6, 2) := by decide +kernel
theorem d_X_effective_65 : decode b_X_effective 65 = .ok (.iconst 0, 1) := by decide +kernel
theorem d_X_effective_66 : decode b_X_effective 66 = .ok (.bastore, 1) := by decide +kernel
theorem d_X_effective_67 : decode b_X_effective 67 = .ok (.iinc 6 1, 3) := by decide +kernel
theorem d_X_effective_70 : decode b_X_effective 70 = .ok (.goto (-18), 3) := by decide +kernel
theorem d_X_effective_73 : decode b_X_effective 73 = .ok (.iload_n 1, 1) := by decide +kernel
theorem d_X_effective_74 : decode b_X_effective 74 = .ok (.istore 6, 2) := by decide +kernel
theorem d_X_effective_76 : decode b_X_effective 76 = .ok (.iconst 0, 1) := by decide +kernel
theorem d_X_effective_77 : decode b_X_effective 77 = .ok (.istore 7, 2) := by decide +kernel
theorem d_X_effective_79 : decode b_X_effective 79 = .ok (.aload_n 0, 1) := by decide +kernel
theorem d_X_effective_80 : decode b_X_effective 80 = .ok (.getfield 22, 3) := by decide +kernel
theorem d_X_effective_83 : decode b_X_effective 83 = .ok (.iload 6, 2) := by decide +kernel
theorem d_X_effective_85 : decode b_X_effective 85 = .ok (.baload, 1) := by decide +kernel
theorem d_X_effective_86 : decode b_X_effective 86 = .ok (.ifCond .ne 67, 3) := by decide +kernel
theorem d_X_effective_89 : decode b_X_effective 89 = .ok (.aload_n 0, 1) := by decide +kernel
theorem d_X_effective_90 : decode b_X_effective 90 = .ok (.iload 6, 2) := by decide +kernel
theorem d_X_effective_92 : decode b_X_effective 92 = .ok (.iload_n 2, 1) := by decide +kernel
theorem d_X_effective_93 : decode b_X_effective 93 = .ok (.iload_n 3, 1) := by decide +kernel
theorem d_X_effective_94 : decode b_X_effective 94 = .ok (.lload 4, 2) := by decide +kernel
theorem d_X_effective_96 : decode b_X_effective 96 = .ok (.invokevirtual 118, 3) := by decide +kernel
theorem d_X_effective_99 : decode b_X_effective 99 = .ok (.astore 8, 2) := by decide +kernel
theorem d_X_effective_101 : decode b_X_effective 101 = .ok (.aload 8, 2) := by decide +kernel
theorem d_X_effective_103 : decode b_X_effective 103 = .ok (.ifnonnull 6, 3) := by decide +kernel
theorem d_X_effective_106 : decode b_X_effective 106 = .ok (.iload 6, 2) := by decide +kernel
theorem d_X_effective_108 : decode b_X_effective 108 = .ok (.ireturn, 1) := by decide +kernel
theorem d_X_effective_109 : decode b_X_effective 109 = .ok (.aload 8, 2) := by decide +kernel
theorem d_X_effective_111 : decode b_X_effective 111 = .ok (.invokevirtual 122, 3) := by decide +kernel
theorem d_X_effective_114 : decode b_X_effective 114 = .ok (.ifCond .ne 9, 3) := by decide +kernel
theorem d_X_effective_117 : decode b_X_effective 117 = .ok (.aload 8, 2) := by decide +kernel
theorem d_X_effective_119 : decode b_X_effective 119 = .ok (.invokevirtual 125, 3) := by decide +kernel
theorem d_X_effective_122 : decode b_X_effective 122 = .ok (.ireturn, 1) := by decide +kernel
theorem d_X_effective_123 : decode b_X_effective 123 = .ok (.aload_n 0, 1) := by decide +kernel
theorem d_X_effective_124 : decode b_X_effective 124 = .ok (.getfield 22, 3) := by decide +kernel
theorem d_X_effective_127 : decode b_X_effective 127 = .ok (.iload 6, 2) := by decide +kernel
theorem d_X_effective_129 : decode b_X_effective 129 = .ok (.iconst 1, 1) := by decide +kernel
theorem d_X_effective_130 : decode b_X_effective 130 = .ok (.bastore, 1) := by decide +kernel
theorem d_X_effective_131 : decode b_X_effective 131 = .ok (.aload_n 0, 1) := by decide +kernel
theorem d_X_effective_132 : decode b_X_effective 132 = .ok (.getfield 19, 3) := by decide +kernel
theorem d_X_effective_135 : decode b_X_effective 135 = .ok (.iload 7, 2) := by decide +kernel
theorem d_X_effective_137 : decode b_X_effective 137 = .ok (.iload 6, 2) := by decide +kernel
theorem d_X_effective_139 : decode b_X_effective 139 = .ok (.iastore, 1) := by decide +kernel
theorem d_X_effective_140 : decode b_X_effective 140 = .ok (.iinc 7 1, 3) := by decide +kernel
theorem d_X_effective_143 : decode b_X_effective 143 = .ok (.aload 8, 2) := by decide +kernel
theorem d_X_effective_145 : decode b_X_effective 145 = .ok (.invokevirtual 125, 3) := by decide +kernel
theorem d_X_effective_148 : decode b_X_effective 148 = .ok (.istore 6, 2) := by decide +kernel
theorem d_X_effective_150 : decode b_X_effective 150 = .ok (.goto (-71), 3) := by decide +kernel
theorem d_X_effective_153 : decode b_X_effective 153 = .ok (.aload_n 0, 1) := by decide +kernel
theorem d_X_effective_154 : decode b_X_effective 154 = .ok (.iload 6, 2) := by decide +kernel
theorem d_X_effective_156 : decode b_X_effective 156 = .ok (.iload 7, 2) := by decide +kernel
theorem d_X_effective_158 : decode b_X_effective 158 = .ok (.invokevirtual 129, 3) := by decide +kernel
theorem d_X_effective_161 : decode b_X_effective 161 = .ok (.ireturn, 1) := by decide +kernel
theorem d_X_find_0 : decode b_X_find 0 = .ok (.aconst_null, 1) := by decide +kernel
theorem d_X_find_1 : decode b_X_find 1 = .ok (.astore 6, 2) := by decide +kernel
theorem d_X_find_3 : decode b_X_find 3 = .ok (.iconst 1, 1) := by decide +kernel
theorem d_X_find_4 : decode b_X_find 4 = .ok (.istore 7, 2) := by decide +kernel
theorem d_X_find_6 : decode b_X_find 6 = .ok (.iload 7, 2) := by decide +kernel
theorem d_X_find_8 : decode b_X_find 8 = .ok (.aload_n 0, 1) := by decide +kernel
theorem d_X_find_9 : decode b_X_find 9 = .ok (.getfield 29, 3) := by decide +kernel
theorem d_X_find_12 : decode b_X_find 12 = .ok (.if_icmp .gt 63, 3) := by decide +kernel
theorem d_X_find_15 : decode b_X_find 15 = .ok (.aload_n 0, 1) := by decide +kernel
theorem d_X_find_16 : decode b_X_find 16 = .ok (.getfield 11, 3) := by decide +kernel
theorem d_X_find_19 : decode b_X_find 19 = .ok (.iload 7, 2) := by decide +kernel
theorem d_X_find_21 : decode b_X_find 21 = .ok (.aaload, 1) := by decide +kernel
theorem d_X_find_22 : decode b_X_find 22 = .ok (.astore 8, 2) := by decide +kernel
theorem d_X_find_24 : decode b_X_find 24 = .ok (.aload 8, 2) := by decide +kernel
theorem d_X_find_26 : decode b_X_find 26 = .ok (.iload_n 1, 1) := by decide +kernel
theorem d_X_find_27 : decode b_X_find 27 = .ok (.iload_n 2, 1) := by decide +kernel
theorem d_X_find_28 : decode b_X_find 28 = .ok (.iload_n 3, 1) := by decide +kernel
theorem d_X_find_29 : decode b_X_find 29 = .ok (.lload 4, 2) := by decide +kernel
theorem d_X_find_31 : decode b_X_find 31 = .ok (.invokevirtual 100, 3) := by decide +kernel
theorem d_X_find_34 : decode b_X_find 34 = .ok (.ifCond .eq 35, 3) := by decide +kernel
theorem d_X_find_37 : decode b_X_find 37 = .ok (.aload 6, 2) := by decide +kernel
theorem d_X_find_39 : decode b_X_find 39 = .ok (.ifnull 26, 3) := by decide +kernel
theorem d_X_find_42 : decode b_X_find 42 = .ok (.aload_n 0, 1) := by decide +kernel
theorem d_X_find_43 : decode b_X_find 43 = .ok (.getfield 15, 3) := by decide +kernel
theorem d_X_find_46 : decode b_X_find 46 = .ok (.aload 8, 2) := by decide +kernel
theorem d_X_find_48 : decode b_X_find 48 = .ok (.getfield 104, 3) := by decide +kernel
theorem d_X_find_51 : decode b_X_find 51 = .ok (.iaload, 1) := by decide +kernel
theorem d_X_find_52 : decode b_X_find 52 = .ok (.aload_n 0, 1) := by decide +kernel
theorem d_X_find_53 : decode b_X_find 53 = .ok (.getfield 15, 3) := by decide +kernel
theorem d_X_find_56 : decode b_X_find 56 = .ok (.aload 6, 2) := by decide +kernel
theorem d_X_find_58 : decode b_X_find 58 = .ok (.getfield 104, 3) := by decide +kernel
theorem d_X_find_61 : decode b_X_find 61 = .ok (.iaload, 1) := by decide +kernel
theorem d_X_find_62 : decode b_X_find 62 = .ok (.if_icmp .lt 7, 3) := by decide +kernel
theorem d_X_find_65 : decode b_X_find 65 = .ok (.aload 8, 2) := by decide +kernel
theorem d_X_find_67 : decode b_X_find 67 = .ok (.astore 6, 2) := by decide +kernel
theorem d_X_find_69 : decode b_X_find 69 = .ok (.iinc 7 1, 3) := by decide +kernel
theorem d_X_find_72 : decode b_X_find 72 = .ok (.goto (-66), 3) := by decide +kernel
theorem d_X_find_75 : decode b_X_find 75 = .ok (.aload 6, 2) := by decide +kernel
theorem d_X_find_77 : decode b_X_find 77 = .ok (.areturn, 1) := by decide +kernel
theorem d_O_isFor_0 : decode b_O_isFor 0 = .ok (.aload_n 0, 1) := by decide +kernel
theorem d_O_isFor_1 : decode b_O_isFor 1 = .ok (.getfield 21, 3) := by decide +kernel
theorem d_O_isFor_4 : decode b_O_isFor 4 = .ok (.iload_n 1, 1) := by decide +kernel
theorem d_O_isFor_5 : decode b_O_isFor 5 = .ok (.if_icmp .ne 42, 3) := by decide +kernel
theorem d_O_isFor_8 : decode b_O_isFor 8 = .ok (.aload_n 0, 1) := by decide +kernel
theorem d_O_isFor_9 : decode b_O_isFor 9 = .ok (.getfield 24, 3) := by decide +kernel
theorem d_O_isFor_12 : decode b_O_isFor 12 = .ok (.iconst (-1), 1) := by decide +kernel
theorem d_O_isFor_13 : decode b_O_isFor 13 = .ok (.if_icmp .eq 11, 3) := by decide +kernel
theorem d_O_isFor_16 : decode b_O_isFor 16 = .ok (.aload_n 0, 1) := by decide +kernel
theorem d_O_isFor_17 : decode b_O_isFor 17 = .ok (.getfield 24, 3) := by decide +kernel
theorem d_O_isFor_20 : decode b_O_isFor 20 = .ok (.iload_n 2, 1) := by decide +kernel
theorem d_O_isFor_21 : decode b_O_isFor 21 = .ok (.if_icmp .ne 26, 3) := by decide +kernel
theorem d_O_isFor_24 : decode b_O_isFor 24 = .ok (.aload_n 0, 1) := by decide +kernel
theorem d_O_isFor_25 : decode b_O_isFor 25 = .ok (.getfield 17, 3) := by decide +kernel
theorem d_O_isFor_28 : decode b_O_isFor 28 = .ok (.iconst 3, 1) := by decide +kernel
theorem d_O_isFor_29 : decode b_O_isFor 29 = .ok (.irem, 1) := by decide +kernel
theorem d_O_isFor_30 : decode b_O_isFor 30 = .ok (.iload_n 3, 1) := by decide +kernel
theorem d_O_isFor_31 : decode b_O_isFor 31 = .ok (.if_icmp .ne 16, 3) := by decide +kernel
theorem d_O_isFor_34 : decode b_O_isFor 34 = .ok (.aload_n 0, 1) := by decide +kernel
theorem d_O_isFor_35 : decode b_O_isFor 35 = .ok (.lload 4, 2) := by decide +kernel
theorem d_O_isFor_37 : decode b_O_isFor 37 = .ok (.invokevirtual 36, 3) := by decide +kernel
theorem d_O_isFor_40 : decode b_O_isFor 40 = .ok (.ifCond .eq 7, 3) := by decide +kernel
theorem d_O_isFor_43 : decode b_O_isFor 43 = .ok (.iconst 1, 1) := by decide +kernel
theorem d_O_isFor_44 : decode b_O_isFor 44 = .ok (.goto 4, 3) := by decide +kernel
theorem d_O_isFor_47 : decode b_O_isFor 47 = .ok (.iconst 0, 1) := by decide +kernel
theorem d_O_isFor_48 : decode b_O_isFor 48 = .ok (.ireturn, 1) := by decide +kernel
theorem d_O_isIn_0 : decode b_O_isIn 0 = .ok (.lload_n 1, 1) := by decide +kernel
theorem d_O_isIn_1 : decode b_O_isIn 1 = .ok (.aload_n 0, 1) := by decide +kernel
theorem d_O_isIn_2 : decode b_O_isIn 2 = .ok (.getfield 27, 3) := by decide +kernel
theorem d_O_isIn_5 : decode b_O_isIn 5 = .ok (.lcmp, 1) := by decide +kernel
theorem d_O_isIn_6 : decode b_O_isIn 6 = .ok (.ifCond .lt 25, 3) := by decide +kernel
theorem d_O_isIn_9 : decode b_O_isIn 9 = .ok (.lload_n 1, 1) := by decide +kernel
theorem d_O_isIn_10 : decode b_O_isIn 10 = .ok (.aload_n 0, 1) := by decide +kernel
theorem d_O_isIn_11 : decode b_O_isIn 11 = .ok (.getfield 30, 3) := by decide +kernel
theorem d_O_isIn_14 : decode b_O_isIn 14 = .ok (.lcmp, 1) := by decide +kernel
theorem d_O_isIn_15 : decode b_O_isIn 15 = .ok (.ifCond .gt 16, 3) := by decide +kernel
theorem d_O_isIn_18 : decode b_O_isIn 18 = .ok (.lload_n 1, 1) := by decide +kernel
theorem d_O_isIn_19 : decode b_O_isIn 19 = .ok (.aload_n 0, 1) := by decide +kernel
theorem d_O_isIn_20 : decode b_O_isIn 20 = .ok (.getfield 11, 3) := by decide +kernel
theorem d_O_isIn_23 : decode b_O_isIn 23 = .ok (.lcmp, 1) := by decide +kernel
theorem d_O_isIn_24 : decode b_O_isIn 24 = .ok (.ifCond .ge 7, 3) := by decide +kernel
theorem d_O_isIn_27 : decode b_O_isIn 27 = .ok (.iconst 1, 1) := by decide +kernel
theorem d_O_isIn_28 : decode b_O_isIn 28 = .ok (.goto 4, 3) := by decide +kernel
theorem d_O_isIn_31 : decode b_O_isIn 31 = .ok (.iconst 0, 1) := by decide +kernel
theorem d_O_isIn_32 : decode b_O_isIn 32 = .ok (.ireturn, 1) := by decide +kernel
theorem d_O_sendsOn_0 : decode b_O_sendsOn 0 = .ok (.aload_n 0, 1) := by decide +kernel
theorem d_O_sendsOn_1 : decode b_O_sendsOn 1 = .ok (.invokevirtual 56, 3) := by decide +kernel
theorem d_O_sendsOn_4 : decode b_O_sendsOn 4 = .ok (.ifCond .le 7, 3) := by decide +kernel
theorem d_O_sendsOn_7 : decode b_O_sendsOn 7 = .ok (.iconst 1, 1) := by decide +kernel
theorem d_O_sendsOn_8 : decode b_O_sendsOn 8 = .ok (.goto 4, 3) := by decide +kernel
theorem d_O_sendsOn_11 : decode b_O_sendsOn 11 = .ok (.iconst 0, 1) := by decide +kernel
theorem d_O_sendsOn_12 : decode b_O_sendsOn 12 = .ok (.ireturn, 1) := by decide +kernel
theorem d_F_goesTo_0 : decode b_F_goesTo 0 = .ok (.aload_n 0, 1) := by decide +kernel
theorem d_F_goesTo_1 : decode b_F_goesTo 1 = .ok (.getfield 7, 3) := by decide +kernel
theorem d_F_goesTo_4 : decode b_F_goesTo 4 = .ok (.ireturn, 1) := by decide +kernel
theorem d_H_goesTo_0 : decode b_H_goesTo 0 = .ok (.iconst 0, 1) := by decide +kernel
theorem d_H_goesTo_1 : decode b_H_goesTo 1 = .ok (.ireturn, 1) := by decide +kernel
theorem d_R_goesTo_0 : decode b_R_goesTo 0 = .ok (.bipush (-2), 2) := by decide +kernel
theorem d_R_goesTo_2 : decode b_R_goesTo 2 = .ok (.ireturn, 1) := by decide +kernel
theorem d_X_tellRing_0 : decode b_X_tellRing 0 = .ok (.iconst 0, 1) := by decide +kernel
theorem d_X_tellRing_1 : decode b_X_tellRing 1 = .ok (.istore_n 3, 1) := by decide +kernel
theorem d_X_tellRing_2 : decode b_X_tellRing 2 = .ok (.aload_n 0, 1) := by decide +kernel
theorem d_X_tellRing_3 : decode b_X_tellRing 3 = .ok (.getfield 19, 3) := by decide +kernel
theorem d_X_tellRing_6 : decode b_X_tellRing 6 = .ok (.iload_n 3, 1) := by decide +kernel
theorem d_X_tellRing_7 : decode b_X_tellRing 7 = .ok (.iaload, 1) := by decide +kernel
theorem d_X_tellRing_8 : decode b_X_tellRing 8 = .ok (.iload_n 1, 1) := by decide +kernel
theorem d_X_tellRing_9 : decode b_X_tellRing 9 = .ok (.if_icmp .eq 9, 3) := by decide +kernel
theorem d_X_tellRing_12 : decode b_X_tellRing 12 = .ok (.iinc 3 1, 3) := by decide +kernel
theorem d_X_tellRing_15 : decode b_X_tellRing 15 = .ok (.goto (-13), 3) := by decide +kernel
theorem d_X_tellRing_18 : decode b_X_tellRing 18 = .ok (.aload_n 0, 1) := by decide +kernel
theorem d_X_tellRing_19 : decode b_X_tellRing 19 = .ok (.iload_n 2, 1) := by decide +kernel
theorem d_X_tellRing_20 : decode b_X_tellRing 20 = .ok (.iload_n 3, 1) := by decide +kernel
theorem d_X_tellRing_21 : decode b_X_tellRing 21 = .ok (.isub, 1) := by decide +kernel
theorem d_X_tellRing_22 : decode b_X_tellRing 22 = .ok (.putfield 107, 3) := by decide +kernel
theorem d_X_tellRing_25 : decode b_X_tellRing 25 = .ok (.aload_n 0, 1) := by decide +kernel
theorem d_X_tellRing_26 : decode b_X_tellRing 26 = .ok (.getfield 19, 3) := by decide +kernel
theorem d_X_tellRing_29 : decode b_X_tellRing 29 = .ok (.iload_n 3, 1) := by decide +kernel
theorem d_X_tellRing_30 : decode b_X_tellRing 30 = .ok (.aload_n 0, 1) := by decide +kernel
theorem d_X_tellRing_31 : decode b_X_tellRing 31 = .ok (.getfield 26, 3) := by decide +kernel
theorem d_X_tellRing_34 : decode b_X_tellRing 34 = .ok (.iconst 0, 1) := by decide +kernel
theorem d_X_tellRing_35 : decode b_X_tellRing 35 = .ok (.aload_n 0, 1) := by decide +kernel
theorem d_X_tellRing_36 : decode b_X_tellRing 36 = .ok (.getfield 107, 3) := by decide +kernel
theorem d_X_tellRing_39 : decode b_X_tellRing 39 = .ok (.invokestatic 110, 3) := by decide +kernel
theorem d_X_tellRing_42 : decode b_X_tellRing 42 = .ok (.iconst (-1), 1) := by decide +kernel
theorem d_X_tellRing_43 : decode b_X_tellRing 43 = .ok (.ireturn, 1) := by decide +kernel
theorem d_X_ring_0 : decode b_X_ring 0 = .ok (.iload_n 1, 1) := by decide +kernel
theorem d_X_ring_1 : decode b_X_ring 1 = .ok (.ifCond .lt 20, 3) := by decide +kernel
theorem d_X_ring_4 : decode b_X_ring 4 = .ok (.iload_n 1, 1) := by decide +kernel
theorem d_X_ring_5 : decode b_X_ring 5 = .ok (.aload_n 0, 1) := by decide +kernel
theorem d_X_ring_6 : decode b_X_ring 6 = .ok (.getfield 107, 3) := by decide +kernel
theorem d_X_ring_9 : decode b_X_ring 9 = .ok (.if_icmp .ge 12, 3) := by decide +kernel
theorem d_X_ring_12 : decode b_X_ring 12 = .ok (.aload_n 0, 1) := by decide +kernel
theorem d_X_ring_13 : decode b_X_ring 13 = .ok (.getfield 26, 3) := by decide +kernel
theorem d_X_ring_16 : decode b_X_ring 16 = .ok (.iload_n 1, 1) := by decide +kernel
theorem d_X_ring_17 : decode b_X_ring 17 = .ok (.iaload, 1) := by decide +kernel
theorem d_X_ring_18 : decode b_X_ring 18 = .ok (.goto 4, 3) := by decide +kernel
theorem d_X_ring_21 : decode b_X_ring 21 = .ok (.iconst 0, 1) := by decide +kernel
theorem d_X_ring_22 : decode b_X_ring 22 = .ok (.ireturn, 1) := by decide +kernel
theorem d_X_rank_0 : decode b_X_rank 0 = .ok (.iload_n 1, 1) := by decide +kernel
theorem d_X_rank_1 : decode b_X_rank 1 = .ok (.invokestatic 33, 3) := by decide +kernel
theorem d_X_rank_4 : decode b_X_rank 4 = .ok (.ifCond .eq 15, 3) := by decide +kernel
theorem d_X_rank_7 : decode b_X_rank 7 = .ok (.iload_n 2, 1) := by decide +kernel
theorem d_X_rank_8 : decode b_X_rank 8 = .ok (.i2l, 1) := by decide +kernel
theorem d_X_rank_9 : decode b_X_rank 9 = .ok (.lconst 0, 1) := by decide +kernel
theorem d_X_rank_10 : decode b_X_rank 10 = .ok (.ldc2_w 133, 3) := by decide +kernel
theorem d_X_rank_13 : decode b_X_rank 13 = .ok (.invokestatic 44, 3) := by decide +kernel
theorem d_X_rank_16 : decode b_X_rank 16 = .ok (.ifCond .eq 6, 3) := by decide +kernel
theorem d_X_rank_19 : decode b_X_rank 19 = .ok (.bipush (-102), 2) := by decide +kernel
theorem d_X_rank_21 : decode b_X_rank 21 = .ok (.ireturn, 1) := by decide +kernel
theorem d_X_rank_22 : decode b_X_rank 22 = .ok (.aload_n 0, 1) := by decide +kernel
theorem d_X_rank_23 : decode b_X_rank 23 = .ok (.getfield 15, 3) := by decide +kernel
theorem d_X_rank_26 : decode b_X_rank 26 = .ok (.iload_n 1, 1) := by decide +kernel
theorem d_X_rank_27 : decode b_X_rank 27 = .ok (.iaload, 1) := by decide +kernel
theorem d_X_rank_28 : decode b_X_rank 28 = .ok (.istore_n 3, 1) := by decide +kernel
theorem d_X_rank_29 : decode b_X_rank 29 = .ok (.aload_n 0, 1) := by decide +kernel
theorem d_X_rank_30 : decode b_X_rank 30 = .ok (.getfield 15, 3) := by decide +kernel
theorem d_X_rank_33 : decode b_X_rank 33 = .ok (.iload_n 1, 1) := by decide +kernel
theorem d_X_rank_34 : decode b_X_rank 34 = .ok (.iload_n 2, 1) := by decide +kernel
theorem d_X_rank_35 : decode b_X_rank 35 = .ok (.iastore, 1) := by decide +kernel
theorem d_X_rank_36 : decode b_X_rank 36 = .ok (.iload_n 3, 1) := by decide +kernel
theorem d_X_rank_37 : decode b_X_rank 37 = .ok (.ireturn, 1) := by decide +kernel
theorem d_X_extend_0 : decode b_X_extend 0 = .ok (.aload_n 0, 1) := by decide +kernel
theorem d_X_extend_1 : decode b_X_extend 1 = .ok (.iload_n 1, 1) := by decide +kernel
theorem d_X_extend_2 : decode b_X_extend 2 = .ok (.invokevirtual 79, 3) := by decide +kernel
theorem d_X_extend_5 : decode b_X_extend 5 = .ok (.ifCond .ne 6, 3) := by decide +kernel
theorem d_X_extend_8 : decode b_X_extend 8 = .ok (.bipush (-101), 2) := by decide +kernel
theorem d_X_extend_10 : decode b_X_extend 10 = .ok (.ireturn, 1) := by decide +kernel
theorem d_X_extend_11 : decode b_X_extend 11 = .ok (.lload_n 2, 1) := by decide +kernel
theorem d_X_extend_12 : decode b_X_extend 12 = .ok (.lconst 0, 1) := by decide +kernel
theorem d_X_extend_13 : decode b_X_extend 13 = .ok (.ldc2_w 48, 3) := by decide +kernel
theorem d_X_extend_16 : decode b_X_extend 16 = .ok (.invokestatic 44, 3) := by decide +kernel
theorem d_X_extend_19 : decode b_X_extend 19 = .ok (.ifCond .eq 6, 3) := by decide +kernel
theorem d_X_extend_22 : decode b_X_extend 22 = .ok (.bipush (-102), 2) := by decide +kernel
theorem d_X_extend_24 : decode b_X_extend 24 = .ok (.ireturn, 1) := by decide +kernel
theorem d_X_extend_25 : decode b_X_extend 25 = .ok (.aload_n 0, 1) := by decide +kernel
theorem d_X_extend_26 : decode b_X_extend 26 = .ok (.getfield 11, 3) := by decide +kernel
theorem d_X_extend_29 : decode b_X_extend 29 = .ok (.iload_n 1, 1) := by decide +kernel
theorem d_X_extend_30 : decode b_X_extend 30 = .ok (.aaload, 1) := by decide +kernel
theorem d_X_extend_31 : decode b_X_extend 31 = .ok (.astore 4, 2) := by decide +kernel
theorem d_X_extend_33 : decode b_X_extend 33 = .ok (.aload 4, 2) := by decide +kernel
theorem d_X_extend_35 : decode b_X_extend 35 = .ok (.invokevirtual 89, 3) := by decide +kernel
theorem d_X_extend_38 : decode b_X_extend 38 = .ok (.ifCond .eq 6, 3) := by decide +kernel
theorem d_X_extend_41 : decode b_X_extend 41 = .ok (.bipush (-103), 2) := by decide +kernel
theorem d_X_extend_43 : decode b_X_extend 43 = .ok (.ireturn, 1) := by decide +kernel
theorem d_X_extend_44 : decode b_X_extend 44 = .ok (.lload_n 2, 1) := by decide +kernel
theorem d_X_extend_45 : decode b_X_extend 45 = .ok (.aload 4, 2) := by decide +kernel
theorem d_X_extend_47 : decode b_X_extend 47 = .ok (.getfield 135, 3) := by decide +kernel
theorem d_X_extend_50 : decode b_X_extend 50 = .ok (.lcmp, 1) := by decide +kernel
theorem d_X_extend_51 : decode b_X_extend 51 = .ok (.ifCond .gt 5, 3) := by decide +kernel
theorem d_X_extend_54 : decode b_X_extend 54 = .ok (.iconst 0, 1) := by decide +kernel
theorem d_X_extend_55 : decode b_X_extend 55 = .ok (.ireturn, 1) := by decide +kernel
theorem d_X_extend_56 : decode b_X_extend 56 = .ok (.aload 4, 2) := by decide +kernel
theorem d_X_extend_58 : decode b_X_extend 58 = .ok (.lload_n 2, 1) := by decide +kernel
theorem d_X_extend_59 : decode b_X_extend 59 = .ok (.putfield 135, 3) := by decide +kernel
theorem d_X_extend_62 : decode b_X_extend 62 = .ok (.iconst 1, 1) := by decide +kernel
theorem d_X_extend_63 : decode b_X_extend 63 = .ok (.ireturn, 1) := by decide +kernel
theorem d_X_told_0 : decode b_X_told 0 = .ok (.iload_n 1, 1) := by decide +kernel
theorem d_X_told_1 : decode b_X_told 1 = .ok (.i2l, 1) := by decide +kernel
theorem d_X_told_2 : decode b_X_told 2 = .ok (.lconst 0, 1) := by decide +kernel
theorem d_X_told_3 : decode b_X_told 3 = .ok (.ldc2_w 42, 3) := by decide +kernel
theorem d_X_told_6 : decode b_X_told 6 = .ok (.invokestatic 44, 3) := by decide +kernel
theorem d_X_told_9 : decode b_X_told 9 = .ok (.ifCond .eq 6, 3) := by decide +kernel
theorem d_X_told_12 : decode b_X_told 12 = .ok (.bipush (-101), 2) := by decide +kernel
theorem d_X_told_14 : decode b_X_told 14 = .ok (.ireturn, 1) := by decide +kernel
theorem d_X_told_15 : decode b_X_told 15 = .ok (.iload_n 2, 1) := by decide +kernel
theorem d_X_told_16 : decode b_X_told 16 = .ok (.istore_n 3, 1) := by decide +kernel
theorem d_X_told_17 : decode b_X_told 17 = .ok (.iconst 1, 1) := by decide +kernel
theorem d_X_told_18 : decode b_X_told 18 = .ok (.istore 4, 2) := by decide +kernel
theorem d_X_told_20 : decode b_X_told 20 = .ok (.iload 4, 2) := by decide +kernel
theorem d_X_told_22 : decode b_X_told 22 = .ok (.aload_n 0, 1) := by decide +kernel
theorem d_X_told_23 : decode b_X_told 23 = .ok (.getfield 29, 3) := by decide +kernel
theorem d_X_told_26 : decode b_X_told 26 = .ok (.if_icmp .gt 72, 3) := by decide +kernel
theorem d_X_told_29 : decode b_X_told 29 = .ok (.iload_n 2, 1) := by decide +kernel
theorem d_X_told_30 : decode b_X_told 30 = .ok (.ifCond .lt 68, 3) := by decide +kernel
theorem d_X_told_33 : decode b_X_told 33 = .ok (.aload_n 0, 1) := by decide +kernel
theorem d_X_told_34 : decode b_X_told 34 = .ok (.getfield 11, 3) := by decide +kernel
theorem d_X_told_37 : decode b_X_told 37 = .ok (.iload 4, 2) := by decide +kernel
theorem d_X_told_39 : decode b_X_told 39 = .ok (.aaload, 1) := by decide +kernel
theorem d_X_told_40 : decode b_X_told 40 = .ok (.astore 5, 2) := by decide +kernel
theorem d_X_told_42 : decode b_X_told 42 = .ok (.aload 5, 2) := by decide +kernel
theorem d_X_told_44 : decode b_X_told 44 = .ok (.getfield 138, 3) := by decide +kernel
theorem d_X_told_47 : decode b_X_told 47 = .ok (.iload_n 1, 1) := by decide +kernel
theorem d_X_told_48 : decode b_X_told 48 = .ok (.if_icmp .ne 44, 3) := by decide +kernel
theorem d_X_told_51 : decode b_X_told 51 = .ok (.aload 5, 2) := by decide +kernel
theorem d_X_told_53 : decode b_X_told 53 = .ok (.getfield 93, 3) := by decide +kernel
theorem d_X_told_56 : decode b_X_told 56 = .ok (.ifCond .eq 36, 3) := by decide +kernel
theorem d_X_told_59 : decode b_X_told 59 = .ok (.aload 5, 2) := by decide +kernel
theorem d_X_told_61 : decode b_X_told 61 = .ok (.invokevirtual 122, 3) := by decide +kernel
theorem d_X_told_64 : decode b_X_told 64 = .ok (.ifCond .eq 28, 3) := by decide +kernel
theorem d_X_told_67 : decode b_X_told 67 = .ok (.aload 5, 2) := by decide +kernel
theorem d_X_told_69 : decode b_X_told 69 = .ok (.aload_n 0, 1) := by decide +kernel
theorem d_X_told_70 : decode b_X_told 70 = .ok (.getfield 52, 3) := by decide +kernel
theorem d_X_told_73 : decode b_X_told 73 = .ok (.invokevirtual 141, 3) := by decide +kernel
theorem d_X_told_76 : decode b_X_told 76 = .ok (.ifCond .ne 6, 3) := by decide +kernel
theorem d_X_told_79 : decode b_X_told 79 = .ok (.goto 13, 3) := by decide +kernel
theorem d_X_told_82 : decode b_X_told 82 = .ok (.iload_n 3, 1) := by decide +kernel
theorem d_X_told_83 : decode b_X_told 83 = .ok (.ifCond .ne 6, 3) := by decide +kernel
theorem d_X_told_86 : decode b_X_told 86 = .ok (.iload 4, 2) := by decide +kernel
theorem d_X_told_88 : decode b_X_told 88 = .ok (.ireturn, 1) := by decide +kernel
theorem d_X_told_89 : decode b_X_told 89 = .ok (.iinc 3 (-1), 3) := by decide +kernel
theorem d_X_told_92 : decode b_X_told 92 = .ok (.iinc 4 1, 3) := by decide +kernel
theorem d_X_told_95 : decode b_X_told 95 = .ok (.goto (-75), 3) := by decide +kernel
theorem d_X_told_98 : decode b_X_told 98 = .ok (.iconst 0, 1) := by decide +kernel
theorem d_X_told_99 : decode b_X_told 99 = .ok (.ireturn, 1) := by decide +kernel
theorem d_Math_max_0 : decode b_Math_max 0 = .ok (.lload_n 0, 1) := by decide +kernel
theorem d_Math_max_1 : decode b_Math_max 1 = .ok (.lload_n 2, 1) := by decide +kernel
theorem d_Math_max_2 : decode b_Math_max 2 = .ok (.lcmp, 1) := by decide +kernel
theorem d_Math_max_3 : decode b_Math_max 3 = .ok (.ifCond .lt 7, 3) := by decide +kernel
theorem d_Math_max_6 : decode b_Math_max 6 = .ok (.lload_n 0, 1) := by decide +kernel
theorem d_Math_max_7 : decode b_Math_max 7 = .ok (.goto 4, 3) := by decide +kernel
theorem d_Math_max_10 : decode b_Math_max 10 = .ok (.lload_n 2, 1) := by decide +kernel
theorem d_Math_max_11 : decode b_Math_max 11 = .ok (.lreturn, 1) := by decide +kernel
end
section
theorem d_M_init_0 : decode b_M_init 0 = .ok (.aload_n 0, 1) := by decide +kernel
theorem d_M_init_1 : decode b_M_init 1 = .ok (.invokespecial 1, 3) := by decide +kernel
theorem d_M_init_4 : decode b_M_init 4 = .ok (.aload_n 0, 1) := by decide +kernel
theorem d_M_init_5 : decode b_M_init 5 = .ok (.sipush 201, 3) := by decide +kernel
theorem d_M_init_8 : decode b_M_init 8 = .ok (.newarray .int, 2) := by decide +kernel
theorem d_M_init_10 : decode b_M_init 10 = .ok (.putfield 7, 3) := by decide +kernel
theorem d_M_init_13 : decode b_M_init 13 = .ok (.aload_n 0, 1) := by decide +kernel
theorem d_M_init_14 : decode b_M_init 14 = .ok (.sipush 201, 3) := by decide +kernel
theorem d_M_init_17 : decode b_M_init 17 = .ok (.newarray .int, 2) := by decide +kernel
theorem d_M_init_19 : decode b_M_init 19 = .ok (.putfield 13, 3) := by decide +kernel
theorem d_M_init_22 : decode b_M_init 22 = .ok (.aload_n 0, 1) := by decide +kernel
theorem d_M_init_23 : decode b_M_init 23 = .ok (.sipush 201, 3) := by decide +kernel
theorem d_M_init_26 : decode b_M_init 26 = .ok (.newarray .int, 2) := by decide +kernel
theorem d_M_init_28 : decode b_M_init 28 = .ok (.putfield 16, 3) := by decide +kernel
theorem d_M_init_31 : decode b_M_init 31 = .ok (.aload_n 0, 1) := by decide +kernel
theorem d_M_init_32 : decode b_M_init 32 = .ok (.sipush 201, 3) := by decide +kernel
theorem d_M_init_35 : decode b_M_init 35 = .ok (.newarray .int, 2) := by decide +kernel
theorem d_M_init_37 : decode b_M_init 37 = .ok (.putfield 19, 3) := by decide +kernel
theorem d_M_init_40 : decode b_M_init 40 = .ok (.aload_n 0, 1) := by decide +kernel
theorem d_M_init_41 : decode b_M_init 41 = .ok (.sipush 201, 3) := by decide +kernel
theorem d_M_init_44 : decode b_M_init 44 = .ok (.newarray .long, 2) := by decide +kernel
theorem d_M_init_46 : decode b_M_init 46 = .ok (.putfield 22, 3) := by decide +kernel
theorem d_M_init_49 : decode b_M_init 49 = .ok (.aload_n 0, 1) := by decide +kernel
theorem d_M_init_50 : decode b_M_init 50 = .ok (.sipush 201, 3) := by decide +kernel
theorem d_M_init_53 : decode b_M_init 53 = .ok (.newarray .long, 2) := by decide +kernel
theorem d_M_init_55 : decode b_M_init 55 = .ok (.putfield 26, 3) := by decide +kernel
theorem d_M_init_58 : decode b_M_init 58 = .ok (.aload_n 0, 1) := by decide +kernel
theorem d_M_init_59 : decode b_M_init 59 = .ok (.sipush 201, 3) := by decide +kernel
theorem d_M_init_62 : decode b_M_init 62 = .ok (.newarray .long, 2) := by decide +kernel
theorem d_M_init_64 : decode b_M_init 64 = .ok (.putfield 29, 3) := by decide +kernel
theorem d_M_init_67 : decode b_M_init 67 = .ok (.aload_n 0, 1) := by decide +kernel
theorem d_M_init_68 : decode b_M_init 68 = .ok (.sipush 201, 3) := by decide +kernel
theorem d_M_init_71 : decode b_M_init 71 = .ok (.newarray .boolean, 2) := by decide +kernel
theorem d_M_init_73 : decode b_M_init 73 = .ok (.putfield 32, 3) := by decide +kernel
theorem d_M_init_76 : decode b_M_init 76 = .ok (.aload_n 0, 1) := by decide +kernel
theorem d_M_init_77 : decode b_M_init 77 = .ok (.sipush 201, 3) := by decide +kernel
theorem d_M_init_80 : decode b_M_init 80 = .ok (.newarray .long, 2) := by decide +kernel
theorem d_M_init_82 : decode b_M_init 82 = .ok (.putfield 36, 3) := by decide +kernel
theorem d_M_init_85 : decode b_M_init 85 = .ok (.aload_n 0, 1) := by decide +kernel
theorem d_M_init_86 : decode b_M_init 86 = .ok (.bipush 9, 2) := by decide +kernel
theorem d_M_init_88 : decode b_M_init 88 = .ok (.newarray .int, 2) := by decide +kernel
theorem d_M_init_90 : decode b_M_init 90 = .ok (.putfield 39, 3) := by decide +kernel
theorem d_M_init_93 : decode b_M_init 93 = .ok (.aload_n 0, 1) := by decide +kernel
theorem d_M_init_94 : decode b_M_init 94 = .ok (.bipush 101, 2) := by decide +kernel
theorem d_M_init_96 : decode b_M_init 96 = .ok (.newarray .int, 2) := by decide +kernel
theorem d_M_init_98 : decode b_M_init 98 = .ok (.putfield 42, 3) := by decide +kernel
theorem d_M_init_101 : decode b_M_init 101 = .ok (.aload_n 0, 1) := by decide +kernel
theorem d_M_init_102 : decode b_M_init 102 = .ok (.bipush 100, 2) := by decide +kernel
theorem d_M_init_104 : decode b_M_init 104 = .ok (.newarray .int, 2) := by decide +kernel
theorem d_M_init_106 : decode b_M_init 106 = .ok (.putfield 45, 3) := by decide +kernel
theorem d_M_init_109 : decode b_M_init 109 = .ok (.aload_n 0, 1) := by decide +kernel
theorem d_M_init_110 : decode b_M_init 110 = .ok (.iconst 0, 1) := by decide +kernel
theorem d_M_init_111 : decode b_M_init 111 = .ok (.putfield 48, 3) := by decide +kernel
theorem d_M_init_114 : decode b_M_init 114 = .ok (.return_, 1) := by decide +kernel
theorem d_M_order_0 : decode b_M_order 0 = .ok (.aload_n 0, 1) := by decide +kernel
theorem d_M_order_1 : decode b_M_order 1 = .ok (.iconst 0, 1) := by decide +kernel
theorem d_M_order_2 : decode b_M_order 2 = .ok (.putfield 52, 3) := by decide +kernel
theorem d_M_order_5 : decode b_M_order 5 = .ok (.iload_n 1, 1) := by decide +kernel
theorem d_M_order_6 : decode b_M_order 6 = .ok (.ifCond .lt 12, 3) := by decide +kernel
theorem d_M_order_9 : decode b_M_order 9 = .ok (.iload_n 1, 1) := by decide +kernel
theorem d_M_order_10 : decode b_M_order 10 = .ok (.iconst 3, 1) := by decide +kernel
theorem d_M_order_11 : decode b_M_order 11 = .ok (.if_icmp .ge 7, 3) := by decide +kernel
theorem d_M_order_14 : decode b_M_order 14 = .ok (.iconst 1, 1) := by decide +kernel
theorem d_M_order_15 : decode b_M_order 15 = .ok (.goto 4, 3) := by decide +kernel
theorem d_M_order_18 : decode b_M_order 18 = .ok (.iconst 0, 1) := by decide +kernel
theorem d_M_order_19 : decode b_M_order 19 = .ok (.istore 9, 2) := by decide +kernel
theorem d_M_order_21 : decode b_M_order 21 = .ok (.iload_n 2, 1) := by decide +kernel
theorem d_M_order_22 : decode b_M_order 22 = .ok (.i2l, 1) := by decide +kernel
theorem d_M_order_23 : decode b_M_order 23 = .ok (.lconst 1, 1) := by decide +kernel
theorem d_M_order_24 : decode b_M_order 24 = .ok (.ldc2_w 68, 3) := by decide +kernel
theorem d_M_order_27 : decode b_M_order 27 = .ok (.invokestatic 58, 3) := by decide +kernel
theorem d_M_order_30 : decode b_M_order 30 = .ok (.ifCond .eq 35, 3) := by decide +kernel
theorem d_M_order_33 : decode b_M_order 33 = .ok (.iload_n 3, 1) := by decide +kernel
theorem d_M_order_34 : decode b_M_order 34 = .ok (.i2l, 1) := by decide +kernel
theorem d_M_order_35 : decode b_M_order 35 = .ok (.ldc2_w 70, 3) := by decide +kernel
theorem d_M_order_38 : decode b_M_order 38 = .ok (.ldc2_w 72, 3) := by decide +kernel
theorem d_M_order_41 : decode b_M_order 41 = .ok (.invokestatic 58, 3) := by decide +kernel
theorem d_M_order_44 : decode b_M_order 44 = .ok (.ifCond .eq 21, 3) := by decide +kernel
theorem d_M_order_47 : decode b_M_order 47 = .ok (.iload 9, 2) := by decide +kernel
theorem d_M_order_49 : decode b_M_order 49 = .ok (.ifCond .eq 19, 3) := by decide +kernel
theorem d_M_order_52 : decode b_M_order 52 = .ok (.iload 4, 2) := by decide +kernel
theorem d_M_order_54 : decode b_M_order 54 = .ok (.i2l, 1) := by decide +kernel
theorem d_M_order_55 : decode b_M_order 55 = .ok (.lconst 1, 1) := by decide +kernel
theorem d_M_order_56 : decode b_M_order 56 = .ok (.ldc2_w 68, 3) := by decide +kernel
theorem d_M_order_59 : decode b_M_order 59 = .ok (.invokestatic 58, 3) := by decide +kernel
theorem d_M_order_62 : decode b_M_order 62 = .ok (.ifCond .ne 6, 3) := by decide +kernel
theorem d_M_order_65 : decode b_M_order 65 = .ok (.bipush (-101), 2) := by decide +kernel
theorem d_M_order_67 : decode b_M_order 67 = .ok (.ireturn, 1) := by decide +kernel
theorem d_M_order_68 : decode b_M_order 68 = .ok (.iload_n 1, 1) := by decide +kernel
theorem d_M_order_69 : decode b_M_order 69 = .ok (.i2l, 1) := by decide +kernel
theorem d_M_order_70 : decode b_M_order 70 = .ok (.lconst 0, 1) := by decide +kernel
theorem d_M_order_71 : decode b_M_order 71 = .ok (.ldc2_w 74, 3) := by decide +kernel
theorem d_M_order_74 : decode b_M_order 74 = .ok (.invokestatic 58, 3) := by decide +kernel
theorem d_M_order_77 : decode b_M_order 77 = .ok (.ifCond .eq 38, 3) := by decide +kernel
theorem d_M_order_80 : decode b_M_order 80 = .ok (.lload 5, 2) := by decide +kernel
theorem d_M_order_82 : decode b_M_order 82 = .ok (.lconst 0, 1) := by decide +kernel
theorem d_M_order_83 : decode b_M_order 83 = .ok (.lcmp, 1) := by decide +kernel
theorem d_M_order_84 : decode b_M_order 84 = .ok (.ifCond .lt 31, 3) := by decide +kernel
theorem d_M_order_87 : decode b_M_order 87 = .ok (.lload 5, 2) := by decide +kernel
theorem d_M_order_89 : decode b_M_order 89 = .ok (.lload 7, 2) := by decide +kernel
theorem d_M_order_91 : decode b_M_order 91 = .ok (.lcmp, 1) := by decide +kernel
theorem d_M_order_92 : decode b_M_order 92 = .ok (.ifCond .gt 23, 3) := by decide +kernel
theorem d_M_order_95 : decode b_M_order 95 = .ok (.lload 7, 2) := by decide +kernel
theorem d_M_order_97 : decode b_M_order 97 = .ok (.ldc2_w 66, 3) := by decide +kernel
theorem d_M_order_100 : decode b_M_order 100 = .ok (.lcmp, 1) := by decide +kernel
theorem d_M_order_101 : decode b_M_order 101 = .ok (.ifCond .gt 14, 3) := by decide +kernel
theorem d_M_order_104 : decode b_M_order 104 = .ok (.iload 9, 2) := by decide +kernel
theorem d_M_order_106 : decode b_M_order 106 = .ok (.ifCond .eq 12, 3) := by decide +kernel
theorem d_M_order_109 : decode b_M_order 109 = .ok (.iload 4, 2) := by decide +kernel
theorem d_M_order_111 : decode b_M_order 111 = .ok (.iload_n 2, 1) := by decide +kernel
theorem d_M_order_112 : decode b_M_order 112 = .ok (.if_icmp .ne 6, 3) := by decide +kernel
theorem d_M_order_115 : decode b_M_order 115 = .ok (.bipush (-102), 2) := by decide +kernel
theorem d_M_order_117 : decode b_M_order 117 = .ok (.ireturn, 1) := by decide +kernel
theorem d_M_order_118 : decode b_M_order 118 = .ok (.aload_n 0, 1) := by decide +kernel
theorem d_M_order_119 : decode b_M_order 119 = .ok (.getfield 55, 3) := by decide +kernel
theorem d_M_order_122 : decode b_M_order 122 = .ok (.sipush 200, 3) := by decide +kernel
theorem d_M_order_125 : decode b_M_order 125 = .ok (.if_icmp .ne 6, 3) := by decide +kernel
theorem d_M_order_128 : decode b_M_order 128 = .ok (.bipush (-104), 2) := by decide +kernel
theorem d_M_order_130 : decode b_M_order 130 = .ok (.ireturn, 1) := by decide +kernel
theorem d_M_order_131 : decode b_M_order 131 = .ok (.aload_n 0, 1) := by decide +kernel
theorem d_M_order_132 : decode b_M_order 132 = .ok (.dup, 1) := by decide +kernel
theorem d_M_order_133 : decode b_M_order 133 = .ok (.getfield 55, 3) := by decide +kernel
theorem d_M_order_136 : decode b_M_order 136 = .ok (.iconst 1, 1) := by decide +kernel
theorem d_M_order_137 : decode b_M_order 137 = .ok (.iadd, 1) := by decide +kernel
theorem d_M_order_138 : decode b_M_order 138 = .ok (.putfield 55, 3) := by decide +kernel
theorem d_M_order_141 : decode b_M_order 141 = .ok (.aload_n 0, 1) := by decide +kernel
theorem d_M_order_142 : decode b_M_order 142 = .ok (.getfield 7, 3) := by decide +kernel
theorem d_M_order_145 : decode b_M_order 145 = .ok (.aload_n 0, 1) := by decide +kernel
theorem d_M_order_146 : decode b_M_order 146 = .ok (.getfield 55, 3) := by decide +kernel
theorem d_M_order_149 : decode b_M_order 149 = .ok (.iload_n 1, 1) := by decide +kernel
theorem d_M_order_150 : decode b_M_order 150 = .ok (.iastore, 1) := by decide +kernel
theorem d_M_order_151 : decode b_M_order 151 = .ok (.aload_n 0, 1) := by decide +kernel
theorem d_M_order_152 : decode b_M_order 152 = .ok (.getfield 13, 3) := by decide +kernel
theorem d_M_order_155 : decode b_M_order 155 = .ok (.aload_n 0, 1) := by decide +kernel
theorem d_M_order_156 : decode b_M_order 156 = .ok (.getfield 55, 3) := by decide +kernel
theorem d_M_order_159 : decode b_M_order 159 = .ok (.iload_n 2, 1) := by decide +kernel
theorem d_M_order_160 : decode b_M_order 160 = .ok (.iastore, 1) := by decide +kernel
theorem d_M_order_161 : decode b_M_order 161 = .ok (.aload_n 0, 1) := by decide +kernel
theorem d_M_order_162 : decode b_M_order 162 = .ok (.getfield 16, 3) := by decide +kernel
theorem d_M_order_165 : decode b_M_order 165 = .ok (.aload_n 0, 1) := by decide +kernel
theorem d_M_order_166 : decode b_M_order 166 = .ok (.getfield 55, 3) := by decide +kernel
theorem d_M_order_169 : decode b_M_order 169 = .ok (.iload_n 3, 1) := by decide +kernel
theorem d_M_order_170 : decode b_M_order 170 = .ok (.iastore, 1) := by decide +kernel
theorem d_M_order_171 : decode b_M_order 171 = .ok (.aload_n 0, 1) := by decide +kernel
theorem d_M_order_172 : decode b_M_order 172 = .ok (.getfield 19, 3) := by decide +kernel
theorem d_M_order_175 : decode b_M_order 175 = .ok (.aload_n 0, 1) := by decide +kernel
theorem d_M_order_176 : decode b_M_order 176 = .ok (.getfield 55, 3) := by decide +kernel
theorem d_M_order_179 : decode b_M_order 179 = .ok (.iload 9, 2) := by decide +kernel
theorem d_M_order_181 : decode b_M_order 181 = .ok (.ifCond .eq 8, 3) := by decide +kernel
theorem d_M_order_184 : decode b_M_order 184 = .ok (.iload 4, 2) := by decide +kernel
theorem d_M_order_186 : decode b_M_order 186 = .ok (.goto 4, 3) := by decide +kernel
theorem d_M_order_189 : decode b_M_order 189 = .ok (.iconst 0, 1) := by decide +kernel
theorem d_M_order_190 : decode b_M_order 190 = .ok (.iastore, 1) := by decide +kernel
theorem d_M_order_191 : decode b_M_order 191 = .ok (.aload_n 0, 1) := by decide +kernel
theorem d_M_order_192 : decode b_M_order 192 = .ok (.getfield 22, 3) := by decide +kernel
theorem d_M_order_195 : decode b_M_order 195 = .ok (.aload_n 0, 1) := by decide +kernel
theorem d_M_order_196 : decode b_M_order 196 = .ok (.getfield 55, 3) := by decide +kernel
theorem d_M_order_199 : decode b_M_order 199 = .ok (.lload 5, 2) := by decide +kernel
theorem d_M_order_201 : decode b_M_order 201 = .ok (.lastore, 1) := by decide +kernel
theorem d_M_order_202 : decode b_M_order 202 = .ok (.aload_n 0, 1) := by decide +kernel
theorem d_M_order_203 : decode b_M_order 203 = .ok (.getfield 26, 3) := by decide +kernel
theorem d_M_order_206 : decode b_M_order 206 = .ok (.aload_n 0, 1) := by decide +kernel
theorem d_M_order_207 : decode b_M_order 207 = .ok (.getfield 55, 3) := by decide +kernel
theorem d_M_order_210 : decode b_M_order 210 = .ok (.lload 7, 2) := by decide +kernel
theorem d_M_order_212 : decode b_M_order 212 = .ok (.lastore, 1) := by decide +kernel
theorem d_M_order_213 : decode b_M_order 213 = .ok (.aload_n 0, 1) := by decide +kernel
theorem d_M_order_214 : decode b_M_order 214 = .ok (.getfield 29, 3) := by decide +kernel
theorem d_M_order_217 : decode b_M_order 217 = .ok (.aload_n 0, 1) := by decide +kernel
theorem d_M_order_218 : decode b_M_order 218 = .ok (.getfield 55, 3) := by decide +kernel
theorem d_M_order_221 : decode b_M_order 221 = .ok (.aload_n 0, 1) := by decide +kernel
theorem d_M_order_222 : decode b_M_order 222 = .ok (.getfield 62, 3) := by decide +kernel
theorem d_M_order_225 : decode b_M_order 225 = .ok (.lastore, 1) := by decide +kernel
theorem d_M_order_226 : decode b_M_order 226 = .ok (.aload_n 0, 1) := by decide +kernel
theorem d_M_order_227 : decode b_M_order 227 = .ok (.getfield 36, 3) := by decide +kernel
theorem d_M_order_230 : decode b_M_order 230 = .ok (.aload_n 0, 1) := by decide +kernel
theorem d_M_order_231 : decode b_M_order 231 = .ok (.getfield 55, 3) := by decide +kernel
theorem d_M_order_234 : decode b_M_order 234 = .ok (.ldc2_w 70, 3) := by decide +kernel
theorem d_M_order_237 : decode b_M_order 237 = .ok (.lastore, 1) := by decide +kernel
theorem d_M_order_238 : decode b_M_order 238 = .ok (.aload_n 0, 1) := by decide +kernel
theorem d_M_order_239 : decode b_M_order 239 = .ok (.getfield 55, 3) := by decide +kernel
theorem d_M_order_242 : decode b_M_order 242 = .ok (.ireturn, 1) := by decide +kernel
theorem d_M_isIn_0 : decode b_M_isIn 0 = .ok (.lload_n 0, 1) := by decide +kernel
theorem d_M_isIn_1 : decode b_M_isIn 1 = .ok (.lload_n 2, 1) := by decide +kernel
theorem d_M_isIn_2 : decode b_M_isIn 2 = .ok (.lcmp, 1) := by decide +kernel
theorem d_M_isIn_3 : decode b_M_isIn 3 = .ok (.ifCond .lt 14, 3) := by decide +kernel
theorem d_M_isIn_6 : decode b_M_isIn 6 = .ok (.lload_n 0, 1) := by decide +kernel
theorem d_M_isIn_7 : decode b_M_isIn 7 = .ok (.lload 4, 2) := by decide +kernel
theorem d_M_isIn_9 : decode b_M_isIn 9 = .ok (.lcmp, 1) := by decide +kernel
theorem d_M_isIn_10 : decode b_M_isIn 10 = .ok (.ifCond .gt 7, 3) := by decide +kernel
theorem d_M_isIn_13 : decode b_M_isIn 13 = .ok (.iconst 1, 1) := by decide +kernel
theorem d_M_isIn_14 : decode b_M_isIn 14 = .ok (.goto 4, 3) := by decide +kernel
theorem d_M_isIn_17 : decode b_M_isIn 17 = .ok (.iconst 0, 1) := by decide +kernel
theorem d_M_isIn_18 : decode b_M_isIn 18 = .ok (.ireturn, 1) := by decide +kernel
theorem d_M_proof_0 : decode b_M_proof 0 = .ok (.aload_n 0, 1) := by decide +kernel
theorem d_M_proof_1 : decode b_M_proof 1 = .ok (.iconst 0, 1) := by decide +kernel
theorem d_M_proof_2 : decode b_M_proof 2 = .ok (.putfield 52, 3) := by decide +kernel
theorem d_M_proof_5 : decode b_M_proof 5 = .ok (.aload_n 0, 1) := by decide +kernel
theorem d_M_proof_6 : decode b_M_proof 6 = .ok (.iload_n 1, 1) := by decide +kernel
theorem d_M_proof_7 : decode b_M_proof 7 = .ok (.invokevirtual 80, 3) := by decide +kernel
theorem d_M_proof_10 : decode b_M_proof 10 = .ok (.ifCond .ne 6, 3) := by decide +kernel
theorem d_M_proof_13 : decode b_M_proof 13 = .ok (.bipush (-101), 2) := by decide +kernel
theorem d_M_proof_15 : decode b_M_proof 15 = .ok (.ireturn, 1) := by decide +kernel
theorem d_M_proof_16 : decode b_M_proof 16 = .ok (.aload_n 0, 1) := by decide +kernel
theorem d_M_proof_17 : decode b_M_proof 17 = .ok (.lload_n 3, 1) := by decide +kernel
theorem d_M_proof_18 : decode b_M_proof 18 = .ok (.invokevirtual 84, 3) := by decide +kernel
theorem d_M_proof_21 : decode b_M_proof 21 = .ok (.ifCond .ne 6, 3) := by decide +kernel
theorem d_M_proof_24 : decode b_M_proof 24 = .ok (.bipush (-102), 2) := by decide +kernel
theorem d_M_proof_26 : decode b_M_proof 26 = .ok (.ireturn, 1) := by decide +kernel
theorem d_M_proof_27 : decode b_M_proof 27 = .ok (.aload_n 0, 1) := by decide +kernel
theorem d_M_proof_28 : decode b_M_proof 28 = .ok (.lload_n 3, 1) := by decide +kernel
theorem d_M_proof_29 : decode b_M_proof 29 = .ok (.invokevirtual 88, 3) := by decide +kernel
theorem d_M_proof_32 : decode b_M_proof 32 = .ok (.istore 5, 2) := by decide +kernel
theorem d_M_proof_34 : decode b_M_proof 34 = .ok (.aload_n 0, 1) := by decide +kernel
theorem d_M_proof_35 : decode b_M_proof 35 = .ok (.getfield 36, 3) := by decide +kernel
theorem d_M_proof_38 : decode b_M_proof 38 = .ok (.iload_n 1, 1) := by decide +kernel
theorem d_M_proof_39 : decode b_M_proof 39 = .ok (.laload, 1) := by decide +kernel
theorem d_M_proof_40 : decode b_M_proof 40 = .ok (.lconst 0, 1) := by decide +kernel
theorem d_M_proof_41 : decode b_M_proof 41 = .ok (.lcmp, 1) := by decide +kernel
theorem d_M_proof_42 : decode b_M_proof 42 = .ok (.ifCond .ge 12, 3) := by decide +kernel
theorem d_M_proof_45 : decode b_M_proof 45 = .ok (.aload_n 0, 1) := by decide +kernel
theorem d_M_proof_46 : decode b_M_proof 46 = .ok (.getfield 32, 3) := by decide +kernel
theorem d_M_proof_49 : decode b_M_proof 49 = .ok (.iload_n 1, 1) := by decide +kernel
theorem d_M_proof_50 : decode b_M_proof 50 = .ok (.baload, 1) := by decide +kernel
theorem d_M_proof_51 : decode b_M_proof 51 = .ok (.ifCond .eq 6, 3) := by decide +kernel
theorem d_M_proof_54 : decode b_M_proof 54 = .ok (.bipush (-103), 2) := by decide +kernel
theorem d_M_proof_56 : decode b_M_proof 56 = .ok (.ireturn, 1) := by decide +kernel
theorem d_M_proof_57 : decode b_M_proof 57 = .ok (.aload_n 0, 1) := by decide +kernel
theorem d_M_proof_58 : decode b_M_proof 58 = .ok (.getfield 32, 3) := by decide +kernel
theorem d_M_proof_61 : decode b_M_proof 61 = .ok (.iload_n 1, 1) := by decide +kernel
theorem d_M_proof_62 : decode b_M_proof 62 = .ok (.iload_n 2, 1) := by decide +kernel
theorem d_M_proof_63 : decode b_M_proof 63 = .ok (.bastore, 1) := by decide +kernel
theorem d_M_proof_64 : decode b_M_proof 64 = .ok (.aload_n 0, 1) := by decide +kernel
theorem d_M_proof_65 : decode b_M_proof 65 = .ok (.getfield 36, 3) := by decide +kernel
theorem d_M_proof_68 : decode b_M_proof 68 = .ok (.iload_n 1, 1) := by decide +kernel
theorem d_M_proof_69 : decode b_M_proof 69 = .ok (.iload_n 2, 1) := by decide +kernel
theorem d_M_proof_70 : decode b_M_proof 70 = .ok (.ifCond .eq 9, 3) := by decide +kernel
theorem d_M_proof_73 : decode b_M_proof 73 = .ok (.ldc2_w 70, 3) := by decide +kernel
theorem d_M_proof_76 : decode b_M_proof 76 = .ok (.goto 4, 3) := by decide +kernel
theorem d_M_proof_79 : decode b_M_proof 79 = .ok (.lload_n 3, 1) := by decide +kernel
theorem d_M_proof_80 : decode b_M_proof 80 = .ok (.lastore, 1) := by decide +kernel
theorem d_M_proof_81 : decode b_M_proof 81 = .ok (.iload_n 2, 1) := by decide +kernel
theorem d_M_proof_82 : decode b_M_proof 82 = .ok (.ifCond .eq 7, 3) := by decide +kernel
theorem d_M_proof_85 : decode b_M_proof 85 = .ok (.iconst 1, 1) := by decide +kernel
theorem d_M_proof_86 : decode b_M_proof 86 = .ok (.goto 4, 3) := by decide +kernel
theorem d_M_proof_89 : decode b_M_proof 89 = .ok (.iconst 0, 1) := by decide +kernel
theorem d_M_proof_90 : decode b_M_proof 90 = .ok (.ireturn, 1) := by decide +kernel
theorem d_M_isOrder_0 : decode b_M_isOrder 0 = .ok (.iload_n 1, 1) := by decide +kernel
theorem d_M_isOrder_1 : decode b_M_isOrder 1 = .ok (.i2l, 1) := by decide +kernel
theorem d_M_isOrder_2 : decode b_M_isOrder 2 = .ok (.lconst 1, 1) := by decide +kernel
theorem d_M_isOrder_3 : decode b_M_isOrder 3 = .ok (.aload_n 0, 1) := by decide +kernel
theorem d_M_isOrder_4 : decode b_M_isOrder 4 = .ok (.getfield 55, 3) := by decide +kernel
theorem d_M_isOrder_7 : decode b_M_isOrder 7 = .ok (.i2l, 1) := by decide +kernel
theorem d_M_isOrder_8 : decode b_M_isOrder 8 = .ok (.invokestatic 58, 3) := by decide +kernel
theorem d_M_isOrder_11 : decode b_M_isOrder 11 = .ok (.ireturn, 1) := by decide +kernel
theorem d_M_isDay_0 : decode b_M_isDay 0 = .ok (.lload_n 1, 1) := by decide +kernel
theorem d_M_isDay_1 : decode b_M_isDay 1 = .ok (.aload_n 0, 1) := by decide +kernel
theorem d_M_isDay_2 : decode b_M_isDay 2 = .ok (.getfield 62, 3) := by decide +kernel
theorem d_M_isDay_5 : decode b_M_isDay 5 = .ok (.ldc2_w 66, 3) := by decide +kernel
theorem d_M_isDay_8 : decode b_M_isDay 8 = .ok (.invokestatic 58, 3) := by decide +kernel
theorem d_M_isDay_11 : decode b_M_isDay 11 = .ok (.ireturn, 1) := by decide +kernel
theorem d_M_set_0 : decode b_M_set 0 = .ok (.aload_n 0, 1) := by decide +kernel
theorem d_M_set_1 : decode b_M_set 1 = .ok (.lload_n 1, 1) := by decide +kernel
theorem d_M_set_2 : decode b_M_set 2 = .ok (.putfield 62, 3) := by decide +kernel
theorem d_M_set_5 : decode b_M_set 5 = .ok (.iconst 0, 1) := by decide +kernel
theorem d_M_set_6 : decode b_M_set 6 = .ok (.istore_n 3, 1) := by decide +kernel
theorem d_M_set_7 : decode b_M_set 7 = .ok (.iconst 1, 1) := by decide +kernel
theorem d_M_set_8 : decode b_M_set 8 = .ok (.istore 4, 2) := by decide +kernel
theorem d_M_set_10 : decode b_M_set 10 = .ok (.iload 4, 2) := by decide +kernel
theorem d_M_set_12 : decode b_M_set 12 = .ok (.aload_n 0, 1) := by decide +kernel
theorem d_M_set_13 : decode b_M_set 13 = .ok (.getfield 55, 3) := by decide +kernel
theorem d_M_set_16 : decode b_M_set 16 = .ok (.if_icmp .gt 68, 3) := by decide +kernel
theorem d_M_set_19 : decode b_M_set 19 = .ok (.aload_n 0, 1) := by decide +kernel
theorem d_M_set_20 : decode b_M_set 20 = .ok (.getfield 32, 3) := by decide +kernel
theorem d_M_set_23 : decode b_M_set 23 = .ok (.iload 4, 2) := by decide +kernel
theorem d_M_set_25 : decode b_M_set 25 = .ok (.baload, 1) := by decide +kernel
theorem d_M_set_26 : decode b_M_set 26 = .ok (.ifCond .ne 52, 3) := by decide +kernel
theorem d_M_set_29 : decode b_M_set 29 = .ok (.aload_n 0, 1) := by decide +kernel
theorem d_M_set_30 : decode b_M_set 30 = .ok (.getfield 36, 3) := by decide +kernel
theorem d_M_set_33 : decode b_M_set 33 = .ok (.iload 4, 2) := by decide +kernel
theorem d_M_set_35 : decode b_M_set 35 = .ok (.laload, 1) := by decide +kernel
theorem d_M_set_36 : decode b_M_set 36 = .ok (.lconst 0, 1) := by decide +kernel
theorem d_M_set_37 : decode b_M_set 37 = .ok (.lcmp, 1) := by decide +kernel
theorem d_M_set_38 : decode b_M_set 38 = .ok (.ifCond .ge 40, 3) := by decide +kernel
theorem d_M_set_41 : decode b_M_set 41 = .ok (.lload_n 1, 1) := by decide +kernel
theorem d_M_set_42 : decode b_M_set 42 = .ok (.aload_n 0, 1) := by decide +kernel
theorem d_M_set_43 : decode b_M_set 43 = .ok (.getfield 29, 3) := by decide +kernel
theorem d_M_set_46 : decode b_M_set 46 = .ok (.iload 4, 2) := by decide +kernel
theorem d_M_set_48 : decode b_M_set 48 = .ok (.laload, 1) := by decide +kernel
theorem d_M_set_49 : decode b_M_set 49 = .ok (.lsub, 1) := by decide +kernel
theorem d_M_set_50 : decode b_M_set 50 = .ok (.ldc2_w 76, 3) := by decide +kernel
theorem d_M_set_53 : decode b_M_set 53 = .ok (.lcmp, 1) := by decide +kernel
theorem d_M_set_54 : decode b_M_set 54 = .ok (.ifCond .le 24, 3) := by decide +kernel
theorem d_M_set_57 : decode b_M_set 57 = .ok (.aload_n 0, 1) := by decide +kernel
theorem d_M_set_58 : decode b_M_set 58 = .ok (.getfield 36, 3) := by decide +kernel
theorem d_M_set_61 : decode b_M_set 61 = .ok (.iload 4, 2) := by decide +kernel
theorem d_M_set_63 : decode b_M_set 63 = .ok (.aload_n 0, 1) := by decide +kernel
theorem d_M_set_64 : decode b_M_set 64 = .ok (.getfield 29, 3) := by decide +kernel
theorem d_M_set_67 : decode b_M_set 67 = .ok (.iload 4, 2) := by decide +kernel
theorem d_M_set_69 : decode b_M_set 69 = .ok (.laload, 1) := by decide +kernel
theorem d_M_set_70 : decode b_M_set 70 = .ok (.ldc2_w 78, 3) := by decide +kernel
theorem d_M_set_73 : decode b_M_set 73 = .ok (.ladd, 1) := by decide +kernel
theorem d_M_set_74 : decode b_M_set 74 = .ok (.lastore, 1) := by decide +kernel
theorem d_M_set_75 : decode b_M_set 75 = .ok (.iinc 3 1, 3) := by decide +kernel
theorem d_M_set_78 : decode b_M_set 78 = .ok (.iinc 4 1, 3) := by decide +kernel
theorem d_M_set_81 : decode b_M_set 81 = .ok (.goto (-71), 3) := by decide +kernel
theorem d_M_set_84 : decode b_M_set 84 = .ok (.iload_n 3, 1) := by decide +kernel
theorem d_M_set_85 : decode b_M_set 85 = .ok (.ireturn, 1) := by decide +kernel
theorem d_M_withdraw_0 : decode b_M_withdraw 0 = .ok (.aload_n 0, 1) := by decide +kernel
theorem d_M_withdraw_1 : decode b_M_withdraw 1 = .ok (.iconst 0, 1) := by decide +kernel
theorem d_M_withdraw_2 : decode b_M_withdraw 2 = .ok (.putfield 52, 3) := by decide +kernel
theorem d_M_withdraw_5 : decode b_M_withdraw 5 = .ok (.aload_n 0, 1) := by decide +kernel
theorem d_M_withdraw_6 : decode b_M_withdraw 6 = .ok (.iload_n 1, 1) := by decide +kernel
theorem d_M_withdraw_7 : decode b_M_withdraw 7 = .ok (.invokevirtual 80, 3) := by decide +kernel
theorem d_M_withdraw_10 : decode b_M_withdraw 10 = .ok (.ifCond .ne 6, 3) := by decide +kernel
theorem d_M_withdraw_13 : decode b_M_withdraw 13 = .ok (.bipush (-101), 2) := by decide +kernel
theorem d_M_withdraw_15 : decode b_M_withdraw 15 = .ok (.ireturn, 1) := by decide +kernel
theorem d_M_withdraw_16 : decode b_M_withdraw 16 = .ok (.aload_n 0, 1) := by decide +kernel
theorem d_M_withdraw_17 : decode b_M_withdraw 17 = .ok (.lload_n 2, 1) := by decide +kernel
theorem d_M_withdraw_18 : decode b_M_withdraw 18 = .ok (.invokevirtual 84, 3) := by decide +kernel
theorem d_M_withdraw_21 : decode b_M_withdraw 21 = .ok (.ifCond .ne 6, 3) := by decide +kernel
theorem d_M_withdraw_24 : decode b_M_withdraw 24 = .ok (.bipush (-102), 2) := by decide +kernel
theorem d_M_withdraw_26 : decode b_M_withdraw 26 = .ok (.ireturn, 1) := by decide +kernel
theorem d_M_withdraw_27 : decode b_M_withdraw 27 = .ok (.aload_n 0, 1) := by decide +kernel
theorem d_M_withdraw_28 : decode b_M_withdraw 28 = .ok (.lload_n 2, 1) := by decide +kernel
theorem d_M_withdraw_29 : decode b_M_withdraw 29 = .ok (.invokevirtual 88, 3) := by decide +kernel
theorem d_M_withdraw_32 : decode b_M_withdraw 32 = .ok (.istore 4, 2) := by decide +kernel
theorem d_M_withdraw_34 : decode b_M_withdraw 34 = .ok (.aload_n 0, 1) := by decide +kernel
theorem d_M_withdraw_35 : decode b_M_withdraw 35 = .ok (.getfield 36, 3) := by decide +kernel
theorem d_M_withdraw_38 : decode b_M_withdraw 38 = .ok (.iload_n 1, 1) := by decide +kernel
theorem d_M_withdraw_39 : decode b_M_withdraw 39 = .ok (.laload, 1) := by decide +kernel
theorem d_M_withdraw_40 : decode b_M_withdraw 40 = .ok (.lconst 0, 1) := by decide +kernel
theorem d_M_withdraw_41 : decode b_M_withdraw 41 = .ok (.lcmp, 1) := by decide +kernel
theorem d_M_withdraw_42 : decode b_M_withdraw 42 = .ok (.ifCond .lt 6, 3) := by decide +kernel
theorem d_M_withdraw_45 : decode b_M_withdraw 45 = .ok (.bipush (-103), 2) := by decide +kernel
theorem d_M_withdraw_47 : decode b_M_withdraw 47 = .ok (.ireturn, 1) := by decide +kernel
theorem d_M_withdraw_48 : decode b_M_withdraw 48 = .ok (.iconst 0, 1) := by decide +kernel
theorem d_M_withdraw_49 : decode b_M_withdraw 49 = .ok (.istore 5, 2) := by decide +kernel
theorem d_M_withdraw_51 : decode b_M_withdraw 51 = .ok (.aload_n 0, 1) := by decide +kernel
theorem d_M_withdraw_52 : decode b_M_withdraw 52 = .ok (.getfield 22, 3) := by decide +kernel
theorem d_M_withdraw_55 : decode b_M_withdraw 55 = .ok (.iload_n 1, 1) := by decide +kernel
theorem d_M_withdraw_56 : decode b_M_withdraw 56 = .ok (.laload, 1) := by decide +kernel
theorem d_M_withdraw_57 : decode b_M_withdraw 57 = .ok (.lstore 6, 2) := by decide +kernel
theorem d_M_withdraw_59 : decode b_M_withdraw 59 = .ok (.lload 6, 2) := by decide +kernel
theorem d_M_withdraw_61 : decode b_M_withdraw 61 = .ok (.aload_n 0, 1) := by decide +kernel
theorem d_M_withdraw_62 : decode b_M_withdraw 62 = .ok (.getfield 26, 3) := by decide +kernel
theorem d_M_withdraw_65 : decode b_M_withdraw 65 = .ok (.iload_n 1, 1) := by decide +kernel
theorem d_M_withdraw_66 : decode b_M_withdraw 66 = .ok (.laload, 1) := by decide +kernel
theorem d_M_withdraw_67 : decode b_M_withdraw 67 = .ok (.lcmp, 1) := by decide +kernel
theorem d_M_withdraw_68 : decode b_M_withdraw 68 = .ok (.ifCond .gt 30, 3) := by decide +kernel
theorem d_M_withdraw_71 : decode b_M_withdraw 71 = .ok (.lload 6, 2) := by decide +kernel
theorem d_M_withdraw_73 : decode b_M_withdraw 73 = .ok (.lload_n 2, 1) := by decide +kernel
theorem d_M_withdraw_74 : decode b_M_withdraw 74 = .ok (.lcmp, 1) := by decide +kernel
theorem d_M_withdraw_75 : decode b_M_withdraw 75 = .ok (.ifCond .lt 10, 3) := by decide +kernel
theorem d_M_withdraw_78 : decode b_M_withdraw 78 = .ok (.iload 5, 2) := by decide +kernel
theorem d_M_withdraw_80 : decode b_M_withdraw 80 = .ok (.iconst 1, 1) := by decide +kernel
theorem d_M_withdraw_81 : decode b_M_withdraw 81 = .ok (.iadd, 1) := by decide +kernel
theorem d_M_withdraw_82 : decode b_M_withdraw 82 = .ok (.goto 5, 3) := by decide +kernel
theorem d_M_withdraw_85 : decode b_M_withdraw 85 = .ok (.iload 5, 2) := by decide +kernel
theorem d_M_withdraw_87 : decode b_M_withdraw 87 = .ok (.istore 5, 2) := by decide +kernel
theorem d_M_withdraw_89 : decode b_M_withdraw 89 = .ok (.lload 6, 2) := by decide +kernel
theorem d_M_withdraw_91 : decode b_M_withdraw 91 = .ok (.lconst 1, 1) := by decide +kernel
theorem d_M_withdraw_92 : decode b_M_withdraw 92 = .ok (.ladd, 1) := by decide +kernel
theorem d_M_withdraw_93 : decode b_M_withdraw 93 = .ok (.lstore 6, 2) := by decide +kernel
theorem d_M_withdraw_95 : decode b_M_withdraw 95 = .ok (.goto (-36), 3) := by decide +kernel
theorem d_M_withdraw_98 : decode b_M_withdraw 98 = .ok (.aload_n 0, 1) := by decide +kernel
theorem d_M_withdraw_99 : decode b_M_withdraw 99 = .ok (.getfield 36, 3) := by decide +kernel
theorem d_M_withdraw_102 : decode b_M_withdraw 102 = .ok (.iload_n 1, 1) := by decide +kernel
theorem d_M_withdraw_103 : decode b_M_withdraw 103 = .ok (.lload_n 2, 1) := by decide +kernel
theorem d_M_withdraw_104 : decode b_M_withdraw 104 = .ok (.lastore, 1) := by decide +kernel
theorem d_M_withdraw_105 : decode b_M_withdraw 105 = .ok (.iload 5, 2) := by decide +kernel
theorem d_M_withdraw_107 : decode b_M_withdraw 107 = .ok (.ireturn, 1) := by decide +kernel
theorem d_M_effective_0 : decode b_M_effective 0 = .ok (.aload_n 0, 1) := by decide +kernel
theorem d_M_effective_1 : decode b_M_effective 1 = .ok (.iconst 0, 1) := by decide +kernel
theorem d_M_effective_2 : decode b_M_effective 2 = .ok (.putfield 52, 3) := by decide +kernel
theorem d_M_effective_5 : decode b_M_effective 5 = .ok (.iload_n 1, 1) := by decide +kernel
theorem d_M_effective_6 : decode b_M_effective 6 = .ok (.i2l, 1) := by decide +kernel
theorem d_M_effective_7 : decode b_M_effective 7 = .ok (.lconst 1, 1) := by decide +kernel
theorem d_M_effective_8 : decode b_M_effective 8 = .ok (.ldc2_w 68, 3) := by decide +kernel
theorem d_M_effective_11 : decode b_M_effective 11 = .ok (.invokestatic 58, 3) := by decide +kernel
theorem d_M_effective_14 : decode b_M_effective 14 = .ok (.ifCond .eq 15, 3) := by decide +kernel
theorem d_M_effective_17 : decode b_M_effective 17 = .ok (.iload_n 2, 1) := by decide +kernel
theorem d_M_effective_18 : decode b_M_effective 18 = .ok (.i2l, 1) := by decide +kernel
theorem d_M_effective_19 : decode b_M_effective 19 = .ok (.lconst 0, 1) := by decide +kernel
theorem d_M_effective_20 : decode b_M_effective 20 = .ok (.ldc2_w 72, 3) := by decide +kernel
theorem d_M_effective_23 : decode b_M_effective 23 = .ok (.invokestatic 58, 3) := by decide +kernel
theorem d_M_effective_26 : decode b_M_effective 26 = .ok (.ifCond .ne 6, 3) := by decide +kernel
theorem d_M_effective_29 : decode b_M_effective 29 = .ok (.bipush (-101), 2) := by decide +kernel
theorem d_M_effective_31 : decode b_M_effective 31 = .ok (.ireturn, 1) := by decide +kernel
theorem d_M_effective_32 : decode b_M_effective 32 = .ok (.iload_n 3, 1) := by decide +kernel
theorem d_M_effective_33 : decode b_M_effective 33 = .ok (.i2l, 1) := by decide +kernel
theorem d_M_effective_34 : decode b_M_effective 34 = .ok (.lconst 0, 1) := by decide +kernel
theorem d_M_effective_35 : decode b_M_effective 35 = .ok (.ldc2_w 96, 3) := by decide +kernel
theorem d_M_effective_38 : decode b_M_effective 38 = .ok (.invokestatic 58, 3) := by decide +kernel
theorem d_M_effective_41 : decode b_M_effective 41 = .ok (.ifCond .eq 15, 3) := by decide +kernel
theorem d_M_effective_44 : decode b_M_effective 44 = .ok (.lload 4, 2) := by decide +kernel
theorem d_M_effective_46 : decode b_M_effective 46 = .ok (.lconst 0, 1) := by decide +kernel
theorem d_M_effective_47 : decode b_M_effective 47 = .ok (.ldc2_w 66, 3) := by decide +kernel
theorem d_M_effective_50 : decode b_M_effective 50 = .ok (.invokestatic 58, 3) := by decide +kernel
theorem d_M_effective_53 : decode b_M_effective 53 = .ok (.ifCond .ne 6, 3) := by decide +kernel
theorem d_M_effective_56 : decode b_M_effective 56 = .ok (.bipush (-102), 2) := by decide +kernel
theorem d_M_effective_58 : decode b_M_effective 58 = .ok (.ireturn, 1) := by decide +kernel
theorem d_M_effective_59 : decode b_M_effective 59 = .ok (.aload_n 0, 1) := by decide +kernel
theorem d_M_effective_60 : decode b_M_effective 60 = .ok (.getfield 42, 3) := by decide +kernel
theorem d_M_effective_63 : decode b_M_effective 63 = .ok (.iconst 0, 1) := by decide +kernel
theorem d_M_effective_64 : decode b_M_effective 64 = .ok (.iload_n 1, 1) := by decide +kernel
theorem d_M_effective_65 : decode b_M_effective 65 = .ok (.iastore, 1) := by decide +kernel
theorem d_M_effective_66 : decode b_M_effective 66 = .ok (.iconst 1, 1) := by decide +kernel
theorem d_M_effective_67 : decode b_M_effective 67 = .ok (.istore 6, 2) := by decide +kernel
theorem d_M_effective_69 : decode b_M_effective 69 = .ok (.iload 6, 2) := by decide +kernel
theorem d_M_effective_71 : decode b_M_effective 71 = .ok (.bipush 101, 2) := by decide +kernel
theorem d_M_effective_73 : decode b_M_effective 73 = .ok (.if_icmp .ge 173, 3) := by decide +kernel
theorem d_M_effective_76 : decode b_M_effective 76 = .ok (.aload_n 0, 1) := by decide +kernel
theorem d_M_effective_77 : decode b_M_effective 77 = .ok (.aload_n 0, 1) := by decide +kernel
theorem d_M_effective_78 : decode b_M_effective 78 = .ok (.getfield 42, 3) := by decide +kernel
theorem d_M_effective_81 : decode b_M_effective 81 = .ok (.iload 6, 2) := by decide +kernel
theorem d_M_effective_83 : decode b_M_effective 83 = .ok (.iconst 1, 1) := by decide +kernel
theorem d_M_effective_84 : decode b_M_effective 84 = .ok (.isub, 1) := by decide +kernel
theorem d_M_effective_85 : decode b_M_effective 85 = .ok (.iaload, 1) := by decide +kernel
theorem d_M_effective_86 : decode b_M_effective 86 = .ok (.iload_n 2, 1) := by decide +kernel
theorem d_M_effective_87 : decode b_M_effective 87 = .ok (.iload_n 3, 1) := by decide +kernel
theorem d_M_effective_88 : decode b_M_effective 88 = .ok (.lload 4, 2) := by decide +kernel
theorem d_M_effective_90 : decode b_M_effective 90 = .ok (.invokevirtual 98, 3) := by decide +kernel
theorem d_M_effective_93 : decode b_M_effective 93 = .ok (.istore 7, 2) := by decide +kernel
theorem d_M_effective_95 : decode b_M_effective 95 = .ok (.iload 7, 2) := by decide +kernel
theorem d_M_effective_97 : decode b_M_effective 97 = .ok (.ifCond .eq 14, 3) := by decide +kernel
theorem d_M_effective_100 : decode b_M_effective 100 = .ok (.aload_n 0, 1) := by decide +kernel
theorem d_M_effective_101 : decode b_M_effective 101 = .ok (.getfield 7, 3) := by decide +kernel
theorem d_M_effective_104 : decode b_M_effective 104 = .ok (.iload 7, 2) := by decide +kernel
theorem d_M_effective_106 : decode b_M_effective 106 = .ok (.iaload, 1) := by decide +kernel
theorem d_M_effective_107 : decode b_M_effective 107 = .ok (.iconst 2, 1) := by decide +kernel
theorem d_M_effective_108 : decode b_M_effective 108 = .ok (.if_icmp .le 39, 3) := by decide +kernel
theorem d_M_effective_111 : decode b_M_effective 111 = .ok (.iload 7, 2) := by decide +kernel
theorem d_M_effective_113 : decode b_M_effective 113 = .ok (.ifCond .ne 15, 3) := by decide +kernel
theorem d_M_effective_116 : decode b_M_effective 116 = .ok (.aload_n 0, 1) := by decide +kernel
theorem d_M_effective_117 : decode b_M_effective 117 = .ok (.getfield 42, 3) := by decide +kernel
theorem d_M_effective_120 : decode b_M_effective 120 = .ok (.iload 6, 2) := by decide +kernel
theorem d_M_effective_122 : decode b_M_effective 122 = .ok (.iconst 1, 1) := by decide +kernel
theorem d_M_effective_123 : decode b_M_effective 123 = .ok (.isub, 1) := by decide +kernel
theorem d_M_effective_124 : decode b_M_effective 124 = .ok (.iaload, 1) := by decide +kernel
theorem d_M_effective_125 : decode b_M_effective 125 = .ok (.goto 21, 3) := by decide +kernel
theorem d_M_effective_128 : decode b_M_effective 128 = .ok (.aload_n 0, 1) := by decide +kernel
theorem d_M_effective_129 : decode b_M_effective 129 = .ok (.getfield 7, 3) := by decide +kernel
theorem d_M_effective_132 : decode b_M_effective 132 = .ok (.iload 7, 2) := by decide +kernel
theorem d_M_effective_134 : decode b_M_effective 134 = .ok (.iaload, 1) := by decide +kernel
theorem d_M_effective_135 : decode b_M_effective 135 = .ok (.bipush 6, 2) := by decide +kernel
theorem d_M_effective_137 : decode b_M_effective 137 = .ok (.if_icmp .ge 7, 3) := by decide +kernel
theorem d_M_effective_140 : decode b_M_effective 140 = .ok (.iconst 0, 1) := by decide +kernel
theorem d_M_effective_141 : decode b_M_effective 141 = .ok (.goto 5, 3) := by decide +kernel
theorem d_M_effective_144 : decode b_M_effective 144 = .ok (.bipush (-2), 2) := by decide +kernel
theorem d_M_effective_146 : decode b_M_effective 146 = .ok (.ireturn, 1) := by decide +kernel
theorem d_M_effective_147 : decode b_M_effective 147 = .ok (.aload_n 0, 1) := by decide +kernel
theorem d_M_effective_148 : decode b_M_effective 148 = .ok (.getfield 42, 3) := by decide +kernel
theorem d_M_effective_151 : decode b_M_effective 151 = .ok (.iload 6, 2) := by decide +kernel
theorem d_M_effective_153 : decode b_M_effective 153 = .ok (.aload_n 0, 1) := by decide +kernel
theorem d_M_effective_154 : decode b_M_effective 154 = .ok (.getfield 19, 3) := by decide +kernel
theorem d_M_effective_157 : decode b_M_effective 157 = .ok (.iload 7, 2) := by decide +kernel
theorem d_M_effective_159 : decode b_M_effective 159 = .ok (.iaload, 1) := by decide +kernel
theorem d_M_effective_160 : decode b_M_effective 160 = .ok (.iastore, 1) := by decide +kernel
theorem d_M_effective_161 : decode b_M_effective 161 = .ok (.iconst 0, 1) := by decide +kernel
theorem d_M_effective_162 : decode b_M_effective 162 = .ok (.istore 8, 2) := by decide +kernel
theorem d_M_effective_164 : decode b_M_effective 164 = .ok (.aload_n 0, 1) := by decide +kernel
theorem d_M_effective_165 : decode b_M_effective 165 = .ok (.getfield 42, 3) := by decide +kernel
theorem d_M_effective_168 : decode b_M_effective 168 = .ok (.iload 8, 2) := by decide +kernel
theorem d_M_effective_170 : decode b_M_effective 170 = .ok (.iaload, 1) := by decide +kernel
theorem d_M_effective_171 : decode b_M_effective 171 = .ok (.aload_n 0, 1) := by decide +kernel
theorem d_M_effective_172 : decode b_M_effective 172 = .ok (.getfield 42, 3) := by decide +kernel
theorem d_M_effective_175 : decode b_M_effective 175 = .ok (.iload 6, 2) := by decide +kernel
theorem d_M_effective_177 : decode b_M_effective 177 = .ok (.iaload, 1) := by decide +kernel
theorem d_M_effective_178 : decode b_M_effective 178 = .ok (.if_icmp .eq 9, 3) := by decide +kernel
theorem d_M_effective_181 : decode b_M_effective 181 = .ok (.iinc 8 1, 3) := by decide +kernel
theorem d_M_effective_184 : decode b_M_effective 184 = .ok (.goto (-20), 3) := by decide +kernel
theorem d_M_effective_187 : decode b_M_effective 187 = .ok (.iload 8, 2) := by decide +kernel
theorem d_M_effective_189 : decode b_M_effective 189 = .ok (.iload 6, 2) := by decide +kernel
theorem d_M_effective_191 : decode b_M_effective 191 = .ok (.if_icmp .ge 49, 3) := by decide +kernel
theorem d_M_effective_194 : decode b_M_effective 194 = .ok (.aload_n 0, 1) := by decide +kernel
theorem d_M_effective_195 : decode b_M_effective 195 = .ok (.iload 6, 2) := by decide +kernel
theorem d_M_effective_197 : decode b_M_effective 197 = .ok (.iload 8, 2) := by decide +kernel
theorem d_M_effective_199 : decode b_M_effective 199 = .ok (.isub, 1) := by decide +kernel
theorem d_M_effective_200 : decode b_M_effective 200 = .ok (.putfield 48, 3) := by decide +kernel
theorem d_M_effective_203 : decode b_M_effective 203 = .ok (.iconst 0, 1) := by decide +kernel
theorem d_M_effective_204 : decode b_M_effective 204 = .ok (.istore 9, 2) := by decide +kernel
theorem d_M_effective_206 : decode b_M_effective 206 = .ok (.iload 9, 2) := by decide +kernel
theorem d_M_effective_208 : decode b_M_effective 208 = .ok (.aload_n 0, 1) := by decide +kernel
theorem d_M_effective_209 : decode b_M_effective 209 = .ok (.getfield 48, 3) := by decide +kernel
theorem d_M_effective_212 : decode b_M_effective 212 = .ok (.if_icmp .ge 26, 3) := by decide +kernel
theorem d_M_effective_215 : decode b_M_effective 215 = .ok (.aload_n 0, 1) := by decide +kernel
theorem d_M_effective_216 : decode b_M_effective 216 = .ok (.getfield 45, 3) := by decide +kernel
theorem d_M_effective_219 : decode b_M_effective 219 = .ok (.iload 9, 2) := by decide +kernel
theorem d_M_effective_221 : decode b_M_effective 221 = .ok (.aload_n 0, 1) := by decide +kernel
theorem d_M_effective_222 : decode b_M_effective 222 = .ok (.getfield 42, 3) := by decide +kernel
theorem d_M_effective_225 : decode b_M_effective 225 = .ok (.iload 8, 2) := by decide +kernel
theorem d_M_effective_227 : decode b_M_effective 227 = .ok (.iload 9, 2) := by decide +kernel
theorem d_M_effective_229 : decode b_M_effective 229 = .ok (.iadd, 1) := by decide +kernel
theorem d_M_effective_230 : decode b_M_effective 230 = .ok (.iaload, 1) := by decide +kernel
theorem d_M_effective_231 : decode b_M_effective 231 = .ok (.iastore, 1) := by decide +kernel
theorem d_M_effective_232 : decode b_M_effective 232 = .ok (.iinc 9 1, 3) := by decide +kernel
theorem d_M_effective_235 : decode b_M_effective 235 = .ok (.goto (-29), 3) := by decide +kernel
theorem d_M_effective_238 : decode b_M_effective 238 = .ok (.iconst (-1), 1) := by decide +kernel
theorem d_M_effective_239 : decode b_M_effective 239 = .ok (.ireturn, 1) := by decide +kernel
theorem d_M_effective_240 : decode b_M_effective 240 = .ok (.iinc 6 1, 3) := by decide +kernel
theorem d_M_effective_243 : decode b_M_effective 243 = .ok (.goto (-174), 3) := by decide +kernel
theorem d_M_effective_246 : decode b_M_effective 246 = .ok (.iconst (-1), 1) := by decide +kernel
theorem d_M_effective_247 : decode b_M_effective 247 = .ok (.ireturn, 1) := by decide +kernel
theorem d_M_find_0 : decode b_M_find 0 = .ok (.iconst 0, 1) := by decide +kernel
theorem d_M_find_1 : decode b_M_find 1 = .ok (.istore 6, 2) := by decide +kernel
theorem d_M_find_3 : decode b_M_find 3 = .ok (.aload_n 0, 1) := by decide +kernel
theorem d_M_find_4 : decode b_M_find 4 = .ok (.getfield 55, 3) := by decide +kernel
theorem d_M_find_7 : decode b_M_find 7 = .ok (.istore 7, 2) := by decide +kernel
theorem d_M_find_9 : decode b_M_find 9 = .ok (.iload 7, 2) := by decide +kernel
theorem d_M_find_11 : decode b_M_find 11 = .ok (.ifCond .le 118, 3) := by decide +kernel
theorem d_M_find_14 : decode b_M_find 14 = .ok (.aload_n 0, 1) := by decide +kernel
theorem d_M_find_15 : decode b_M_find 15 = .ok (.getfield 13, 3) := by decide +kernel
theorem d_M_find_18 : decode b_M_find 18 = .ok (.iload 7, 2) := by decide +kernel
theorem d_M_find_20 : decode b_M_find 20 = .ok (.iaload, 1) := by decide +kernel
theorem d_M_find_21 : decode b_M_find 21 = .ok (.iload_n 1, 1) := by decide +kernel
theorem d_M_find_22 : decode b_M_find 22 = .ok (.if_icmp .ne 52, 3) := by decide +kernel
theorem d_M_find_25 : decode b_M_find 25 = .ok (.aload_n 0, 1) := by decide +kernel
theorem d_M_find_26 : decode b_M_find 26 = .ok (.getfield 16, 3) := by decide +kernel
theorem d_M_find_29 : decode b_M_find 29 = .ok (.iload 7, 2) := by decide +kernel
theorem d_M_find_31 : decode b_M_find 31 = .ok (.iaload, 1) := by decide +kernel
theorem d_M_find_32 : decode b_M_find 32 = .ok (.ifCond .lt 14, 3) := by decide +kernel
theorem d_M_find_35 : decode b_M_find 35 = .ok (.aload_n 0, 1) := by decide +kernel
theorem d_M_find_36 : decode b_M_find 36 = .ok (.getfield 16, 3) := by decide +kernel
theorem d_M_find_39 : decode b_M_find 39 = .ok (.iload 7, 2) := by decide +kernel
theorem d_M_find_41 : decode b_M_find 41 = .ok (.iaload, 1) := by decide +kernel
theorem d_M_find_42 : decode b_M_find 42 = .ok (.iload_n 2, 1) := by decide +kernel
theorem d_M_find_43 : decode b_M_find 43 = .ok (.if_icmp .ne 31, 3) := by decide +kernel
theorem d_M_find_46 : decode b_M_find 46 = .ok (.aload_n 0, 1) := by decide +kernel
theorem d_M_find_47 : decode b_M_find 47 = .ok (.getfield 7, 3) := by decide +kernel
theorem d_M_find_50 : decode b_M_find 50 = .ok (.iload 7, 2) := by decide +kernel
theorem d_M_find_52 : decode b_M_find 52 = .ok (.iaload, 1) := by decide +kernel
theorem d_M_find_53 : decode b_M_find 53 = .ok (.iconst 3, 1) := by decide +kernel
theorem d_M_find_54 : decode b_M_find 54 = .ok (.irem, 1) := by decide +kernel
theorem d_M_find_55 : decode b_M_find 55 = .ok (.iload_n 3, 1) := by decide +kernel
theorem d_M_find_56 : decode b_M_find 56 = .ok (.if_icmp .ne 18, 3) := by decide +kernel
theorem d_M_find_59 : decode b_M_find 59 = .ok (.aload_n 0, 1) := by decide +kernel
theorem d_M_find_60 : decode b_M_find 60 = .ok (.iload 7, 2) := by decide +kernel
theorem d_M_find_62 : decode b_M_find 62 = .ok (.lload 4, 2) := by decide +kernel
theorem d_M_find_64 : decode b_M_find 64 = .ok (.invokevirtual 92, 3) := by decide +kernel
theorem d_M_find_67 : decode b_M_find 67 = .ok (.ifCond .eq 7, 3) := by decide +kernel
theorem d_M_find_70 : decode b_M_find 70 = .ok (.iconst 1, 1) := by decide +kernel
theorem d_M_find_71 : decode b_M_find 71 = .ok (.goto 4, 3) := by decide +kernel
theorem d_M_find_74 : decode b_M_find 74 = .ok (.iconst 0, 1) := by decide +kernel
theorem d_M_find_75 : decode b_M_find 75 = .ok (.istore 8, 2) := by decide +kernel
theorem d_M_find_77 : decode b_M_find 77 = .ok (.iload 8, 2) := by decide +kernel
theorem d_M_find_79 : decode b_M_find 79 = .ok (.ifCond .eq 40, 3) := by decide +kernel
theorem d_M_find_82 : decode b_M_find 82 = .ok (.iload 6, 2) := by decide +kernel
theorem d_M_find_84 : decode b_M_find 84 = .ok (.ifCond .eq 30, 3) := by decide +kernel
theorem d_M_find_87 : decode b_M_find 87 = .ok (.aload_n 0, 1) := by decide +kernel
theorem d_M_find_88 : decode b_M_find 88 = .ok (.getfield 39, 3) := by decide +kernel
theorem d_M_find_91 : decode b_M_find 91 = .ok (.aload_n 0, 1) := by decide +kernel
theorem d_M_find_92 : decode b_M_find 92 = .ok (.getfield 7, 3) := by decide +kernel
theorem d_M_find_95 : decode b_M_find 95 = .ok (.iload 7, 2) := by decide +kernel
theorem d_M_find_97 : decode b_M_find 97 = .ok (.iaload, 1) := by decide +kernel
theorem d_M_find_98 : decode b_M_find 98 = .ok (.iaload, 1) := by decide +kernel
theorem d_M_find_99 : decode b_M_find 99 = .ok (.aload_n 0, 1) := by decide +kernel
theorem d_M_find_100 : decode b_M_find 100 = .ok (.getfield 39, 3) := by decide +kernel
theorem d_M_find_103 : decode b_M_find 103 = .ok (.aload_n 0, 1) := by decide +kernel
theorem d_M_find_104 : decode b_M_find 104 = .ok (.getfield 7, 3) := by decide +kernel
theorem d_M_find_107 : decode b_M_find 107 = .ok (.iload 6, 2) := by decide +kernel
theorem d_M_find_109 : decode b_M_find 109 = .ok (.iaload, 1) := by decide +kernel
theorem d_M_find_110 : decode b_M_find 110 = .ok (.iaload, 1) := by decide +kernel
theorem d_M_find_111 : decode b_M_find 111 = .ok (.if_icmp .le 8, 3) := by decide +kernel
theorem d_M_find_114 : decode b_M_find 114 = .ok (.iload 7, 2) := by decide +kernel
theorem d_M_find_116 : decode b_M_find 116 = .ok (.goto 5, 3) := by decide +kernel
theorem d_M_find_119 : decode b_M_find 119 = .ok (.iload 6, 2) := by decide +kernel
theorem d_M_find_121 : decode b_M_find 121 = .ok (.istore 6, 2) := by decide +kernel
theorem d_M_find_123 : decode b_M_find 123 = .ok (.iinc 7 (-1), 3) := by decide +kernel
theorem d_M_find_126 : decode b_M_find 126 = .ok (.goto (-117), 3) := by decide +kernel
theorem d_M_find_129 : decode b_M_find 129 = .ok (.iload 6, 2) := by decide +kernel
theorem d_M_find_131 : decode b_M_find 131 = .ok (.ireturn, 1) := by decide +kernel
theorem d_M_isForce_0 : decode b_M_isForce 0 = .ok (.lload_n 2, 1) := by decide +kernel
theorem d_M_isForce_1 : decode b_M_isForce 1 = .ok (.aload_n 0, 1) := by decide +kernel
theorem d_M_isForce_2 : decode b_M_isForce 2 = .ok (.getfield 22, 3) := by decide +kernel
theorem d_M_isForce_5 : decode b_M_isForce 5 = .ok (.iload_n 1, 1) := by decide +kernel
theorem d_M_isForce_6 : decode b_M_isForce 6 = .ok (.laload, 1) := by decide +kernel
theorem d_M_isForce_7 : decode b_M_isForce 7 = .ok (.aload_n 0, 1) := by decide +kernel
theorem d_M_isForce_8 : decode b_M_isForce 8 = .ok (.getfield 26, 3) := by decide +kernel
theorem d_M_isForce_11 : decode b_M_isForce 11 = .ok (.iload_n 1, 1) := by decide +kernel
theorem d_M_isForce_12 : decode b_M_isForce 12 = .ok (.laload, 1) := by decide +kernel
theorem d_M_isForce_13 : decode b_M_isForce 13 = .ok (.invokestatic 58, 3) := by decide +kernel
theorem d_M_isForce_16 : decode b_M_isForce 16 = .ok (.ifCond .eq 29, 3) := by decide +kernel
theorem d_M_isForce_19 : decode b_M_isForce 19 = .ok (.aload_n 0, 1) := by decide +kernel
theorem d_M_isForce_20 : decode b_M_isForce 20 = .ok (.getfield 36, 3) := by decide +kernel
theorem d_M_isForce_23 : decode b_M_isForce 23 = .ok (.iload_n 1, 1) := by decide +kernel
theorem d_M_isForce_24 : decode b_M_isForce 24 = .ok (.laload, 1) := by decide +kernel
theorem d_M_isForce_25 : decode b_M_isForce 25 = .ok (.lconst 0, 1) := by decide +kernel
theorem d_M_isForce_26 : decode b_M_isForce 26 = .ok (.lcmp, 1) := by decide +kernel
theorem d_M_isForce_27 : decode b_M_isForce 27 = .ok (.ifCond .lt 14, 3) := by decide +kernel
theorem d_M_isForce_30 : decode b_M_isForce 30 = .ok (.lload_n 2, 1) := by decide +kernel
theorem d_M_isForce_31 : decode b_M_isForce 31 = .ok (.aload_n 0, 1) := by decide +kernel
theorem d_M_isForce_32 : decode b_M_isForce 32 = .ok (.getfield 36, 3) := by decide +kernel
theorem d_M_isForce_35 : decode b_M_isForce 35 = .ok (.iload_n 1, 1) := by decide +kernel
theorem d_M_isForce_36 : decode b_M_isForce 36 = .ok (.laload, 1) := by decide +kernel
theorem d_M_isForce_37 : decode b_M_isForce 37 = .ok (.lcmp, 1) := by decide +kernel
theorem d_M_isForce_38 : decode b_M_isForce 38 = .ok (.ifCond .ge 7, 3) := by decide +kernel
theorem d_M_isForce_41 : decode b_M_isForce 41 = .ok (.iconst 1, 1) := by decide +kernel
theorem d_M_isForce_42 : decode b_M_isForce 42 = .ok (.goto 4, 3) := by decide +kernel
theorem d_M_isForce_45 : decode b_M_isForce 45 = .ok (.iconst 0, 1) := by decide +kernel
theorem d_M_isForce_46 : decode b_M_isForce 46 = .ok (.ireturn, 1) := by decide +kernel
theorem d_M_ring_0 : decode b_M_ring 0 = .ok (.aload_n 0, 1) := by decide +kernel
theorem d_M_ring_1 : decode b_M_ring 1 = .ok (.iconst 0, 1) := by decide +kernel
theorem d_M_ring_2 : decode b_M_ring 2 = .ok (.putfield 52, 3) := by decide +kernel
theorem d_M_ring_5 : decode b_M_ring 5 = .ok (.iload_n 1, 1) := by decide +kernel
theorem d_M_ring_6 : decode b_M_ring 6 = .ok (.ifCond .lt 20, 3) := by decide +kernel
theorem d_M_ring_9 : decode b_M_ring 9 = .ok (.iload_n 1, 1) := by decide +kernel
theorem d_M_ring_10 : decode b_M_ring 10 = .ok (.aload_n 0, 1) := by decide +kernel
theorem d_M_ring_11 : decode b_M_ring 11 = .ok (.getfield 48, 3) := by decide +kernel
theorem d_M_ring_14 : decode b_M_ring 14 = .ok (.if_icmp .ge 12, 3) := by decide +kernel
theorem d_M_ring_17 : decode b_M_ring 17 = .ok (.aload_n 0, 1) := by decide +kernel
theorem d_M_ring_18 : decode b_M_ring 18 = .ok (.getfield 45, 3) := by decide +kernel
theorem d_M_ring_21 : decode b_M_ring 21 = .ok (.iload_n 1, 1) := by decide +kernel
theorem d_M_ring_22 : decode b_M_ring 22 = .ok (.iaload, 1) := by decide +kernel
theorem d_M_ring_23 : decode b_M_ring 23 = .ok (.goto 4, 3) := by decide +kernel
theorem d_M_ring_26 : decode b_M_ring 26 = .ok (.iconst 0, 1) := by decide +kernel
theorem d_M_ring_27 : decode b_M_ring 27 = .ok (.ireturn, 1) := by decide +kernel
theorem d_M_rank_0 : decode b_M_rank 0 = .ok (.aload_n 0, 1) := by decide +kernel
theorem d_M_rank_1 : decode b_M_rank 1 = .ok (.iconst 0, 1) := by decide +kernel
theorem d_M_rank_2 : decode b_M_rank 2 = .ok (.putfield 52, 3) := by decide +kernel
theorem d_M_rank_5 : decode b_M_rank 5 = .ok (.iload_n 1, 1) := by decide +kernel
theorem d_M_rank_6 : decode b_M_rank 6 = .ok (.i2l, 1) := by decide +kernel
theorem d_M_rank_7 : decode b_M_rank 7 = .ok (.lconst 0, 1) := by decide +kernel
theorem d_M_rank_8 : decode b_M_rank 8 = .ok (.ldc2_w 74, 3) := by decide +kernel
theorem d_M_rank_11 : decode b_M_rank 11 = .ok (.invokestatic 58, 3) := by decide +kernel
theorem d_M_rank_14 : decode b_M_rank 14 = .ok (.ifCond .eq 15, 3) := by decide +kernel
theorem d_M_rank_17 : decode b_M_rank 17 = .ok (.iload_n 2, 1) := by decide +kernel
theorem d_M_rank_18 : decode b_M_rank 18 = .ok (.i2l, 1) := by decide +kernel
theorem d_M_rank_19 : decode b_M_rank 19 = .ok (.lconst 0, 1) := by decide +kernel
theorem d_M_rank_20 : decode b_M_rank 20 = .ok (.ldc2_w 102, 3) := by decide +kernel
theorem d_M_rank_23 : decode b_M_rank 23 = .ok (.invokestatic 58, 3) := by decide +kernel
theorem d_M_rank_26 : decode b_M_rank 26 = .ok (.ifCond .ne 6, 3) := by decide +kernel
theorem d_M_rank_29 : decode b_M_rank 29 = .ok (.bipush (-102), 2) := by decide +kernel
theorem d_M_rank_31 : decode b_M_rank 31 = .ok (.ireturn, 1) := by decide +kernel
theorem d_M_rank_32 : decode b_M_rank 32 = .ok (.aload_n 0, 1) := by decide +kernel
theorem d_M_rank_33 : decode b_M_rank 33 = .ok (.getfield 39, 3) := by decide +kernel
theorem d_M_rank_36 : decode b_M_rank 36 = .ok (.iload_n 1, 1) := by decide +kernel
theorem d_M_rank_37 : decode b_M_rank 37 = .ok (.iaload, 1) := by decide +kernel
theorem d_M_rank_38 : decode b_M_rank 38 = .ok (.istore_n 3, 1) := by decide +kernel
theorem d_M_rank_39 : decode b_M_rank 39 = .ok (.aload_n 0, 1) := by decide +kernel
theorem d_M_rank_40 : decode b_M_rank 40 = .ok (.getfield 39, 3) := by decide +kernel
theorem d_M_rank_43 : decode b_M_rank 43 = .ok (.iload_n 1, 1) := by decide +kernel
theorem d_M_rank_44 : decode b_M_rank 44 = .ok (.iload_n 2, 1) := by decide +kernel
theorem d_M_rank_45 : decode b_M_rank 45 = .ok (.iastore, 1) := by decide +kernel
theorem d_M_rank_46 : decode b_M_rank 46 = .ok (.iload_n 3, 1) := by decide +kernel
theorem d_M_rank_47 : decode b_M_rank 47 = .ok (.ireturn, 1) := by decide +kernel
theorem d_M_tick_0 : decode b_M_tick 0 = .ok (.aload_n 0, 1) := by decide +kernel
theorem d_M_tick_1 : decode b_M_tick 1 = .ok (.iconst 0, 1) := by decide +kernel
theorem d_M_tick_2 : decode b_M_tick 2 = .ok (.putfield 52, 3) := by decide +kernel
theorem d_M_tick_5 : decode b_M_tick 5 = .ok (.aload_n 0, 1) := by decide +kernel
theorem d_M_tick_6 : decode b_M_tick 6 = .ok (.lload_n 1, 1) := by decide +kernel
theorem d_M_tick_7 : decode b_M_tick 7 = .ok (.invokevirtual 84, 3) := by decide +kernel
theorem d_M_tick_10 : decode b_M_tick 10 = .ok (.ifCond .eq 11, 3) := by decide +kernel
theorem d_M_tick_13 : decode b_M_tick 13 = .ok (.aload_n 0, 1) := by decide +kernel
theorem d_M_tick_14 : decode b_M_tick 14 = .ok (.lload_n 1, 1) := by decide +kernel
theorem d_M_tick_15 : decode b_M_tick 15 = .ok (.invokevirtual 88, 3) := by decide +kernel
theorem d_M_tick_18 : decode b_M_tick 18 = .ok (.goto 5, 3) := by decide +kernel
theorem d_M_tick_21 : decode b_M_tick 21 = .ok (.bipush (-102), 2) := by decide +kernel
theorem d_M_tick_23 : decode b_M_tick 23 = .ok (.ireturn, 1) := by decide +kernel
theorem d_M_extend_0 : decode b_M_extend 0 = .ok (.aload_n 0, 1) := by decide +kernel
theorem d_M_extend_1 : decode b_M_extend 1 = .ok (.iconst 0, 1) := by decide +kernel
theorem d_M_extend_2 : decode b_M_extend 2 = .ok (.putfield 52, 3) := by decide +kernel
theorem d_M_extend_5 : decode b_M_extend 5 = .ok (.aload_n 0, 1) := by decide +kernel
theorem d_M_extend_6 : decode b_M_extend 6 = .ok (.iload_n 1, 1) := by decide +kernel
theorem d_M_extend_7 : decode b_M_extend 7 = .ok (.invokevirtual 80, 3) := by decide +kernel
theorem d_M_extend_10 : decode b_M_extend 10 = .ok (.ifCond .ne 6, 3) := by decide +kernel
theorem d_M_extend_13 : decode b_M_extend 13 = .ok (.bipush (-101), 2) := by decide +kernel
theorem d_M_extend_15 : decode b_M_extend 15 = .ok (.ireturn, 1) := by decide +kernel
theorem d_M_extend_16 : decode b_M_extend 16 = .ok (.lload_n 2, 1) := by decide +kernel
theorem d_M_extend_17 : decode b_M_extend 17 = .ok (.lconst 0, 1) := by decide +kernel
theorem d_M_extend_18 : decode b_M_extend 18 = .ok (.ldc2_w 66, 3) := by decide +kernel
theorem d_M_extend_21 : decode b_M_extend 21 = .ok (.invokestatic 58, 3) := by decide +kernel
theorem d_M_extend_24 : decode b_M_extend 24 = .ok (.ifCond .ne 6, 3) := by decide +kernel
theorem d_M_extend_27 : decode b_M_extend 27 = .ok (.bipush (-102), 2) := by decide +kernel
theorem d_M_extend_29 : decode b_M_extend 29 = .ok (.ireturn, 1) := by decide +kernel
theorem d_M_extend_30 : decode b_M_extend 30 = .ok (.aload_n 0, 1) := by decide +kernel
theorem d_M_extend_31 : decode b_M_extend 31 = .ok (.getfield 36, 3) := by decide +kernel
theorem d_M_extend_34 : decode b_M_extend 34 = .ok (.iload_n 1, 1) := by decide +kernel
theorem d_M_extend_35 : decode b_M_extend 35 = .ok (.laload, 1) := by decide +kernel
theorem d_M_extend_36 : decode b_M_extend 36 = .ok (.lconst 0, 1) := by decide +kernel
theorem d_M_extend_37 : decode b_M_extend 37 = .ok (.lcmp, 1) := by decide +kernel
theorem d_M_extend_38 : decode b_M_extend 38 = .ok (.ifCond .lt 6, 3) := by decide +kernel
theorem d_M_extend_41 : decode b_M_extend 41 = .ok (.bipush (-103), 2) := by decide +kernel
theorem d_M_extend_43 : decode b_M_extend 43 = .ok (.ireturn, 1) := by decide +kernel
theorem d_M_extend_44 : decode b_M_extend 44 = .ok (.lload_n 2, 1) := by decide +kernel
theorem d_M_extend_45 : decode b_M_extend 45 = .ok (.aload_n 0, 1) := by decide +kernel
theorem d_M_extend_46 : decode b_M_extend 46 = .ok (.getfield 26, 3) := by decide +kernel
theorem d_M_extend_49 : decode b_M_extend 49 = .ok (.iload_n 1, 1) := by decide +kernel
theorem d_M_extend_50 : decode b_M_extend 50 = .ok (.laload, 1) := by decide +kernel
theorem d_M_extend_51 : decode b_M_extend 51 = .ok (.lcmp, 1) := by decide +kernel
theorem d_M_extend_52 : decode b_M_extend 52 = .ok (.ifCond .le 7, 3) := by decide +kernel
theorem d_M_extend_55 : decode b_M_extend 55 = .ok (.iconst 1, 1) := by decide +kernel
theorem d_M_extend_56 : decode b_M_extend 56 = .ok (.goto 4, 3) := by decide +kernel
theorem d_M_extend_59 : decode b_M_extend 59 = .ok (.iconst 0, 1) := by decide +kernel
theorem d_M_extend_60 : decode b_M_extend 60 = .ok (.istore 4, 2) := by decide +kernel
theorem d_M_extend_62 : decode b_M_extend 62 = .ok (.aload_n 0, 1) := by decide +kernel
theorem d_M_extend_63 : decode b_M_extend 63 = .ok (.getfield 26, 3) := by decide +kernel
theorem d_M_extend_66 : decode b_M_extend 66 = .ok (.iload_n 1, 1) := by decide +kernel
theorem d_M_extend_67 : decode b_M_extend 67 = .ok (.iload 4, 2) := by decide +kernel
theorem d_M_extend_69 : decode b_M_extend 69 = .ok (.ifCond .eq 7, 3) := by decide +kernel
theorem d_M_extend_72 : decode b_M_extend 72 = .ok (.lload_n 2, 1) := by decide +kernel
theorem d_M_extend_73 : decode b_M_extend 73 = .ok (.goto 9, 3) := by decide +kernel
theorem d_M_extend_76 : decode b_M_extend 76 = .ok (.aload_n 0, 1) := by decide +kernel
theorem d_M_extend_77 : decode b_M_extend 77 = .ok (.getfield 26, 3) := by decide +kernel
theorem d_M_extend_80 : decode b_M_extend 80 = .ok (.iload_n 1, 1) := by decide +kernel
theorem d_M_extend_81 : decode b_M_extend 81 = .ok (.laload, 1) := by decide +kernel
theorem d_M_extend_82 : decode b_M_extend 82 = .ok (.lastore, 1) := by decide +kernel
theorem d_M_extend_83 : decode b_M_extend 83 = .ok (.iload 4, 2) := by decide +kernel
theorem d_M_extend_85 : decode b_M_extend 85 = .ok (.ifCond .eq 7, 3) := by decide +kernel
theorem d_M_extend_88 : decode b_M_extend 88 = .ok (.iconst 1, 1) := by decide +kernel
theorem d_M_extend_89 : decode b_M_extend 89 = .ok (.goto 4, 3) := by decide +kernel
theorem d_M_extend_92 : decode b_M_extend 92 = .ok (.iconst 0, 1) := by decide +kernel
theorem d_M_extend_93 : decode b_M_extend 93 = .ok (.ireturn, 1) := by decide +kernel
theorem d_M_told_0 : decode b_M_told 0 = .ok (.aload_n 0, 1) := by decide +kernel
theorem d_M_told_1 : decode b_M_told 1 = .ok (.iconst 0, 1) := by decide +kernel
theorem d_M_told_2 : decode b_M_told 2 = .ok (.putfield 52, 3) := by decide +kernel
theorem d_M_told_5 : decode b_M_told 5 = .ok (.iload_n 1, 1) := by decide +kernel
theorem d_M_told_6 : decode b_M_told 6 = .ok (.i2l, 1) := by decide +kernel
theorem d_M_told_7 : decode b_M_told 7 = .ok (.lconst 0, 1) := by decide +kernel
theorem d_M_told_8 : decode b_M_told 8 = .ok (.ldc2_w 72, 3) := by decide +kernel
theorem d_M_told_11 : decode b_M_told 11 = .ok (.invokestatic 58, 3) := by decide +kernel
theorem d_M_told_14 : decode b_M_told 14 = .ok (.ifCond .ne 6, 3) := by decide +kernel
theorem d_M_told_17 : decode b_M_told 17 = .ok (.bipush (-101), 2) := by decide +kernel
theorem d_M_told_19 : decode b_M_told 19 = .ok (.ireturn, 1) := by decide +kernel
theorem d_M_told_20 : decode b_M_told 20 = .ok (.iconst 0, 1) := by decide +kernel
theorem d_M_told_21 : decode b_M_told 21 = .ok (.istore_n 3, 1) := by decide +kernel
theorem d_M_told_22 : decode b_M_told 22 = .ok (.iconst 1, 1) := by decide +kernel
theorem d_M_told_23 : decode b_M_told 23 = .ok (.istore 4, 2) := by decide +kernel
theorem d_M_told_25 : decode b_M_told 25 = .ok (.iload 4, 2) := by decide +kernel
theorem d_M_told_27 : decode b_M_told 27 = .ok (.aload_n 0, 1) := by decide +kernel
theorem d_M_told_28 : decode b_M_told 28 = .ok (.getfield 55, 3) := by decide +kernel
theorem d_M_told_31 : decode b_M_told 31 = .ok (.if_icmp .gt 87, 3) := by decide +kernel
theorem d_M_told_34 : decode b_M_told 34 = .ok (.aload_n 0, 1) := by decide +kernel
theorem d_M_told_35 : decode b_M_told 35 = .ok (.getfield 16, 3) := by decide +kernel
theorem d_M_told_38 : decode b_M_told 38 = .ok (.iload 4, 2) := by decide +kernel
theorem d_M_told_40 : decode b_M_told 40 = .ok (.iaload, 1) := by decide +kernel
theorem d_M_told_41 : decode b_M_told 41 = .ok (.iload_n 1, 1) := by decide +kernel
theorem d_M_told_42 : decode b_M_told 42 = .ok (.if_icmp .ne 41, 3) := by decide +kernel
theorem d_M_told_45 : decode b_M_told 45 = .ok (.aload_n 0, 1) := by decide +kernel
theorem d_M_told_46 : decode b_M_told 46 = .ok (.getfield 32, 3) := by decide +kernel
theorem d_M_told_49 : decode b_M_told 49 = .ok (.iload 4, 2) := by decide +kernel
theorem d_M_told_51 : decode b_M_told 51 = .ok (.baload, 1) := by decide +kernel
theorem d_M_told_52 : decode b_M_told 52 = .ok (.ifCond .eq 31, 3) := by decide +kernel
theorem d_M_told_55 : decode b_M_told 55 = .ok (.aload_n 0, 1) := by decide +kernel
theorem d_M_told_56 : decode b_M_told 56 = .ok (.getfield 7, 3) := by decide +kernel
theorem d_M_told_59 : decode b_M_told 59 = .ok (.iload 4, 2) := by decide +kernel
theorem d_M_told_61 : decode b_M_told 61 = .ok (.iaload, 1) := by decide +kernel
theorem d_M_told_62 : decode b_M_told 62 = .ok (.iconst 3, 1) := by decide +kernel
theorem d_M_told_63 : decode b_M_told 63 = .ok (.if_icmp .ge 20, 3) := by decide +kernel
theorem d_M_told_66 : decode b_M_told 66 = .ok (.aload_n 0, 1) := by decide +kernel
theorem d_M_told_67 : decode b_M_told 67 = .ok (.iload 4, 2) := by decide +kernel
theorem d_M_told_69 : decode b_M_told 69 = .ok (.aload_n 0, 1) := by decide +kernel
theorem d_M_told_70 : decode b_M_told 70 = .ok (.getfield 62, 3) := by decide +kernel
theorem d_M_told_73 : decode b_M_told 73 = .ok (.invokevirtual 92, 3) := by decide +kernel
theorem d_M_told_76 : decode b_M_told 76 = .ok (.ifCond .eq 7, 3) := by decide +kernel
theorem d_M_told_79 : decode b_M_told 79 = .ok (.iconst 1, 1) := by decide +kernel
theorem d_M_told_80 : decode b_M_told 80 = .ok (.goto 4, 3) := by decide +kernel
theorem d_M_told_83 : decode b_M_told 83 = .ok (.iconst 0, 1) := by decide +kernel
theorem d_M_told_84 : decode b_M_told 84 = .ok (.istore 5, 2) := by decide +kernel
theorem d_M_told_86 : decode b_M_told 86 = .ok (.iload 5, 2) := by decide +kernel
theorem d_M_told_88 : decode b_M_told 88 = .ok (.ifCond .eq 11, 3) := by decide +kernel
theorem d_M_told_91 : decode b_M_told 91 = .ok (.iload_n 3, 1) := by decide +kernel
theorem d_M_told_92 : decode b_M_told 92 = .ok (.iload_n 2, 1) := by decide +kernel
theorem d_M_told_93 : decode b_M_told 93 = .ok (.if_icmp .ne 6, 3) := by decide +kernel
theorem d_M_told_96 : decode b_M_told 96 = .ok (.iload 4, 2) := by decide +kernel
theorem d_M_told_98 : decode b_M_told 98 = .ok (.ireturn, 1) := by decide +kernel
theorem d_M_told_99 : decode b_M_told 99 = .ok (.iload 5, 2) := by decide +kernel
theorem d_M_told_101 : decode b_M_told 101 = .ok (.ifCond .eq 9, 3) := by decide +kernel
theorem d_M_told_104 : decode b_M_told 104 = .ok (.iload_n 3, 1) := by decide +kernel
theorem d_M_told_105 : decode b_M_told 105 = .ok (.iconst 1, 1) := by decide +kernel
theorem d_M_told_106 : decode b_M_told 106 = .ok (.iadd, 1) := by decide +kernel
theorem d_M_told_107 : decode b_M_told 107 = .ok (.goto 4, 3) := by decide +kernel
theorem d_M_told_110 : decode b_M_told 110 = .ok (.iload_n 3, 1) := by decide +kernel
theorem d_M_told_111 : decode b_M_told 111 = .ok (.istore_n 3, 1) := by decide +kernel
theorem d_M_told_112 : decode b_M_told 112 = .ok (.iinc 4 1, 3) := by decide +kernel
theorem d_M_told_115 : decode b_M_told 115 = .ok (.goto (-90), 3) := by decide +kernel
theorem d_M_told_118 : decode b_M_told 118 = .ok (.iconst 0, 1) := by decide +kernel
theorem d_M_told_119 : decode b_M_told 119 = .ok (.ireturn, 1) := by decide +kernel
end
section
theorem d_law_0 : decode code 0 = .ok (.new 7, 3) := by decide +kernel
theorem d_law_3 : decode code 3 = .ok (.dup, 1) := by decide +kernel
theorem d_law_4 : decode code 4 = .ok (.invokespecial 9, 3) := by decide +kernel
theorem d_law_7 : decode code 7 = .ok (.astore_n 1, 1) := by decide +kernel
theorem d_law_8 : decode code 8 = .ok (.new 10, 3) := by decide +kernel
theorem d_law_11 : decode code 11 = .ok (.dup, 1) := by decide +kernel
theorem d_law_12 : decode code 12 = .ok (.invokespecial 12, 3) := by decide +kernel
theorem d_law_15 : decode code 15 = .ok (.astore_n 2, 1) := by decide +kernel
theorem d_law_16 : decode code 16 = .ok (.iconst 0, 1) := by decide +kernel
theorem d_law_17 : decode code 17 = .ok (.istore_n 3, 1) := by decide +kernel
theorem d_law_18 : decode code 18 = .ok (.iload_n 3, 1) := by decide +kernel
theorem d_law_19 : decode code 19 = .ok (.aload_n 0, 1) := by decide +kernel
theorem d_law_20 : decode code 20 = .ok (.arraylength, 1) := by decide +kernel
theorem d_law_21 : decode code 21 = .ok (.bipush 9, 2) := by decide +kernel
theorem d_law_23 : decode code 23 = .ok (.isub, 1) := by decide +kernel
theorem d_law_24 : decode code 24 = .ok (.if_icmp .gt 645, 3) := by decide +kernel
theorem d_law_27 : decode code 27 = .ok (.aload_n 0, 1) := by decide +kernel
theorem d_law_28 : decode code 28 = .ok (.iload_n 3, 1) := by decide +kernel
theorem d_law_29 : decode code 29 = .ok (.iaload, 1) := by decide +kernel
theorem d_law_30 : decode code 30 = .ok (.bipush 15, 2) := by decide +kernel
theorem d_law_32 : decode code 32 = .ok (.iand, 1) := by decide +kernel
theorem d_law_33 : decode code 33 = .ok (.tableswitch 630 0 8 #[51, 190, 279, 342, 425, 448, 481, 534, 597], 51) := by decide +kernel
theorem d_law_84 : decode code 84 = .ok (.aload_n 1, 1) := by decide +kernel
theorem d_law_85 : decode code 85 = .ok (.aload_n 0, 1) := by decide +kernel
theorem d_law_86 : decode code 86 = .ok (.iload_n 3, 1) := by decide +kernel
theorem d_law_87 : decode code 87 = .ok (.iconst 1, 1) := by decide +kernel
theorem d_law_88 : decode code 88 = .ok (.iadd, 1) := by decide +kernel
theorem d_law_89 : decode code 89 = .ok (.iaload, 1) := by decide +kernel
theorem d_law_90 : decode code 90 = .ok (.aload_n 0, 1) := by decide +kernel
theorem d_law_91 : decode code 91 = .ok (.iload_n 3, 1) := by decide +kernel
theorem d_law_92 : decode code 92 = .ok (.iconst 2, 1) := by decide +kernel
theorem d_law_93 : decode code 93 = .ok (.iadd, 1) := by decide +kernel
theorem d_law_94 : decode code 94 = .ok (.iaload, 1) := by decide +kernel
theorem d_law_95 : decode code 95 = .ok (.aload_n 0, 1) := by decide +kernel
theorem d_law_96 : decode code 96 = .ok (.iload_n 3, 1) := by decide +kernel
theorem d_law_97 : decode code 97 = .ok (.iconst 3, 1) := by decide +kernel
theorem d_law_98 : decode code 98 = .ok (.iadd, 1) := by decide +kernel
theorem d_law_99 : decode code 99 = .ok (.iaload, 1) := by decide +kernel
theorem d_law_100 : decode code 100 = .ok (.aload_n 0, 1) := by decide +kernel
theorem d_law_101 : decode code 101 = .ok (.iload_n 3, 1) := by decide +kernel
theorem d_law_102 : decode code 102 = .ok (.iconst 4, 1) := by decide +kernel
theorem d_law_103 : decode code 103 = .ok (.iadd, 1) := by decide +kernel
theorem d_law_104 : decode code 104 = .ok (.iaload, 1) := by decide +kernel
theorem d_law_105 : decode code 105 = .ok (.aload_n 0, 1) := by decide +kernel
theorem d_law_106 : decode code 106 = .ok (.iload_n 3, 1) := by decide +kernel
theorem d_law_107 : decode code 107 = .ok (.iconst 5, 1) := by decide +kernel
theorem d_law_108 : decode code 108 = .ok (.iadd, 1) := by decide +kernel
theorem d_law_109 : decode code 109 = .ok (.iaload, 1) := by decide +kernel
theorem d_law_110 : decode code 110 = .ok (.i2l, 1) := by decide +kernel
theorem d_law_111 : decode code 111 = .ok (.bipush 32, 2) := by decide +kernel
theorem d_law_113 : decode code 113 = .ok (.lshl, 1) := by decide +kernel
theorem d_law_114 : decode code 114 = .ok (.aload_n 0, 1) := by decide +kernel
theorem d_law_115 : decode code 115 = .ok (.iload_n 3, 1) := by decide +kernel
theorem d_law_116 : decode code 116 = .ok (.bipush 6, 2) := by decide +kernel
theorem d_law_118 : decode code 118 = .ok (.iadd, 1) := by decide +kernel
theorem d_law_119 : decode code 119 = .ok (.iaload, 1) := by decide +kernel
theorem d_law_120 : decode code 120 = .ok (.i2l, 1) := by decide +kernel
theorem d_law_121 : decode code 121 = .ok (.ldc2_w 13, 3) := by decide +kernel
theorem d_law_124 : decode code 124 = .ok (.land, 1) := by decide +kernel
theorem d_law_125 : decode code 125 = .ok (.lor, 1) := by decide +kernel
theorem d_law_126 : decode code 126 = .ok (.aload_n 0, 1) := by decide +kernel
theorem d_law_127 : decode code 127 = .ok (.iload_n 3, 1) := by decide +kernel
theorem d_law_128 : decode code 128 = .ok (.bipush 7, 2) := by decide +kernel
theorem d_law_130 : decode code 130 = .ok (.iadd, 1) := by decide +kernel
theorem d_law_131 : decode code 131 = .ok (.iaload, 1) := by decide +kernel
theorem d_law_132 : decode code 132 = .ok (.i2l, 1) := by decide +kernel
theorem d_law_133 : decode code 133 = .ok (.bipush 32, 2) := by decide +kernel
theorem d_law_135 : decode code 135 = .ok (.lshl, 1) := by decide +kernel
theorem d_law_136 : decode code 136 = .ok (.aload_n 0, 1) := by decide +kernel
theorem d_law_137 : decode code 137 = .ok (.iload_n 3, 1) := by decide +kernel
theorem d_law_138 : decode code 138 = .ok (.bipush 8, 2) := by decide +kernel
theorem d_law_140 : decode code 140 = .ok (.iadd, 1) := by decide +kernel
theorem d_law_141 : decode code 141 = .ok (.iaload, 1) := by decide +kernel
theorem d_law_142 : decode code 142 = .ok (.i2l, 1) := by decide +kernel
theorem d_law_143 : decode code 143 = .ok (.ldc2_w 13, 3) := by decide +kernel
theorem d_law_146 : decode code 146 = .ok (.land, 1) := by decide +kernel
theorem d_law_147 : decode code 147 = .ok (.lor, 1) := by decide +kernel
theorem d_law_148 : decode code 148 = .ok (.invokevirtual 15, 3) := by decide +kernel
theorem d_law_151 : decode code 151 = .ok (.aload_n 2, 1) := by decide +kernel
theorem d_law_152 : decode code 152 = .ok (.aload_n 0, 1) := by decide +kernel
theorem d_law_153 : decode code 153 = .ok (.iload_n 3, 1) := by decide +kernel
theorem d_law_154 : decode code 154 = .ok (.iconst 1, 1) := by decide +kernel
theorem d_law_155 : decode code 155 = .ok (.iadd, 1) := by decide +kernel
theorem d_law_156 : decode code 156 = .ok (.iaload, 1) := by decide +kernel
theorem d_law_157 : decode code 157 = .ok (.aload_n 0, 1) := by decide +kernel
theorem d_law_158 : decode code 158 = .ok (.iload_n 3, 1) := by decide +kernel
theorem d_law_159 : decode code 159 = .ok (.iconst 2, 1) := by decide +kernel
theorem d_law_160 : decode code 160 = .ok (.iadd, 1) := by decide +kernel
theorem d_law_161 : decode code 161 = .ok (.iaload, 1) := by decide +kernel
theorem d_law_162 : decode code 162 = .ok (.aload_n 0, 1) := by decide +kernel
theorem d_law_163 : decode code 163 = .ok (.iload_n 3, 1) := by decide +kernel
theorem d_law_164 : decode code 164 = .ok (.iconst 3, 1) := by decide +kernel
theorem d_law_165 : decode code 165 = .ok (.iadd, 1) := by decide +kernel
theorem d_law_166 : decode code 166 = .ok (.iaload, 1) := by decide +kernel
theorem d_law_167 : decode code 167 = .ok (.aload_n 0, 1) := by decide +kernel
theorem d_law_168 : decode code 168 = .ok (.iload_n 3, 1) := by decide +kernel
theorem d_law_169 : decode code 169 = .ok (.iconst 4, 1) := by decide +kernel
theorem d_law_170 : decode code 170 = .ok (.iadd, 1) := by decide +kernel
theorem d_law_171 : decode code 171 = .ok (.iaload, 1) := by decide +kernel
theorem d_law_172 : decode code 172 = .ok (.aload_n 0, 1) := by decide +kernel
theorem d_law_173 : decode code 173 = .ok (.iload_n 3, 1) := by decide +kernel
theorem d_law_174 : decode code 174 = .ok (.iconst 5, 1) := by decide +kernel
theorem d_law_175 : decode code 175 = .ok (.iadd, 1) := by decide +kernel
theorem d_law_176 : decode code 176 = .ok (.iaload, 1) := by decide +kernel
theorem d_law_177 : decode code 177 = .ok (.i2l, 1) := by decide +kernel
theorem d_law_178 : decode code 178 = .ok (.bipush 32, 2) := by decide +kernel
theorem d_law_180 : decode code 180 = .ok (.lshl, 1) := by decide +kernel
theorem d_law_181 : decode code 181 = .ok (.aload_n 0, 1) := by decide +kernel
theorem d_law_182 : decode code 182 = .ok (.iload_n 3, 1) := by decide +kernel
theorem d_law_183 : decode code 183 = .ok (.bipush 6, 2) := by decide +kernel
theorem d_law_185 : decode code 185 = .ok (.iadd, 1) := by decide +kernel
theorem d_law_186 : decode code 186 = .ok (.iaload, 1) := by decide +kernel
theorem d_law_187 : decode code 187 = .ok (.i2l, 1) := by decide +kernel
theorem d_law_188 : decode code 188 = .ok (.ldc2_w 13, 3) := by decide +kernel
theorem d_law_191 : decode code 191 = .ok (.land, 1) := by decide +kernel
theorem d_law_192 : decode code 192 = .ok (.lor, 1) := by decide +kernel
theorem d_law_193 : decode code 193 = .ok (.aload_n 0, 1) := by decide +kernel
theorem d_law_194 : decode code 194 = .ok (.iload_n 3, 1) := by decide +kernel
theorem d_law_195 : decode code 195 = .ok (.bipush 7, 2) := by decide +kernel
theorem d_law_197 : decode code 197 = .ok (.iadd, 1) := by decide +kernel
theorem d_law_198 : decode code 198 = .ok (.iaload, 1) := by decide +kernel
theorem d_law_199 : decode code 199 = .ok (.i2l, 1) := by decide +kernel
theorem d_law_200 : decode code 200 = .ok (.bipush 32, 2) := by decide +kernel
theorem d_law_202 : decode code 202 = .ok (.lshl, 1) := by decide +kernel
theorem d_law_203 : decode code 203 = .ok (.aload_n 0, 1) := by decide +kernel
theorem d_law_204 : decode code 204 = .ok (.iload_n 3, 1) := by decide +kernel
theorem d_law_205 : decode code 205 = .ok (.bipush 8, 2) := by decide +kernel
theorem d_law_207 : decode code 207 = .ok (.iadd, 1) := by decide +kernel
theorem d_law_208 : decode code 208 = .ok (.iaload, 1) := by decide +kernel
theorem d_law_209 : decode code 209 = .ok (.i2l, 1) := by decide +kernel
theorem d_law_210 : decode code 210 = .ok (.ldc2_w 13, 3) := by decide +kernel
theorem d_law_213 : decode code 213 = .ok (.land, 1) := by decide +kernel
theorem d_law_214 : decode code 214 = .ok (.lor, 1) := by decide +kernel
theorem d_law_215 : decode code 215 = .ok (.invokevirtual 19, 3) := by decide +kernel
theorem d_law_218 : decode code 218 = .ok (.if_icmp .eq 445, 3) := by decide +kernel
theorem d_law_221 : decode code 221 = .ok (.iconst 0, 1) := by decide +kernel
theorem d_law_222 : decode code 222 = .ok (.ireturn, 1) := by decide +kernel
theorem d_law_223 : decode code 223 = .ok (.aload_n 1, 1) := by decide +kernel
theorem d_law_224 : decode code 224 = .ok (.aload_n 0, 1) := by decide +kernel
theorem d_law_225 : decode code 225 = .ok (.iload_n 3, 1) := by decide +kernel
theorem d_law_226 : decode code 226 = .ok (.iconst 1, 1) := by decide +kernel
theorem d_law_227 : decode code 227 = .ok (.iadd, 1) := by decide +kernel
theorem d_law_228 : decode code 228 = .ok (.iaload, 1) := by decide +kernel
theorem d_law_229 : decode code 229 = .ok (.aload_n 0, 1) := by decide +kernel
theorem d_law_230 : decode code 230 = .ok (.iload_n 3, 1) := by decide +kernel
theorem d_law_231 : decode code 231 = .ok (.iconst 2, 1) := by decide +kernel
theorem d_law_232 : decode code 232 = .ok (.iadd, 1) := by decide +kernel
theorem d_law_233 : decode code 233 = .ok (.iaload, 1) := by decide +kernel
theorem d_law_234 : decode code 234 = .ok (.ifCond .eq 7, 3) := by decide +kernel
theorem d_law_237 : decode code 237 = .ok (.iconst 1, 1) := by decide +kernel
theorem d_law_238 : decode code 238 = .ok (.goto 4, 3) := by decide +kernel
theorem d_law_241 : decode code 241 = .ok (.iconst 0, 1) := by decide +kernel
theorem d_law_242 : decode code 242 = .ok (.aload_n 0, 1) := by decide +kernel
theorem d_law_243 : decode code 243 = .ok (.iload_n 3, 1) := by decide +kernel
theorem d_law_244 : decode code 244 = .ok (.iconst 3, 1) := by decide +kernel
theorem d_law_245 : decode code 245 = .ok (.iadd, 1) := by decide +kernel
theorem d_law_246 : decode code 246 = .ok (.iaload, 1) := by decide +kernel
theorem d_law_247 : decode code 247 = .ok (.i2l, 1) := by decide +kernel
theorem d_law_248 : decode code 248 = .ok (.bipush 32, 2) := by decide +kernel
theorem d_law_250 : decode code 250 = .ok (.lshl, 1) := by decide +kernel
theorem d_law_251 : decode code 251 = .ok (.aload_n 0, 1) := by decide +kernel
theorem d_law_252 : decode code 252 = .ok (.iload_n 3, 1) := by decide +kernel
theorem d_law_253 : decode code 253 = .ok (.iconst 4, 1) := by decide +kernel
theorem d_law_254 : decode code 254 = .ok (.iadd, 1) := by decide +kernel
theorem d_law_255 : decode code 255 = .ok (.iaload, 1) := by decide +kernel
theorem d_law_256 : decode code 256 = .ok (.i2l, 1) := by decide +kernel
theorem d_law_257 : decode code 257 = .ok (.ldc2_w 13, 3) := by decide +kernel
theorem d_law_260 : decode code 260 = .ok (.land, 1) := by decide +kernel
theorem d_law_261 : decode code 261 = .ok (.lor, 1) := by decide +kernel
theorem d_law_262 : decode code 262 = .ok (.invokevirtual 20, 3) := by decide +kernel
theorem d_law_265 : decode code 265 = .ok (.aload_n 2, 1) := by decide +kernel
theorem d_law_266 : decode code 266 = .ok (.aload_n 0, 1) := by decide +kernel
theorem d_law_267 : decode code 267 = .ok (.iload_n 3, 1) := by decide +kernel
theorem d_law_268 : decode code 268 = .ok (.iconst 1, 1) := by decide +kernel
theorem d_law_269 : decode code 269 = .ok (.iadd, 1) := by decide +kernel
theorem d_law_270 : decode code 270 = .ok (.iaload, 1) := by decide +kernel
theorem d_law_271 : decode code 271 = .ok (.aload_n 0, 1) := by decide +kernel
theorem d_law_272 : decode code 272 = .ok (.iload_n 3, 1) := by decide +kernel
theorem d_law_273 : decode code 273 = .ok (.iconst 2, 1) := by decide +kernel
theorem d_law_274 : decode code 274 = .ok (.iadd, 1) := by decide +kernel
theorem d_law_275 : decode code 275 = .ok (.iaload, 1) := by decide +kernel
theorem d_law_276 : decode code 276 = .ok (.ifCond .eq 7, 3) := by decide +kernel
theorem d_law_279 : decode code 279 = .ok (.iconst 1, 1) := by decide +kernel
theorem d_law_280 : decode code 280 = .ok (.goto 4, 3) := by decide +kernel
theorem d_law_283 : decode code 283 = .ok (.iconst 0, 1) := by decide +kernel
theorem d_law_284 : decode code 284 = .ok (.aload_n 0, 1) := by decide +kernel
theorem d_law_285 : decode code 285 = .ok (.iload_n 3, 1) := by decide +kernel
theorem d_law_286 : decode code 286 = .ok (.iconst 3, 1) := by decide +kernel
theorem d_law_287 : decode code 287 = .ok (.iadd, 1) := by decide +kernel
theorem d_law_288 : decode code 288 = .ok (.iaload, 1) := by decide +kernel
theorem d_law_289 : decode code 289 = .ok (.i2l, 1) := by decide +kernel
theorem d_law_290 : decode code 290 = .ok (.bipush 32, 2) := by decide +kernel
theorem d_law_292 : decode code 292 = .ok (.lshl, 1) := by decide +kernel
theorem d_law_293 : decode code 293 = .ok (.aload_n 0, 1) := by decide +kernel
theorem d_law_294 : decode code 294 = .ok (.iload_n 3, 1) := by decide +kernel
theorem d_law_295 : decode code 295 = .ok (.iconst 4, 1) := by decide +kernel
theorem d_law_296 : decode code 296 = .ok (.iadd, 1) := by decide +kernel
theorem d_law_297 : decode code 297 = .ok (.iaload, 1) := by decide +kernel
theorem d_law_298 : decode code 298 = .ok (.i2l, 1) := by decide +kernel
theorem d_law_299 : decode code 299 = .ok (.ldc2_w 13, 3) := by decide +kernel
theorem d_law_302 : decode code 302 = .ok (.land, 1) := by decide +kernel
theorem d_law_303 : decode code 303 = .ok (.lor, 1) := by decide +kernel
theorem d_law_304 : decode code 304 = .ok (.invokevirtual 24, 3) := by decide +kernel
theorem d_law_307 : decode code 307 = .ok (.if_icmp .eq 356, 3) := by decide +kernel
theorem d_law_310 : decode code 310 = .ok (.iconst 0, 1) := by decide +kernel
theorem d_law_311 : decode code 311 = .ok (.ireturn, 1) := by decide +kernel
theorem d_law_312 : decode code 312 = .ok (.aload_n 1, 1) := by decide +kernel
theorem d_law_313 : decode code 313 = .ok (.aload_n 0, 1) := by decide +kernel
theorem d_law_314 : decode code 314 = .ok (.iload_n 3, 1) := by decide +kernel
theorem d_law_315 : decode code 315 = .ok (.iconst 1, 1) := by decide +kernel
theorem d_law_316 : decode code 316 = .ok (.iadd, 1) := by decide +kernel
theorem d_law_317 : decode code 317 = .ok (.iaload, 1) := by decide +kernel
theorem d_law_318 : decode code 318 = .ok (.aload_n 0, 1) := by decide +kernel
theorem d_law_319 : decode code 319 = .ok (.iload_n 3, 1) := by decide +kernel
theorem d_law_320 : decode code 320 = .ok (.iconst 2, 1) := by decide +kernel
theorem d_law_321 : decode code 321 = .ok (.iadd, 1) := by decide +kernel
theorem d_law_322 : decode code 322 = .ok (.iaload, 1) := by decide +kernel
theorem d_law_323 : decode code 323 = .ok (.i2l, 1) := by decide +kernel
theorem d_law_324 : decode code 324 = .ok (.bipush 32, 2) := by decide +kernel
theorem d_law_326 : decode code 326 = .ok (.lshl, 1) := by decide +kernel
theorem d_law_327 : decode code 327 = .ok (.aload_n 0, 1) := by decide +kernel
theorem d_law_328 : decode code 328 = .ok (.iload_n 3, 1) := by decide +kernel
theorem d_law_329 : decode code 329 = .ok (.iconst 3, 1) := by decide +kernel
theorem d_law_330 : decode code 330 = .ok (.iadd, 1) := by decide +kernel
theorem d_law_331 : decode code 331 = .ok (.iaload, 1) := by decide +kernel
theorem d_law_332 : decode code 332 = .ok (.i2l, 1) := by decide +kernel
theorem d_law_333 : decode code 333 = .ok (.ldc2_w 13, 3) := by decide +kernel
theorem d_law_336 : decode code 336 = .ok (.land, 1) := by decide +kernel
theorem d_law_337 : decode code 337 = .ok (.lor, 1) := by decide +kernel
theorem d_law_338 : decode code 338 = .ok (.invokevirtual 25, 3) := by decide +kernel
theorem d_law_341 : decode code 341 = .ok (.aload_n 2, 1) := by decide +kernel
theorem d_law_342 : decode code 342 = .ok (.aload_n 0, 1) := by decide +kernel
theorem d_law_343 : decode code 343 = .ok (.iload_n 3, 1) := by decide +kernel
theorem d_law_344 : decode code 344 = .ok (.iconst 1, 1) := by decide +kernel
theorem d_law_345 : decode code 345 = .ok (.iadd, 1) := by decide +kernel
theorem d_law_346 : decode code 346 = .ok (.iaload, 1) := by decide +kernel
theorem d_law_347 : decode code 347 = .ok (.aload_n 0, 1) := by decide +kernel
theorem d_law_348 : decode code 348 = .ok (.iload_n 3, 1) := by decide +kernel
theorem d_law_349 : decode code 349 = .ok (.iconst 2, 1) := by decide +kernel
theorem d_law_350 : decode code 350 = .ok (.iadd, 1) := by decide +kernel
theorem d_law_351 : decode code 351 = .ok (.iaload, 1) := by decide +kernel
theorem d_law_352 : decode code 352 = .ok (.i2l, 1) := by decide +kernel
theorem d_law_353 : decode code 353 = .ok (.bipush 32, 2) := by decide +kernel
theorem d_law_355 : decode code 355 = .ok (.lshl, 1) := by decide +kernel
theorem d_law_356 : decode code 356 = .ok (.aload_n 0, 1) := by decide +kernel
theorem d_law_357 : decode code 357 = .ok (.iload_n 3, 1) := by decide +kernel
theorem d_law_358 : decode code 358 = .ok (.iconst 3, 1) := by decide +kernel
theorem d_law_359 : decode code 359 = .ok (.iadd, 1) := by decide +kernel
theorem d_law_360 : decode code 360 = .ok (.iaload, 1) := by decide +kernel
theorem d_law_361 : decode code 361 = .ok (.i2l, 1) := by decide +kernel
theorem d_law_362 : decode code 362 = .ok (.ldc2_w 13, 3) := by decide +kernel
theorem d_law_365 : decode code 365 = .ok (.land, 1) := by decide +kernel
theorem d_law_366 : decode code 366 = .ok (.lor, 1) := by decide +kernel
theorem d_law_367 : decode code 367 = .ok (.invokevirtual 29, 3) := by decide +kernel
theorem d_law_370 : decode code 370 = .ok (.if_icmp .eq 293, 3) := by decide +kernel
theorem d_law_373 : decode code 373 = .ok (.iconst 0, 1) := by decide +kernel
theorem d_law_374 : decode code 374 = .ok (.ireturn, 1) := by decide +kernel
theorem d_law_375 : decode code 375 = .ok (.aload_n 1, 1) := by decide +kernel
theorem d_law_376 : decode code 376 = .ok (.aload_n 0, 1) := by decide +kernel
theorem d_law_377 : decode code 377 = .ok (.iload_n 3, 1) := by decide +kernel
theorem d_law_378 : decode code 378 = .ok (.iconst 1, 1) := by decide +kernel
theorem d_law_379 : decode code 379 = .ok (.iadd, 1) := by decide +kernel
theorem d_law_380 : decode code 380 = .ok (.iaload, 1) := by decide +kernel
theorem d_law_381 : decode code 381 = .ok (.aload_n 0, 1) := by decide +kernel
theorem d_law_382 : decode code 382 = .ok (.iload_n 3, 1) := by decide +kernel
theorem d_law_383 : decode code 383 = .ok (.iconst 2, 1) := by decide +kernel
theorem d_law_384 : decode code 384 = .ok (.iadd, 1) := by decide +kernel
theorem d_law_385 : decode code 385 = .ok (.iaload, 1) := by decide +kernel
theorem d_law_386 : decode code 386 = .ok (.aload_n 0, 1) := by decide +kernel
theorem d_law_387 : decode code 387 = .ok (.iload_n 3, 1) := by decide +kernel
theorem d_law_388 : decode code 388 = .ok (.iconst 3, 1) := by decide +kernel
theorem d_law_389 : decode code 389 = .ok (.iadd, 1) := by decide +kernel
theorem d_law_390 : decode code 390 = .ok (.iaload, 1) := by decide +kernel
theorem d_law_391 : decode code 391 = .ok (.aload_n 0, 1) := by decide +kernel
theorem d_law_392 : decode code 392 = .ok (.iload_n 3, 1) := by decide +kernel
theorem d_law_393 : decode code 393 = .ok (.iconst 4, 1) := by decide +kernel
theorem d_law_394 : decode code 394 = .ok (.iadd, 1) := by decide +kernel
theorem d_law_395 : decode code 395 = .ok (.iaload, 1) := by decide +kernel
theorem d_law_396 : decode code 396 = .ok (.i2l, 1) := by decide +kernel
theorem d_law_397 : decode code 397 = .ok (.bipush 32, 2) := by decide +kernel
theorem d_law_399 : decode code 399 = .ok (.lshl, 1) := by decide +kernel
theorem d_law_400 : decode code 400 = .ok (.aload_n 0, 1) := by decide +kernel
theorem d_law_401 : decode code 401 = .ok (.iload_n 3, 1) := by decide +kernel
theorem d_law_402 : decode code 402 = .ok (.iconst 5, 1) := by decide +kernel
theorem d_law_403 : decode code 403 = .ok (.iadd, 1) := by decide +kernel
theorem d_law_404 : decode code 404 = .ok (.iaload, 1) := by decide +kernel
theorem d_law_405 : decode code 405 = .ok (.i2l, 1) := by decide +kernel
theorem d_law_406 : decode code 406 = .ok (.ldc2_w 13, 3) := by decide +kernel
theorem d_law_409 : decode code 409 = .ok (.land, 1) := by decide +kernel
theorem d_law_410 : decode code 410 = .ok (.lor, 1) := by decide +kernel
theorem d_law_411 : decode code 411 = .ok (.invokevirtual 30, 3) := by decide +kernel
theorem d_law_414 : decode code 414 = .ok (.aload_n 2, 1) := by decide +kernel
theorem d_law_415 : decode code 415 = .ok (.aload_n 0, 1) := by decide +kernel
theorem d_law_416 : decode code 416 = .ok (.iload_n 3, 1) := by decide +kernel
theorem d_law_417 : decode code 417 = .ok (.iconst 1, 1) := by decide +kernel
theorem d_law_418 : decode code 418 = .ok (.iadd, 1) := by decide +kernel
theorem d_law_419 : decode code 419 = .ok (.iaload, 1) := by decide +kernel
theorem d_law_420 : decode code 420 = .ok (.aload_n 0, 1) := by decide +kernel
theorem d_law_421 : decode code 421 = .ok (.iload_n 3, 1) := by decide +kernel
theorem d_law_422 : decode code 422 = .ok (.iconst 2, 1) := by decide +kernel
theorem d_law_423 : decode code 423 = .ok (.iadd, 1) := by decide +kernel
theorem d_law_424 : decode code 424 = .ok (.iaload, 1) := by decide +kernel
theorem d_law_425 : decode code 425 = .ok (.aload_n 0, 1) := by decide +kernel
theorem d_law_426 : decode code 426 = .ok (.iload_n 3, 1) := by decide +kernel
theorem d_law_427 : decode code 427 = .ok (.iconst 3, 1) := by decide +kernel
theorem d_law_428 : decode code 428 = .ok (.iadd, 1) := by decide +kernel
theorem d_law_429 : decode code 429 = .ok (.iaload, 1) := by decide +kernel
theorem d_law_430 : decode code 430 = .ok (.aload_n 0, 1) := by decide +kernel
theorem d_law_431 : decode code 431 = .ok (.iload_n 3, 1) := by decide +kernel
theorem d_law_432 : decode code 432 = .ok (.iconst 4, 1) := by decide +kernel
theorem d_law_433 : decode code 433 = .ok (.iadd, 1) := by decide +kernel
theorem d_law_434 : decode code 434 = .ok (.iaload, 1) := by decide +kernel
theorem d_law_435 : decode code 435 = .ok (.i2l, 1) := by decide +kernel
theorem d_law_436 : decode code 436 = .ok (.bipush 32, 2) := by decide +kernel
theorem d_law_438 : decode code 438 = .ok (.lshl, 1) := by decide +kernel
theorem d_law_439 : decode code 439 = .ok (.aload_n 0, 1) := by decide +kernel
theorem d_law_440 : decode code 440 = .ok (.iload_n 3, 1) := by decide +kernel
theorem d_law_441 : decode code 441 = .ok (.iconst 5, 1) := by decide +kernel
theorem d_law_442 : decode code 442 = .ok (.iadd, 1) := by decide +kernel
theorem d_law_443 : decode code 443 = .ok (.iaload, 1) := by decide +kernel
theorem d_law_444 : decode code 444 = .ok (.i2l, 1) := by decide +kernel
theorem d_law_445 : decode code 445 = .ok (.ldc2_w 13, 3) := by decide +kernel
theorem d_law_448 : decode code 448 = .ok (.land, 1) := by decide +kernel
theorem d_law_449 : decode code 449 = .ok (.lor, 1) := by decide +kernel
theorem d_law_450 : decode code 450 = .ok (.invokevirtual 34, 3) := by decide +kernel
theorem d_law_453 : decode code 453 = .ok (.if_icmp .eq 210, 3) := by decide +kernel
theorem d_law_456 : decode code 456 = .ok (.iconst 0, 1) := by decide +kernel
theorem d_law_457 : decode code 457 = .ok (.ireturn, 1) := by decide +kernel
theorem d_law_458 : decode code 458 = .ok (.aload_n 1, 1) := by decide +kernel
theorem d_law_459 : decode code 459 = .ok (.aload_n 0, 1) := by decide +kernel
theorem d_law_460 : decode code 460 = .ok (.iload_n 3, 1) := by decide +kernel
theorem d_law_461 : decode code 461 = .ok (.iconst 1, 1) := by decide +kernel
theorem d_law_462 : decode code 462 = .ok (.iadd, 1) := by decide +kernel
theorem d_law_463 : decode code 463 = .ok (.iaload, 1) := by decide +kernel
theorem d_law_464 : decode code 464 = .ok (.invokevirtual 35, 3) := by decide +kernel
theorem d_law_467 : decode code 467 = .ok (.aload_n 2, 1) := by decide +kernel
theorem d_law_468 : decode code 468 = .ok (.aload_n 0, 1) := by decide +kernel
theorem d_law_469 : decode code 469 = .ok (.iload_n 3, 1) := by decide +kernel
theorem d_law_470 : decode code 470 = .ok (.iconst 1, 1) := by decide +kernel
theorem d_law_471 : decode code 471 = .ok (.iadd, 1) := by decide +kernel
theorem d_law_472 : decode code 472 = .ok (.iaload, 1) := by decide +kernel
theorem d_law_473 : decode code 473 = .ok (.invokevirtual 39, 3) := by decide +kernel
theorem d_law_476 : decode code 476 = .ok (.if_icmp .eq 187, 3) := by decide +kernel
theorem d_law_479 : decode code 479 = .ok (.iconst 0, 1) := by decide +kernel
theorem d_law_480 : decode code 480 = .ok (.ireturn, 1) := by decide +kernel
theorem d_law_481 : decode code 481 = .ok (.aload_n 1, 1) := by decide +kernel
theorem d_law_482 : decode code 482 = .ok (.aload_n 0, 1) := by decide +kernel
theorem d_law_483 : decode code 483 = .ok (.iload_n 3, 1) := by decide +kernel
theorem d_law_484 : decode code 484 = .ok (.iconst 1, 1) := by decide +kernel
theorem d_law_485 : decode code 485 = .ok (.iadd, 1) := by decide +kernel
theorem d_law_486 : decode code 486 = .ok (.iaload, 1) := by decide +kernel
theorem d_law_487 : decode code 487 = .ok (.aload_n 0, 1) := by decide +kernel
theorem d_law_488 : decode code 488 = .ok (.iload_n 3, 1) := by decide +kernel
theorem d_law_489 : decode code 489 = .ok (.iconst 2, 1) := by decide +kernel
theorem d_law_490 : decode code 490 = .ok (.iadd, 1) := by decide +kernel
theorem d_law_491 : decode code 491 = .ok (.iaload, 1) := by decide +kernel
theorem d_law_492 : decode code 492 = .ok (.invokevirtual 40, 3) := by decide +kernel
theorem d_law_495 : decode code 495 = .ok (.aload_n 2, 1) := by decide +kernel
theorem d_law_496 : decode code 496 = .ok (.aload_n 0, 1) := by decide +kernel
theorem d_law_497 : decode code 497 = .ok (.iload_n 3, 1) := by decide +kernel
theorem d_law_498 : decode code 498 = .ok (.iconst 1, 1) := by decide +kernel
theorem d_law_499 : decode code 499 = .ok (.iadd, 1) := by decide +kernel
theorem d_law_500 : decode code 500 = .ok (.iaload, 1) := by decide +kernel
theorem d_law_501 : decode code 501 = .ok (.aload_n 0, 1) := by decide +kernel
theorem d_law_502 : decode code 502 = .ok (.iload_n 3, 1) := by decide +kernel
theorem d_law_503 : decode code 503 = .ok (.iconst 2, 1) := by decide +kernel
theorem d_law_504 : decode code 504 = .ok (.iadd, 1) := by decide +kernel
theorem d_law_505 : decode code 505 = .ok (.iaload, 1) := by decide +kernel
theorem d_law_506 : decode code 506 = .ok (.invokevirtual 44, 3) := by decide +kernel
theorem d_law_509 : decode code 509 = .ok (.if_icmp .eq 154, 3) := by decide +kernel
theorem d_law_512 : decode code 512 = .ok (.iconst 0, 1) := by decide +kernel
theorem d_law_513 : decode code 513 = .ok (.ireturn, 1) := by decide +kernel
theorem d_law_514 : decode code 514 = .ok (.aload_n 1, 1) := by decide +kernel
theorem d_law_515 : decode code 515 = .ok (.aload_n 0, 1) := by decide +kernel
theorem d_law_516 : decode code 516 = .ok (.iload_n 3, 1) := by decide +kernel
theorem d_law_517 : decode code 517 = .ok (.iconst 1, 1) := by decide +kernel
theorem d_law_518 : decode code 518 = .ok (.iadd, 1) := by decide +kernel
theorem d_law_519 : decode code 519 = .ok (.iaload, 1) := by decide +kernel
theorem d_law_520 : decode code 520 = .ok (.i2l, 1) := by decide +kernel
theorem d_law_521 : decode code 521 = .ok (.bipush 32, 2) := by decide +kernel
theorem d_law_523 : decode code 523 = .ok (.lshl, 1) := by decide +kernel
theorem d_law_524 : decode code 524 = .ok (.aload_n 0, 1) := by decide +kernel
theorem d_law_525 : decode code 525 = .ok (.iload_n 3, 1) := by decide +kernel
theorem d_law_526 : decode code 526 = .ok (.iconst 2, 1) := by decide +kernel
theorem d_law_527 : decode code 527 = .ok (.iadd, 1) := by decide +kernel
theorem d_law_528 : decode code 528 = .ok (.iaload, 1) := by decide +kernel
theorem d_law_529 : decode code 529 = .ok (.i2l, 1) := by decide +kernel
theorem d_law_530 : decode code 530 = .ok (.ldc2_w 13, 3) := by decide +kernel
theorem d_law_533 : decode code 533 = .ok (.land, 1) := by decide +kernel
theorem d_law_534 : decode code 534 = .ok (.lor, 1) := by decide +kernel
theorem d_law_535 : decode code 535 = .ok (.invokevirtual 45, 3) := by decide +kernel
theorem d_law_538 : decode code 538 = .ok (.aload_n 2, 1) := by decide +kernel
theorem d_law_539 : decode code 539 = .ok (.aload_n 0, 1) := by decide +kernel
theorem d_law_540 : decode code 540 = .ok (.iload_n 3, 1) := by decide +kernel
theorem d_law_541 : decode code 541 = .ok (.iconst 1, 1) := by decide +kernel
theorem d_law_542 : decode code 542 = .ok (.iadd, 1) := by decide +kernel
theorem d_law_543 : decode code 543 = .ok (.iaload, 1) := by decide +kernel
theorem d_law_544 : decode code 544 = .ok (.i2l, 1) := by decide +kernel
theorem d_law_545 : decode code 545 = .ok (.bipush 32, 2) := by decide +kernel
theorem d_law_547 : decode code 547 = .ok (.lshl, 1) := by decide +kernel
theorem d_law_548 : decode code 548 = .ok (.aload_n 0, 1) := by decide +kernel
theorem d_law_549 : decode code 549 = .ok (.iload_n 3, 1) := by decide +kernel
theorem d_law_550 : decode code 550 = .ok (.iconst 2, 1) := by decide +kernel
theorem d_law_551 : decode code 551 = .ok (.iadd, 1) := by decide +kernel
theorem d_law_552 : decode code 552 = .ok (.iaload, 1) := by decide +kernel
theorem d_law_553 : decode code 553 = .ok (.i2l, 1) := by decide +kernel
theorem d_law_554 : decode code 554 = .ok (.ldc2_w 13, 3) := by decide +kernel
theorem d_law_557 : decode code 557 = .ok (.land, 1) := by decide +kernel
theorem d_law_558 : decode code 558 = .ok (.lor, 1) := by decide +kernel
theorem d_law_559 : decode code 559 = .ok (.invokevirtual 49, 3) := by decide +kernel
theorem d_law_562 : decode code 562 = .ok (.if_icmp .eq 101, 3) := by decide +kernel
theorem d_law_565 : decode code 565 = .ok (.iconst 0, 1) := by decide +kernel
theorem d_law_566 : decode code 566 = .ok (.ireturn, 1) := by decide +kernel
theorem d_law_567 : decode code 567 = .ok (.aload_n 1, 1) := by decide +kernel
theorem d_law_568 : decode code 568 = .ok (.aload_n 0, 1) := by decide +kernel
theorem d_law_569 : decode code 569 = .ok (.iload_n 3, 1) := by decide +kernel
theorem d_law_570 : decode code 570 = .ok (.iconst 1, 1) := by decide +kernel
theorem d_law_571 : decode code 571 = .ok (.iadd, 1) := by decide +kernel
theorem d_law_572 : decode code 572 = .ok (.iaload, 1) := by decide +kernel
theorem d_law_573 : decode code 573 = .ok (.aload_n 0, 1) := by decide +kernel
theorem d_law_574 : decode code 574 = .ok (.iload_n 3, 1) := by decide +kernel
theorem d_law_575 : decode code 575 = .ok (.iconst 2, 1) := by decide +kernel
theorem d_law_576 : decode code 576 = .ok (.iadd, 1) := by decide +kernel
theorem d_law_577 : decode code 577 = .ok (.iaload, 1) := by decide +kernel
theorem d_law_578 : decode code 578 = .ok (.i2l, 1) := by decide +kernel
theorem d_law_579 : decode code 579 = .ok (.bipush 32, 2) := by decide +kernel
theorem d_law_581 : decode code 581 = .ok (.lshl, 1) := by decide +kernel
theorem d_law_582 : decode code 582 = .ok (.aload_n 0, 1) := by decide +kernel
theorem d_law_583 : decode code 583 = .ok (.iload_n 3, 1) := by decide +kernel
theorem d_law_584 : decode code 584 = .ok (.iconst 3, 1) := by decide +kernel
theorem d_law_585 : decode code 585 = .ok (.iadd, 1) := by decide +kernel
theorem d_law_586 : decode code 586 = .ok (.iaload, 1) := by decide +kernel
theorem d_law_587 : decode code 587 = .ok (.i2l, 1) := by decide +kernel
theorem d_law_588 : decode code 588 = .ok (.ldc2_w 13, 3) := by decide +kernel
theorem d_law_591 : decode code 591 = .ok (.land, 1) := by decide +kernel
theorem d_law_592 : decode code 592 = .ok (.lor, 1) := by decide +kernel
theorem d_law_593 : decode code 593 = .ok (.invokevirtual 50, 3) := by decide +kernel
theorem d_law_596 : decode code 596 = .ok (.aload_n 2, 1) := by decide +kernel
theorem d_law_597 : decode code 597 = .ok (.aload_n 0, 1) := by decide +kernel
theorem d_law_598 : decode code 598 = .ok (.iload_n 3, 1) := by decide +kernel
theorem d_law_599 : decode code 599 = .ok (.iconst 1, 1) := by decide +kernel
theorem d_law_600 : decode code 600 = .ok (.iadd, 1) := by decide +kernel
theorem d_law_601 : decode code 601 = .ok (.iaload, 1) := by decide +kernel
theorem d_law_602 : decode code 602 = .ok (.aload_n 0, 1) := by decide +kernel
theorem d_law_603 : decode code 603 = .ok (.iload_n 3, 1) := by decide +kernel
theorem d_law_604 : decode code 604 = .ok (.iconst 2, 1) := by decide +kernel
theorem d_law_605 : decode code 605 = .ok (.iadd, 1) := by decide +kernel
theorem d_law_606 : decode code 606 = .ok (.iaload, 1) := by decide +kernel
theorem d_law_607 : decode code 607 = .ok (.i2l, 1) := by decide +kernel
theorem d_law_608 : decode code 608 = .ok (.bipush 32, 2) := by decide +kernel
theorem d_law_610 : decode code 610 = .ok (.lshl, 1) := by decide +kernel
theorem d_law_611 : decode code 611 = .ok (.aload_n 0, 1) := by decide +kernel
theorem d_law_612 : decode code 612 = .ok (.iload_n 3, 1) := by decide +kernel
theorem d_law_613 : decode code 613 = .ok (.iconst 3, 1) := by decide +kernel
theorem d_law_614 : decode code 614 = .ok (.iadd, 1) := by decide +kernel
theorem d_law_615 : decode code 615 = .ok (.iaload, 1) := by decide +kernel
theorem d_law_616 : decode code 616 = .ok (.i2l, 1) := by decide +kernel
theorem d_law_617 : decode code 617 = .ok (.ldc2_w 13, 3) := by decide +kernel
theorem d_law_620 : decode code 620 = .ok (.land, 1) := by decide +kernel
theorem d_law_621 : decode code 621 = .ok (.lor, 1) := by decide +kernel
theorem d_law_622 : decode code 622 = .ok (.invokevirtual 53, 3) := by decide +kernel
theorem d_law_625 : decode code 625 = .ok (.if_icmp .eq 38, 3) := by decide +kernel
theorem d_law_628 : decode code 628 = .ok (.iconst 0, 1) := by decide +kernel
theorem d_law_629 : decode code 629 = .ok (.ireturn, 1) := by decide +kernel
theorem d_law_630 : decode code 630 = .ok (.aload_n 1, 1) := by decide +kernel
theorem d_law_631 : decode code 631 = .ok (.aload_n 0, 1) := by decide +kernel
theorem d_law_632 : decode code 632 = .ok (.iload_n 3, 1) := by decide +kernel
theorem d_law_633 : decode code 633 = .ok (.iconst 1, 1) := by decide +kernel
theorem d_law_634 : decode code 634 = .ok (.iadd, 1) := by decide +kernel
theorem d_law_635 : decode code 635 = .ok (.iaload, 1) := by decide +kernel
theorem d_law_636 : decode code 636 = .ok (.aload_n 0, 1) := by decide +kernel
theorem d_law_637 : decode code 637 = .ok (.iload_n 3, 1) := by decide +kernel
theorem d_law_638 : decode code 638 = .ok (.iconst 2, 1) := by decide +kernel
theorem d_law_639 : decode code 639 = .ok (.iadd, 1) := by decide +kernel
theorem d_law_640 : decode code 640 = .ok (.iaload, 1) := by decide +kernel
theorem d_law_641 : decode code 641 = .ok (.invokevirtual 54, 3) := by decide +kernel
theorem d_law_644 : decode code 644 = .ok (.aload_n 2, 1) := by decide +kernel
theorem d_law_645 : decode code 645 = .ok (.aload_n 0, 1) := by decide +kernel
theorem d_law_646 : decode code 646 = .ok (.iload_n 3, 1) := by decide +kernel
theorem d_law_647 : decode code 647 = .ok (.iconst 1, 1) := by decide +kernel
theorem d_law_648 : decode code 648 = .ok (.iadd, 1) := by decide +kernel
theorem d_law_649 : decode code 649 = .ok (.iaload, 1) := by decide +kernel
theorem d_law_650 : decode code 650 = .ok (.aload_n 0, 1) := by decide +kernel
theorem d_law_651 : decode code 651 = .ok (.iload_n 3, 1) := by decide +kernel
theorem d_law_652 : decode code 652 = .ok (.iconst 2, 1) := by decide +kernel
theorem d_law_653 : decode code 653 = .ok (.iadd, 1) := by decide +kernel
theorem d_law_654 : decode code 654 = .ok (.iaload, 1) := by decide +kernel
theorem d_law_655 : decode code 655 = .ok (.invokevirtual 57, 3) := by decide +kernel
theorem d_law_658 : decode code 658 = .ok (.if_icmp .eq 5, 3) := by decide +kernel
theorem d_law_661 : decode code 661 = .ok (.iconst 0, 1) := by decide +kernel
theorem d_law_662 : decode code 662 = .ok (.ireturn, 1) := by decide +kernel
theorem d_law_663 : decode code 663 = .ok (.iinc 3 9, 3) := by decide +kernel
theorem d_law_666 : decode code 666 = .ok (.goto (-648), 3) := by decide +kernel
theorem d_law_669 : decode code 669 = .ok (.iconst 1, 1) := by decide +kernel
theorem d_law_670 : decode code 670 = .ok (.ireturn, 1) := by decide +kernel
end
section
/-! what every module uses: truth values, comparisons of longs, the facts that are no words, calls, the pictures of the two systems -/
def bl (r : Int32) (P : Prop) : Prop := (r = 1 ∧ P) ∨ (r = 0 ∧ ¬ P)
theorem bl_t {r : Int32} {P : Prop} (h : bl r P) (c : ¬ r = 0) : P := by
  rcases h with h | h
  · exact h.2
  · exact absurd h.1 c
theorem bl_f {r : Int32} {P : Prop} (h : bl r P) (c : r = 0) : ¬ P := by
  rcases h with h | h
  · rw [h.1] at c; exact absurd c (by decide)
  · exact h.2
theorem bl_1 {P : Prop} (h : P) : bl 1 P := Or.inl ⟨rfl, h⟩
theorem bl_0 {P : Prop} (h : ¬ P) : bl 0 P := Or.inr ⟨rfl, h⟩
section LC
variable {p : Program} {l : Launch} {e : Env} {R : Room} {s : State} {m : MethodId} {args : Array Value} {below : List Frame} {meth : Method} {c : Code} {H : Heap} {locs : List Loc} {cells slots : Nat} {Q : State → Prop} {cc : ByteArray} {pc : Nat} {ls : Array Slot} {rest : List Value}
theorem lc_lt (hexec : p.tables.exec = Jvm.exec) (hb : c.code = cc) {x y : Int64} {off : Int} {tgt : Nat} (hdg : decode cc pc = .ok (.lcmp, 1)) (hdg2 : decode cc (pc + 1) = .ok (.ifCond .lt off, 3)) (ht : ((pc + 1 : Nat) : Int) + off = (tgt : Int))
    (kt : x < y → W p l e R s m args below meth c H locs cells slots Q (F0 m tgt ls rest)) (kf : ¬ x < y → W p l e R s m args below meth c H locs cells slots Q (F0 m (pc + 4) ls rest)) : W p l e R s m args below meth c H locs cells slots Q (F0 m pc ls (.long y :: .long x :: rest)) := by
  refine W.lcmp hexec hb hdg ?_
  exact lv_if_lt hexec hb hdg2 ht (fun h => kt ((lg_cmp_lt x y).mp h)) (fun h => kf (fun q => h ((lg_cmp_lt x y).mpr q)))
theorem lc_ge (hexec : p.tables.exec = Jvm.exec) (hb : c.code = cc) {x y : Int64} {off : Int} {tgt : Nat} (hdg : decode cc pc = .ok (.lcmp, 1)) (hdg2 : decode cc (pc + 1) = .ok (.ifCond .ge off, 3)) (ht : ((pc + 1 : Nat) : Int) + off = (tgt : Int))
    (kt : y ≤ x → W p l e R s m args below meth c H locs cells slots Q (F0 m tgt ls rest)) (kf : ¬ y ≤ x → W p l e R s m args below meth c H locs cells slots Q (F0 m (pc + 4) ls rest)) : W p l e R s m args below meth c H locs cells slots Q (F0 m pc ls (.long y :: .long x :: rest)) := by
  refine W.lcmp hexec hb hdg ?_
  exact lv_if_ge hexec hb hdg2 ht (fun h => kt ((lg_cmp_ge x y).mp h)) (fun h => kf (fun q => h ((lg_cmp_ge x y).mpr q)))
theorem lc_gt (hexec : p.tables.exec = Jvm.exec) (hb : c.code = cc) {x y : Int64} {off : Int} {tgt : Nat} (hdg : decode cc pc = .ok (.lcmp, 1)) (hdg2 : decode cc (pc + 1) = .ok (.ifCond .gt off, 3)) (ht : ((pc + 1 : Nat) : Int) + off = (tgt : Int))
    (kt : y < x → W p l e R s m args below meth c H locs cells slots Q (F0 m tgt ls rest)) (kf : ¬ y < x → W p l e R s m args below meth c H locs cells slots Q (F0 m (pc + 4) ls rest)) : W p l e R s m args below meth c H locs cells slots Q (F0 m pc ls (.long y :: .long x :: rest)) := by
  refine W.lcmp hexec hb hdg ?_
  exact lv_if_gt hexec hb hdg2 ht (fun h => kt ((lg_cmp_gt x y).mp h)) (fun h => kf (fun q => h ((lg_cmp_gt x y).mpr q)))
theorem lc_le (hexec : p.tables.exec = Jvm.exec) (hb : c.code = cc) {x y : Int64} {off : Int} {tgt : Nat} (hdg : decode cc pc = .ok (.lcmp, 1)) (hdg2 : decode cc (pc + 1) = .ok (.ifCond .le off, 3)) (ht : ((pc + 1 : Nat) : Int) + off = (tgt : Int))
    (kt : x ≤ y → W p l e R s m args below meth c H locs cells slots Q (F0 m tgt ls rest)) (kf : ¬ x ≤ y → W p l e R s m args below meth c H locs cells slots Q (F0 m (pc + 4) ls rest)) : W p l e R s m args below meth c H locs cells slots Q (F0 m pc ls (.long y :: .long x :: rest)) := by
  refine W.lcmp hexec hb hdg ?_
  exact lv_if_le hexec hb hdg2 ht (fun h => kt ((lg_cmp_le x y).mp h)) (fun h => kf (fun q => h ((lg_cmp_le x y).mpr q)))
theorem W.nameQ {cells' slots' : Nat} {g : JFrame} (h : ∀ Q' : State → Prop, Q' = Q → W p l e R s m args below meth c H locs cells' slots' Q' g) : W p l e R s m args below meth c H locs cells' slots' Q g := h Q rfl
end LC
/-- the tables' facts that travel in a contract's start -/
def Nx (U : State) : Prop := va_Nw (Cond.fieldLinkNest "OrderRows2" 104 "OrderRows2$Order" "kind" "I" "OrderRows2") U ∧ va_Nw (Cond.fieldLinkNest "OrderRows2" 138 "OrderRows2$Order" "who" "I" "OrderRows2") U ∧ va_Nw (Cond.fieldLinkNest "OrderRows2" 135 "OrderRows2$Order" "until" "J" "OrderRows2") U ∧ va_Nw (Cond.fieldLinkNest "OrderRows2" 71 "OrderRows2$Order" "made" "J" "OrderRows2") U ∧ va_Nw (Cond.fieldLinkNest "OrderRows2" 93 "OrderRows2$Order" "proved" "Z" "OrderRows2") U ∧ va_Nw (Cond.fieldLinkNest "OrderRows2" 76 "OrderRows2$Order" "over" "J" "OrderRows2") U ∧ va_Nw (Cond.declares ⟨"OrderRows2$Order", "goesTo", "()I"⟩) U ∧ va_Nw (Cond.castable "OrderRows2$Forward" "OrderRows2$Order") U ∧ va_Nw (Cond.castable "OrderRows2$Hold" "OrderRows2$Order") U ∧ va_Nw (Cond.castable "OrderRows2$Refusal" "OrderRows2$Order") U ∧ va_AO R_O U
theorem Nx.warm {s U : State} (hW : s.WarmedH U.vm) (h : Nx s) : Nx U := ⟨va_Nw.warmF hW h.1, va_Nw.warmF hW h.2.1, va_Nw.warmF hW h.2.2.1, va_Nw.warmF hW h.2.2.2.1, va_Nw.warmF hW h.2.2.2.2.1, va_Nw.warmF hW h.2.2.2.2.2.1, va_Nw.warmD hW h.2.2.2.2.2.2.1, va_Nw.warmC hW h.2.2.2.2.2.2.2.1, va_Nw.warmC hW h.2.2.2.2.2.2.2.2.1, va_Nw.warmC hW h.2.2.2.2.2.2.2.2.2.1, va_AO.moved hW.alike h.2.2.2.2.2.2.2.2.2.2⟩
theorem Nx.call {U : State} {g : JFrame} {mk : MethodId} {a : Array Value} (h : Nx U) : Nx (U.calling g mk a) := ⟨va_Nw.same rfl (rfl : U.vm = (U.calling g mk a).vm) h.1, va_Nw.same rfl (rfl : U.vm = (U.calling g mk a).vm) h.2.1, va_Nw.same rfl (rfl : U.vm = (U.calling g mk a).vm) h.2.2.1, va_Nw.same rfl (rfl : U.vm = (U.calling g mk a).vm) h.2.2.2.1, va_Nw.same rfl (rfl : U.vm = (U.calling g mk a).vm) h.2.2.2.2.1, va_Nw.same rfl (rfl : U.vm = (U.calling g mk a).vm) h.2.2.2.2.2.1, va_Nw.same rfl (rfl : U.vm = (U.calling g mk a).vm) h.2.2.2.2.2.2.1, va_Nw.same rfl (rfl : U.vm = (U.calling g mk a).vm) h.2.2.2.2.2.2.2.1, va_Nw.same rfl (rfl : U.vm = (U.calling g mk a).vm) h.2.2.2.2.2.2.2.2.1, va_Nw.same rfl (rfl : U.vm = (U.calling g mk a).vm) h.2.2.2.2.2.2.2.2.2.1, va_AO.moved (u := U) (U := U.calling g mk a) (Vm.Alike.refl U.vm) h.2.2.2.2.2.2.2.2.2.2⟩
theorem Nx.of {A : Array Value} {U : State} (ht : ∀ w ∈ lw_tbl, w.before A U = true) : Nx U := ⟨va_Nw.of rfl (ht _ tq_74), va_Nw.of rfl (ht _ tq_77), va_Nw.of rfl (ht _ tq_80), va_Nw.of rfl (ht _ tq_82), va_Nw.of rfl (ht _ tq_84), va_Nw.of rfl (ht _ tq_86), va_Nw.of rfl (ht _ tq_218), va_Nw.of rfl (ht _ tq_382), va_Nw.of rfl (ht _ tq_383), va_Nw.of rfl (ht _ tq_384), va_AO.of (ht _ tq_18)⟩
theorem Nx_74 {A : Array Value} {U : State} (h : Nx U) : (Cond.fieldLinkNest "OrderRows2" 104 "OrderRows2$Order" "kind" "I" "OrderRows2").before A U = true := va_Nw.use rfl h.1
theorem Nx_77 {A : Array Value} {U : State} (h : Nx U) : (Cond.fieldLinkNest "OrderRows2" 138 "OrderRows2$Order" "who" "I" "OrderRows2").before A U = true := va_Nw.use rfl h.2.1
theorem Nx_80 {A : Array Value} {U : State} (h : Nx U) : (Cond.fieldLinkNest "OrderRows2" 135 "OrderRows2$Order" "until" "J" "OrderRows2").before A U = true := va_Nw.use rfl h.2.2.1
theorem Nx_82 {A : Array Value} {U : State} (h : Nx U) : (Cond.fieldLinkNest "OrderRows2" 71 "OrderRows2$Order" "made" "J" "OrderRows2").before A U = true := va_Nw.use rfl h.2.2.2.1
theorem Nx_84 {A : Array Value} {U : State} (h : Nx U) : (Cond.fieldLinkNest "OrderRows2" 93 "OrderRows2$Order" "proved" "Z" "OrderRows2").before A U = true := va_Nw.use rfl h.2.2.2.2.1
theorem Nx_86 {A : Array Value} {U : State} (h : Nx U) : (Cond.fieldLinkNest "OrderRows2" 76 "OrderRows2$Order" "over" "J" "OrderRows2").before A U = true := va_Nw.use rfl h.2.2.2.2.2.1
theorem Nx_218 {A : Array Value} {U : State} (h : Nx U) : (Cond.declares ⟨"OrderRows2$Order", "goesTo", "()I"⟩).before A U = true := va_Nw.use rfl h.2.2.2.2.2.2.1
theorem Nx_382 {A : Array Value} {U : State} (h : Nx U) : (Cond.castable "OrderRows2$Forward" "OrderRows2$Order").before A U = true := va_Nw.use rfl h.2.2.2.2.2.2.2.1
theorem Nx_383 {A : Array Value} {U : State} (h : Nx U) : (Cond.castable "OrderRows2$Hold" "OrderRows2$Order").before A U = true := va_Nw.use rfl h.2.2.2.2.2.2.2.2.1
theorem Nx_384 {A : Array Value} {U : State} (h : Nx U) : (Cond.castable "OrderRows2$Refusal" "OrderRows2$Order").before A U = true := va_Nw.use rfl h.2.2.2.2.2.2.2.2.2.1
theorem Nx_ao {U : State} (h : Nx U) : va_AO R_O U := h.2.2.2.2.2.2.2.2.2.2
theorem Nx_de {U : State} (h : Nx U) : va_Decl U ⟨"OrderRows2$Order", "goesTo", "()I"⟩ := va_Decl.abs h.2.2.2.2.2.2.1
/-- the classes of the arrays: int[], boolean[], long[], Order[] -/
def ty4 (cs : Nat → Nat) : List (ClassId × FieldType) := [(cs 0, .int), (cs 1, .boolean), (cs 2, .long), (cs 3, .object R_O)]
def KK (D : va_G) (cs : Nat → Nat) (U : State) : Prop := va_K D classes (ty4 cs) U ∧ Nx U
theorem KK.warm {D : va_G} {cs : Nat → Nat} {s U : State} (hK : va_K D classes (ty4 cs) s) (hN : Nx s) (hW : s.WarmedH U.vm) : KK D cs U := ⟨va_K.moved hW.alike hK, hN.warm hW⟩
theorem KK.call {D : va_G} {cs : Nat → Nat} {U : State} {g : JFrame} {mk : MethodId} {a : Array Value} (h : KK D cs U) : KK D cs (U.calling g mk a) := ⟨va_K.moved (u := U) (U := U.calling g mk a) (Vm.Alike.refl U.vm) h.1, h.2.call⟩
/-! calls -/
section CB
variable {R : Room} {s : State} {args : Array Value} {own : String} {index : Nat} {y : MethodName} {bytes : ByteArray} {maxL mc ms fr lo : Nat} {ret : Option FieldType}
theorem cb_ (n : Nat) (ht : ∀ w ∈ wt, w.before args s = true) (hc : Cond.code y bytes maxL ret ∈ wt) (hl : Cond.methodLink own index y ∈ wt) (hini : Cond.initialized y.cls ∈ wt) (hd : y.cls ≠ "java/lang/invoke/MethodHandle" ∧ y.cls ≠ "java/lang/invoke/VarHandle" ∧ (parseMethodDescriptor y.desc).map (fun d => d.parameters.length) = some n) (hR : fr + 1 ≤ R.frames ∧ 8 + (maxL + 11) + lo ≤ R.locals) : CallB R s args own index y bytes maxL ret (Cond.code y bytes maxL ret :: wt) { frames := fr, cells := mc, slots := ms, locals := lo } mc ms n :=
  callB_of n ht (wt_good (fun _ h => h) hc) rfl rfl rfl (ht _ hini) (ht _ hl) hd hR
theorem cS_ (n : Nat) (ht : ∀ w ∈ wt, w.before args s = true) (hc : Cond.code y bytes maxL ret ∈ wt) (hl : Cond.methodLink own index y ∈ wt) (hini : Cond.initialized y.cls ∈ wt) (hst : Cond.static y ∈ wt) (hd : y.cls ≠ "java/lang/invoke/MethodHandle" ∧ y.cls ≠ "java/lang/invoke/VarHandle" ∧ (parseMethodDescriptor y.desc).map (fun d => d.parameters.length) = some n) (hR : fr + 1 ≤ R.frames ∧ 8 + (maxL + 11) + lo ≤ R.locals) : CallB R s args own index y bytes maxL ret (Cond.code y bytes maxL ret :: wt) { frames := fr, cells := mc, slots := ms, locals := lo } mc ms n ∧ (Cond.static y).before args s = true := ⟨cb_ n ht hc hl hini hd hR, ht _ hst⟩
theorem cV_ {C : String} (n : Nat) (ht : ∀ w ∈ wt, w.before args s = true) (hc : Cond.code y bytes maxL ret ∈ wt) (hl : Cond.methodLink own index y ∈ wt) (hini : Cond.initialized y.cls ∈ wt) (hin : Cond.instanceMethod y ∈ wt) (hse : Cond.selects C y y ∈ wt) (hd : y.cls ≠ "java/lang/invoke/MethodHandle" ∧ y.cls ≠ "java/lang/invoke/VarHandle" ∧ (parseMethodDescriptor y.desc).map (fun d => d.parameters.length) = some n) (hR : fr + 1 ≤ R.frames ∧ 8 + (maxL + 11) + lo ≤ R.locals) : CallW R s args own C index y bytes maxL ret (Cond.code y bytes maxL ret :: wt) { frames := fr, cells := mc, slots := ms, locals := lo } mc ms n := ⟨cb_ n ht hc hl hini hd hR, ht _ hin, ht _ hse⟩
theorem cI_ (n : Nat) (ht : ∀ w ∈ wt, w.before args s = true) (hc : Cond.code y bytes maxL none ∈ wt) (hl : Cond.methodLink own index y ∈ wt) (hini : Cond.initialized y.cls ∈ wt) (hin : Cond.instanceMethod y ∈ wt) (hy : y.name = "<init>") (hd : y.cls ≠ "java/lang/invoke/MethodHandle" ∧ y.cls ≠ "java/lang/invoke/VarHandle" ∧ (parseMethodDescriptor y.desc).map (fun d => d.parameters.length) = some n) (hR : fr + 1 ≤ R.frames ∧ 8 + (maxL + 11) + lo ≤ R.locals) : CallB R s args own index y bytes maxL none (Cond.code y bytes maxL none :: wt) { frames := fr, cells := mc, slots := ms, locals := lo } mc ms n ∧ y.name = "<init>" ∧ (Cond.instanceMethod y).before args s = true := ⟨cb_ n ht hc hl hini hd hR, hy, ht _ hin⟩
/-- a call of a method that Order declares, on an order of any kind -/
theorem cU_ {C : String} {x : MethodName} (n : Nat) (ht : ∀ w ∈ wt, w.before args s = true) (hc : Cond.code y bytes maxL ret ∈ wt) (hl : Cond.methodLink own index x ∈ wt) (hini : Cond.initialized y.cls ∈ wt) (hin : Cond.instanceMethod y ∈ wt) (hsm : Cond.sameMethod x.cls R_O x.name x.desc ∈ wt) (hse : Cond.selects C x y ∈ wt) (hde : va_Decl s ⟨R_O, x.name, x.desc⟩) (hd : (parseMethodDescriptor x.desc).map (fun d => d.parameters.length) = some n) (hR : fr + 1 ≤ R.frames ∧ 8 + (maxL + 11) + lo ≤ R.locals) : va_CU R s args own C R_O index x y bytes maxL ret (Cond.code y bytes maxL ret :: wt) { frames := fr, cells := mc, slots := ms, locals := lo } mc ms n := by
  refine ⟨⟨rfl, rfl, hR.1, hR.2, pay_in ht (wt_good (fun _ h => h) hc), List.mem_cons_self⟩, ht _ hc, ht _ hini, ⟨by decide, by decide⟩, fun sig h => ?_, ht _ hl, ht _ hsm, hde, ht _ hse, ht _ hin⟩
  rw [h] at hd
  exact (Option.some.inj hd).symm
end CB
/-! arrays at a place that is a number -/
section VI
variable {p : Program} {l : Launch} {e : Env} {R : Room} {s : State} {m : MethodId} {args : Array Value} {below : List Frame} {meth : Method} {c : Code} {H : Heap} {locs : List Loc} {cells slots : Nat} {Q : State → Prop} {cc : ByteArray} {pc : Nat} {ls : Array Slot} {rest : List Value} {D : va_G} {cl : List vw_C} {A : Nat → Prop} {a : Nat} {tys : List (ClassId × FieldType)} {ws : va_W} {H0 : Heap}
theorem vi_iald (hexec : p.tables.exec = Jvm.exec) (hb : c.code = cc) (hK : va_K D cl tys s) (hP : va_P D cl ws H) (q0 t0 : Nat) {cA : ClassId} {n k : Nat} {f : Nat → Int32} (ha : ws[q0]? = some (a, .inl (cA, n, .inl f))) (ht : tys[t0]? = some (cA, .int)) (hk : k < n) (hn : n < 2 ^ 31) (hdg : decode cc pc = .ok (.iaload, 1))
    (kk : W p l e R s m args below meth c H locs cells slots Q (F0 m (pc + 1) ls (.int (f k) :: rest))) : W p l e R s m args below meth c H locs cells slots Q (F0 m pc ls (.int (nI k) :: .ref a :: rest)) := by
  refine va_iald hexec hb hK hP q0 t0 ha ht (vp_in_nI hk hn) hdg ?_
  rw [nI_clamp (Nat.lt_trans hk hn)]
  exact kk
theorem vi_zald (hexec : p.tables.exec = Jvm.exec) (hb : c.code = cc) (hK : va_K D cl tys s) (hP : va_P D cl ws H) (q0 t0 : Nat) {cA : ClassId} {n k : Nat} {f : Nat → Int32} (ha : ws[q0]? = some (a, .inl (cA, n, .inl f))) (ht : tys[t0]? = some (cA, .boolean)) (hk : k < n) (hn : n < 2 ^ 31) (hdg : decode cc pc = .ok (.baload, 1))
    (kk : W p l e R s m args below meth c H locs cells slots Q (F0 m (pc + 1) ls (.int (f k) :: rest))) : W p l e R s m args below meth c H locs cells slots Q (F0 m pc ls (.int (nI k) :: .ref a :: rest)) := by
  refine va_zald hexec hb hK hP q0 t0 ha ht (vp_in_nI hk hn) hdg ?_
  rw [nI_clamp (Nat.lt_trans hk hn)]
  exact kk
theorem vi_lald (hexec : p.tables.exec = Jvm.exec) (hb : c.code = cc) (hK : va_K D cl tys s) (hP : va_P D cl ws H) (q0 t0 : Nat) {cA : ClassId} {n k : Nat} {f : Nat → Int64} (ha : ws[q0]? = some (a, .inl (cA, n, .inr (.inl f)))) (ht : tys[t0]? = some (cA, .long)) (hk : k < n) (hn : n < 2 ^ 31) (hdg : decode cc pc = .ok (.laload, 1))
    (kk : W p l e R s m args below meth c H locs cells slots Q (F0 m (pc + 1) ls (.long (f k) :: rest))) : W p l e R s m args below meth c H locs cells slots Q (F0 m pc ls (.int (nI k) :: .ref a :: rest)) := by
  refine va_lald hexec hb hK hP q0 t0 ha ht (vp_in_nI hk hn) hdg ?_
  rw [nI_clamp (Nat.lt_trans hk hn)]
  exact kk
theorem vi_iast (hexec : p.tables.exec = Jvm.exec) (hb : c.code = cc) (hK : va_K D cl tys s) (hP : va_P D cl ws H) (hD : va_D A ws) (hS : va_S A H0 H locs) (q0 t0 : Nat) {cA : ClassId} {n k : Nat} {f : Nat → Int32} (ha : ws[q0]? = some (a, .inl (cA, n, .inl f))) (ht : tys[t0]? = some (cA, .int)) {x : Int32} (hk : k < n) (hn : n < 2 ^ 31) (hdg : decode cc pc = .ok (.iastore, 1))
    (kk : ∀ (H1 : Heap) (locs1 : List Loc), va_P D cl (ws.set q0 (a, .inl (cA, n, .inl (upd f k x)))) H1 → va_D A (ws.set q0 (a, .inl (cA, n, .inl (upd f k x)))) → va_S A H0 H1 locs1 → W p l e R s m args below meth c H1 locs1 cells slots Q (F0 m (pc + 1) ls rest)) : W p l e R s m args below meth c H locs cells slots Q (F0 m pc ls (.int x :: .int (nI k) :: .ref a :: rest)) := by
  refine va_iast hexec hb hK hP hD hS q0 t0 ha ht (vp_in_nI hk hn) hdg ?_
  rw [nI_clamp (Nat.lt_trans hk hn)]
  exact kk
theorem vi_zast (hexec : p.tables.exec = Jvm.exec) (hb : c.code = cc) (hK : va_K D cl tys s) (hP : va_P D cl ws H) (hD : va_D A ws) (hS : va_S A H0 H locs) (q0 t0 : Nat) {cA : ClassId} {n k : Nat} {f : Nat → Int32} (ha : ws[q0]? = some (a, .inl (cA, n, .inl f))) (ht : tys[t0]? = some (cA, .boolean)) {x : Int32} (hk : k < n) (hn : n < 2 ^ 31) (hdg : decode cc pc = .ok (.bastore, 1))
    (kk : ∀ (H1 : Heap) (locs1 : List Loc), va_P D cl (ws.set q0 (a, .inl (cA, n, .inl (upd f k (vp_nar .boolean x))))) H1 → va_D A (ws.set q0 (a, .inl (cA, n, .inl (upd f k (vp_nar .boolean x))))) → va_S A H0 H1 locs1 → W p l e R s m args below meth c H1 locs1 cells slots Q (F0 m (pc + 1) ls rest)) : W p l e R s m args below meth c H locs cells slots Q (F0 m pc ls (.int x :: .int (nI k) :: .ref a :: rest)) := by
  refine va_zast hexec hb hK hP hD hS q0 t0 ha ht (vp_in_nI hk hn) hdg ?_
  rw [nI_clamp (Nat.lt_trans hk hn)]
  exact kk
theorem vi_last (hexec : p.tables.exec = Jvm.exec) (hb : c.code = cc) (hK : va_K D cl tys s) (hP : va_P D cl ws H) (hD : va_D A ws) (hS : va_S A H0 H locs) (q0 t0 : Nat) {cA : ClassId} {n k : Nat} {f : Nat → Int64} (ha : ws[q0]? = some (a, .inl (cA, n, .inr (.inl f)))) (ht : tys[t0]? = some (cA, .long)) {x : Int64} (hk : k < n) (hn : n < 2 ^ 31) (hdg : decode cc pc = .ok (.lastore, 1))
    (kk : ∀ (H1 : Heap) (locs1 : List Loc), va_P D cl (ws.set q0 (a, .inl (cA, n, .inr (.inl (vp_updL f k x))))) H1 → va_D A (ws.set q0 (a, .inl (cA, n, .inr (.inl (vp_updL f k x))))) → va_S A H0 H1 locs1 → W p l e R s m args below meth c H1 locs1 cells slots Q (F0 m (pc + 1) ls rest)) : W p l e R s m args below meth c H locs cells slots Q (F0 m pc ls (.long x :: .int (nI k) :: .ref a :: rest)) := by
  refine va_last hexec hb hK hP hD hS q0 t0 ha ht (vp_in_nI hk hn) hdg ?_
  rw [nI_clamp (Nat.lt_trans hk hn)]
  exact kk
/-- a new array of whole numbers whose class is known already -/
theorem vi_newa (hexec : p.tables.exec = Jvm.exec) (hb : c.code = cc) {atype : ArrayType} (harr : (Cond.arrayClass (newarray.typeOf atype)).before args s = true) {ty : FieldType} (hty : newarray.typeOf atype = ty) (hK : va_K D cl tys s) (hP : va_P D cl ws H) (hD : va_D A ws) (hS : va_S A H0 H locs) (hA : ∀ q, H0.size ≤ q → A q)
    (t0 : Nat) {cA : ClassId} (ht : tys[t0]? = some (cA, ty)) (hra : ∀ x : ClassId, va_RA s x ty → s.vm.findClass ("[" ++ ty.toString) = some x) {n : Int32} {N' : Nat} {a0 : vp_A} (ha : ∀ cA : ClassId, vp_cell cA a0 = arrV cA N' (fun _ => defaultValue ty)) (hn : ¬ n < 0) (hN : n.toNatClampNeg = N') (hbytes : N' * componentBytes ty ≤ 536870912) (hcells : cells + 1 ≤ R.cells) (hslots : slots + N' ≤ R.slots) (hdg : decode cc pc = .ok (.newarray atype, 2))
    (kk : ∀ (q : Nat) (H1 : Heap), va_P D cl (ws ++ [(q, .inl (cA, a0))]) H1 → va_D A (ws ++ [(q, .inl (cA, a0))]) → va_S A H0 H1 locs →
      W p l e R s m args below meth c H1 locs (cells + 1) (slots + N') Q (F0 m (pc + 2) ls (.ref q :: rest))) : W p l e R s m args below meth c H locs cells slots Q (F0 m pc ls (.int n :: rest)) := by
  refine va_newa hexec hb harr hty hK hP hD hS hA ha hn hN hbytes hcells hslots hdg (fun q cB H1 hK1 hP1 hD1 hS1 => ?_)
  have e1 := hra _ (hK.2 t0 _ ht).2
  have e2 := hra _ (hK1.2 tys.length (cB, ty) (by simp)).2
  rw [e1] at e2
  cases Option.some.inj e2
  exact kk q H1 hP1 hD1 hS1
theorem vi_newq (hexec : p.tables.exec = Jvm.exec) (hb : c.code = cc) {own C : String} {index : Nat} (hown : s.vm.findClass own = some m.cls) (hclink : (Cond.classLink own index C).before args s = true) (hover : va_AO C s) (hK : va_K D cl tys s) (hP : va_P D cl ws H) (hD : va_D A ws) (hS : va_S A H0 H locs) (hA : ∀ q, H0.size ≤ q → A q)
    (t0 : Nat) {cA : ClassId} (ht : tys[t0]? = some (cA, .object C)) {n : Int32} {N' : Nat} (hn : ¬ n < 0) (hN : n.toNatClampNeg = N') (hbytes : N' * 4 ≤ 536870912) (hcells : cells + 1 ≤ R.cells) (hslots : slots + N' ≤ R.slots) (hdg : decode cc pc = .ok (.anewarray index, 3))
    (kk : ∀ (q : Nat) (H1 : Heap), va_P D cl (ws ++ [(q, .inl (cA, N', .inr (.inr (.inr (.inr (fun _ => none))))))]) H1 → va_D A (ws ++ [(q, .inl (cA, N', .inr (.inr (.inr (.inr (fun _ => none))))))]) → va_S A H0 H1 locs →
      W p l e R s m args below meth c H1 locs (cells + 1) (slots + N') Q (F0 m (pc + 3) ls (.ref q :: rest))) : W p l e R s m args below meth c H locs cells slots Q (F0 m pc ls (.int n :: rest)) := by
  refine va_newq hexec hb hown hclink hover hK hP hD hS hA hn hN hbytes hcells hslots hdg (fun q cB H1 hK1 hP1 hD1 hS1 => ?_)
  obtain ⟨k1, c1, -, -, -, e1⟩ := (hK.2 t0 _ ht).2
  obtain ⟨k2, c2, -, -, -, e2⟩ := (hK1.2 tys.length (cB, .object C) (by simp)).2
  rw [e1] at e2
  cases Option.some.inj e2
  exact kk q H1 hP1 hD1 hS1
end VI
/-! the frame rule for a part of a world -/
/-- the callee had the one cell at place i -/
theorem jn1 {A0 : Nat → Prop} {D : va_G} {cl : List vw_C} {ws : va_W} {i a : Nat} {x x' : va_E} {H H1 : Heap} (hP : va_P D cl ws H) (hD : va_D A0 ws) (hi : ws[i]? = some (a, x)) (hk : ∀ q : Nat, q < H.size → ¬ va_A [(a, x)] H.size q → H1[q]? = H[q]?) (hP1 : va_P D cl [(a, x')] H1) : va_P D cl (ws.set i (a, x')) H1 ∧ va_D A0 (ws.set i (a, x')) := by
  have hl := (List.getElem?_eq_some_iff.mp hi).1
  refine ⟨fun k q hq => ?_, hD.set hi⟩
  by_cases hki : k = i
  · subst hki
    rw [List.getElem?_set_self hl] at hq
    cases hq
    exact hP1 0 _ rfl
  · rw [List.getElem?_set_ne (Ne.symm hki)] at hq
    refine (hP k q hq).kept (hk q.1 (hP k q hq).lt (fun h => ?_))
    rcases h with ⟨k2, e2, h⟩ | h
    · have h0 : k2 = 0 := by
        have := (List.getElem?_eq_some_iff.mp h).1
        simp at this
        omega
      subst h0
      have h1 : a = q.1 := by
        have := Option.some.inj h
        exact congrArg Prod.fst this
      exact hki (hD.1 k i q (a, x) hq hi h1.symm)
    · exact absurd (hP k q hq).lt (Nat.not_lt.mpr h)
theorem va_P.left {D : va_G} {cl : List vw_C} {wa wb : va_W} {H : Heap} (h : va_P D cl (wa ++ wb) H) : va_P D cl wa H := fun k q hk => h k q (by rw [List.getElem?_append_left (List.getElem?_eq_some_iff.mp hk).1]; exact hk)
theorem va_P.right {D : va_G} {cl : List vw_C} {wa wb : va_W} {H : Heap} (h : va_P D cl (wa ++ wb) H) : va_P D cl wb H := fun k q hk => h (wa.length + k) q (by rw [List.getElem?_append_right (Nat.le_add_right _ _), Nat.add_sub_cancel_left]; exact hk)
theorem va_D.left {A : Nat → Prop} {wa wb : va_W} (h : va_D A (wa ++ wb)) : va_D A wa := by
  have g : ∀ (k : Nat) (q : Nat × va_E), wa[k]? = some q → (wa ++ wb)[k]? = some q := fun k q hk => by rw [List.getElem?_append_left (List.getElem?_eq_some_iff.mp hk).1]; exact hk
  exact ⟨fun i j x y hx hy => h.1 i j x y (g i x hx) (g j y hy), fun k q hk => h.2 k q (g k q hk)⟩
theorem va_D.right {A : Nat → Prop} {wa wb : va_W} (h : va_D A (wa ++ wb)) : va_D A wb := by
  have g : ∀ (k : Nat) (q : Nat × va_E), wb[k]? = some q → (wa ++ wb)[wa.length + k]? = some q := fun k q hk => by rw [List.getElem?_append_right (Nat.le_add_right _ _), Nat.add_sub_cancel_left]; exact hk
  exact ⟨fun i j x y hx hy e => by have := h.1 _ _ x y (g i x hx) (g j y hy) e; omega, fun k q hk => h.2 _ q (g k q hk)⟩
theorem va_D.cross {A : Nat → Prop} {wa wb : va_W} (h : va_D A (wa ++ wb)) {i j : Nat} {x y : Nat × va_E} (hx : wa[i]? = some x) (hy : wb[j]? = some y) : x.1 ≠ y.1 := fun e => by
  have hl := (List.getElem?_eq_some_iff.mp hx).1
  have h1 : (wa ++ wb)[i]? = some x := by rw [List.getElem?_append_left hl]; exact hx
  have h2 : (wa ++ wb)[wa.length + j]? = some y := by rw [List.getElem?_append_right (Nat.le_add_right _ _), Nat.add_sub_cancel_left]; exact hy
  have := h.1 _ _ x y h1 h2 e
  omega
/-- the callee had the first half -/
theorem jnL {A0 : Nat → Prop} {D : va_G} {cl : List vw_C} {wa wb wa' : va_W} {H H1 : Heap} (hP : va_P D cl (wa ++ wb) H) (hD : va_D A0 (wa ++ wb)) (hk : ∀ q : Nat, q < H.size → ¬ va_A wa H.size q → H1[q]? = H[q]?) (hF : ∀ q, va_A wa H.size q → A0 q) (hP1 : va_P D cl wa' H1) (hD1 : va_D (va_A wa H.size) wa') : va_P D cl (wa' ++ wb) H1 ∧ va_D A0 (wa' ++ wb) := by
  have apart : ∀ (k : Nat) (q : Nat × va_E), wb[k]? = some q → q.1 < H.size ∧ ¬ va_A wa H.size q.1 := by
    intro k q hq
    have hl := (hP.right k q hq).lt
    refine ⟨hl, fun h => ?_⟩
    rcases h with ⟨k2, e, h⟩ | h
    · exact hD.cross h hq rfl
    · omega
  refine ⟨va_P.app hP1 (fun k q hq => (hP.right k q hq).kept (hk q.1 (apart k q hq).1 (apart k q hq).2)), va_D.app (hD1.weaken (fun k q _ h => hF q.1 h)) hD.right (fun i j x y hx hy hxy => ?_)⟩
  exact (apart j y hy).2 (by rw [← hxy]; exact hD1.2 i x hx)
/-- the callee had the second half -/
theorem jnR {A0 : Nat → Prop} {D : va_G} {cl : List vw_C} {wa wb wb' : va_W} {H H1 : Heap} (hP : va_P D cl (wa ++ wb) H) (hD : va_D A0 (wa ++ wb)) (hk : ∀ q : Nat, q < H.size → ¬ va_A wb H.size q → H1[q]? = H[q]?) (hF : ∀ q, va_A wb H.size q → A0 q) (hP1 : va_P D cl wb' H1) (hD1 : va_D (va_A wb H.size) wb') : va_P D cl (wa ++ wb') H1 ∧ va_D A0 (wa ++ wb') := by
  have apart : ∀ (k : Nat) (q : Nat × va_E), wa[k]? = some q → q.1 < H.size ∧ ¬ va_A wb H.size q.1 := by
    intro k q hq
    have hl := (hP.left k q hq).lt
    refine ⟨hl, fun h => ?_⟩
    rcases h with ⟨k2, e, h⟩ | h
    · exact hD.cross hq h rfl
    · omega
  refine ⟨va_P.app (fun k q hq => (hP.left k q hq).kept (hk q.1 (apart k q hq).1 (apart k q hq).2)) hP1, va_D.app hD.left (hD1.weaken (fun k q _ h => hF q.1 h)) (fun i j x y hx hy hxy => ?_)⟩
  exact (apart i x hx).2 (by rw [hxy]; exact hD1.2 j y hy)
/-- a callee's places are the caller's, or new -/
theorem freeW {A0 : Nat → Prop} {ws : va_W} {H0 H : Heap} {locs : List Loc} (hD : va_D A0 ws) (hS : va_S A0 H0 H locs) (hA : ∀ q, H0.size ≤ q → A0 q) : ∀ q, va_A ws H.size q → A0 q := by
  intro q h
  rcases h with ⟨k, e, h⟩ | h
  · exact hD.2 k (q, e) h
  · exact hA q (Nat.le_trans hS.1 h)
theorem free1 {A0 : Nat → Prop} {ws : va_W} {i a : Nat} {x : va_E} {H0 H : Heap} {locs : List Loc} (hD : va_D A0 ws) (hS : va_S A0 H0 H locs) (hA : ∀ q, H0.size ≤ q → A0 q) (hi : ws[i]? = some (a, x)) : ∀ q, va_A [(a, x)] H.size q → A0 q := by
  intro q h
  rcases h with ⟨k, e, h⟩ | h
  · have h1 : a = q := by
      match k, h with
      | 0, h => exact congrArg Prod.fst (Option.some.inj h)
    rw [← h1]
    exact hD.2 i (a, x) hi
  · exact hA q (Nat.le_trans hS.1 h)
theorem va_P.one {D : va_G} {cl : List vw_C} {ws : va_W} {i : Nat} {x : Nat × va_E} {H : Heap} (h : va_P D cl ws H) (hi : ws[i]? = some x) : va_P D cl [x] H := by
  intro k q hk
  match k, hk with
  | 0, hk => cases hk; exact h i x hi
theorem va_D.one {A : Nat → Prop} {x : Nat × va_E} (h : A x.1) : va_D A [x] := by
  refine ⟨fun i j p q hi hj _ => ?_, fun k q hk => ?_⟩
  · have := (List.getElem?_eq_some_iff.mp hi).1
    have := (List.getElem?_eq_some_iff.mp hj).1
    simp at *
    omega
  · match k, hk with
    | 0, hk => cases hk; exact h
/-! the picture of the class: its object, its five arrays, and the orders in the order of their numbers -/
/-- what an order's kind is made: 0 Forward, 1 Hold, 2 Refusal -/
def cx (k : Int32) : Nat := if k < 3 then 0 else if k < 6 then 1 else 2
theorem cx_lt (k : Int32) : cx k < 3 := by
  unfold cx
  split
  · omega
  · split <;> omega
/-- an order's fields; a Forward has one more -/
def oF (ci : Nat) (k e w : Int32) (f u m : Int64) (v : Int32) (o : Int64) (t : Int32) : List Value := .int k :: .int e :: .int w :: .long f :: .long u :: .long m :: .int v :: .long o :: (match ci with
  | 0 => [.int t]
  | _ => [])
def oe (K E P T V : Nat → Int32) (F U M X : Nat → Int64) (k : Nat) : va_E := .inr (cx (K k), oF (cx (K k)) (K k) (E k) (P k) (F k) (U k) (M k) (V k) (X k) (T k))
def og (n : Nat) (ad : Nat → Nat) : Nat → Option Nat := fun k => if 1 ≤ k ∧ k ≤ n then some (ad k) else none
def cF (g cs : Nat → Nat) (n : Nat) (now : Int64) (oa : Nat → Option Nat) (rk wy ps rg : Nat → Int32) (rs : Int32) : va_W :=
  [(g 0, .inr (3, [.ref (g 1), .int (nI n), .ref (g 2), .long now, .ref (g 3), .ref (g 4), .ref (g 5), .int rs])), (g 1, .inl (cs 3, 201, .inr (.inr (.inr (.inr oa))))), (g 2, .inl (cs 0, 9, .inl rk)), (g 3, .inl (cs 0, 100, .inl wy)), (g 4, .inl (cs 1, 100, .inl ps)), (g 5, .inl (cs 0, 100, .inl rg))]
def cL (n : Nat) (ad : Nat → Nat) (K E P T V : Nat → Int32) (F U M X : Nat → Int64) : va_W := (List.range n).map (fun j => (ad (j + 1), oe K E P T V F U M X (j + 1)))
def cW (g cs : Nat → Nat) (n : Nat) (now : Int64) (ad : Nat → Nat) (K E P T V : Nat → Int32) (F U M X : Nat → Int64) (rk wy ps rg : Nat → Int32) (rs : Int32) : va_W := cF g cs n now (og n ad) rk wy ps rg rs ++ cL n ad K E P T V F U M X
/-- the picture of the reference: its object, its twelve arrays -/
def mW (a cs : Nat → Nat) (th : Int32) (n : Nat) (now : Int64) (K E P T V : Nat → Int32) (F U M O : Nat → Int64) (rk wy rg : Nat → Int32) (rf rs : Int32) : va_W :=
  [(a 0, .inr (4, [.int th, .int (nI n), .ref (a 1), .ref (a 2), .ref (a 3), .ref (a 4), .ref (a 5), .ref (a 6), .ref (a 7), .ref (a 8), .ref (a 9), .ref (a 10), .long now, .ref (a 11), .int rf, .int rs, .ref (a 12)])), (a 1, .inl (cs 0, 201, .inl K)), (a 2, .inl (cs 0, 201, .inl E)), (a 3, .inl (cs 0, 201, .inl P)), (a 4, .inl (cs 0, 201, .inl T)), (a 5, .inl (cs 2, 201, .inr (.inl F))), (a 6, .inl (cs 2, 201, .inr (.inl U))), (a 7, .inl (cs 2, 201, .inr (.inl M))), (a 8, .inl (cs 1, 201, .inl V)), (a 9, .inl (cs 2, 201, .inr (.inl O))), (a 10, .inl (cs 0, 9, .inl rk)), (a 11, .inl (cs 0, 101, .inl wy)), (a 12, .inl (cs 0, 100, .inl rg))]
theorem cL_at {n : Nat} {ad : Nat → Nat} {K E P T V : Nat → Int32} {F U M X : Nat → Int64} {k : Nat} (h1 : 1 ≤ k) (h2 : k ≤ n) (W0 : va_W) (hW : W0.length = 6) : (W0 ++ cL n ad K E P T V F U M X)[5 + k]? = some (ad k, oe K E P T V F U M X k) := by
  obtain ⟨j, rfl⟩ : ∃ j, k = j + 1 := ⟨k - 1, by omega⟩
  rw [List.getElem?_append_right (by omega), show 5 + (j + 1) - W0.length = j by omega]
  unfold cL
  rw [List.getElem?_map, List.getElem?_range (by omega)]
  rfl
theorem cW_at {g cs : Nat → Nat} {n : Nat} {now : Int64} {ad : Nat → Nat} {K E P T V : Nat → Int32} {F U M X : Nat → Int64} {rk wy ps rg : Nat → Int32} {rs : Int32} {k : Nat} (h1 : 1 ≤ k) (h2 : k ≤ n) : (cW g cs n now ad K E P T V F U M X rk wy ps rg rs)[5 + k]? = some (ad k, .inr (cx (K k), oF (cx (K k)) (K k) (E k) (P k) (F k) (U k) (M k) (V k) (X k) (T k))) := cL_at h1 h2 _ rfl
theorem cL_set {n : Nat} {ad : Nat → Nat} {K E P T V V' : Nat → Int32} {F U U' M X X' : Nat → Int64} {k : Nat} (h1 : 1 ≤ k) (h2 : k ≤ n) (W0 : va_W) (hW : W0.length = 6) {x : va_E} (hx : oe K E P T V' F U' M X' k = x) (ho : ∀ j, j ≠ k → oe K E P T V' F U' M X' j = oe K E P T V F U M X j) : (W0 ++ cL n ad K E P T V F U M X).set (5 + k) (ad k, x) = W0 ++ cL n ad K E P T V' F U' M X' := by
  obtain ⟨j, rfl⟩ : ∃ j, k = j + 1 := ⟨k - 1, by omega⟩
  rw [List.set_append, if_neg (by omega), show 5 + (j + 1) - W0.length = j by omega]
  congr 1
  apply List.ext_getElem?
  intro i
  unfold cL
  by_cases hi : i = j
  · subst hi
    rw [List.getElem?_set_self (by simp; omega), List.getElem?_map, List.getElem?_range (by omega)]
    simp [hx]
  · rw [List.getElem?_set_ne (Ne.symm hi), List.getElem?_map, List.getElem?_map]
    by_cases hn : i < n
    · rw [List.getElem?_range hn]
      simp [ho (i + 1) (by omega)]
    · rw [List.getElem?_eq_none (by simp; omega)]
      rfl
theorem cW_setX {g cs : Nat → Nat} {n : Nat} {now : Int64} {ad : Nat → Nat} {K E P T V : Nat → Int32} {F U M X : Nat → Int64} {rk wy ps rg : Nat → Int32} {rs : Int32} {k : Nat} (h1 : 1 ≤ k) (h2 : k ≤ n) (x : Int64) : (cW g cs n now ad K E P T V F U M X rk wy ps rg rs).set (5 + k) (ad k, .inr (cx (K k), oF (cx (K k)) (K k) (E k) (P k) (F k) (U k) (M k) (V k) x (T k))) = cW g cs n now ad K E P T V F U M (vp_updL X k x) rk wy ps rg rs :=
  cL_set h1 h2 _ rfl (by simp [oe, pk_uLs]) (fun j hj => by simp [oe, pk_uLn hj])
theorem cW_setU {g cs : Nat → Nat} {n : Nat} {now : Int64} {ad : Nat → Nat} {K E P T V : Nat → Int32} {F U M X : Nat → Int64} {rk wy ps rg : Nat → Int32} {rs : Int32} {k : Nat} (h1 : 1 ≤ k) (h2 : k ≤ n) (x : Int64) : (cW g cs n now ad K E P T V F U M X rk wy ps rg rs).set (5 + k) (ad k, .inr (cx (K k), oF (cx (K k)) (K k) (E k) (P k) (F k) x (M k) (V k) (X k) (T k))) = cW g cs n now ad K E P T V F (vp_updL U k x) M X rk wy ps rg rs :=
  cL_set h1 h2 _ rfl (by simp [oe, pk_uLs]) (fun j hj => by simp [oe, pk_uLn hj])
theorem cW_setV {g cs : Nat → Nat} {n : Nat} {now : Int64} {ad : Nat → Nat} {K E P T V : Nat → Int32} {F U M X : Nat → Int64} {rk wy ps rg : Nat → Int32} {rs : Int32} {k : Nat} (h1 : 1 ≤ k) (h2 : k ≤ n) (x : Int32) : (cW g cs n now ad K E P T V F U M X rk wy ps rg rs).set (5 + k) (ad k, .inr (cx (K k), oF (cx (K k)) (K k) (E k) (P k) (F k) (U k) (M k) x (X k) (T k))) = cW g cs n now ad K E P T (upd V k x) F U M X rk wy ps rg rs :=
  cL_set h1 h2 _ rfl (by simp [oe, pk_us]) (fun j hj => by simp [oe, pk_un hj])
section XA
variable {p : Program} {l : Launch} {e : Env} {R : Room} {s : State} {m : MethodId} {args : Array Value} {below : List Frame} {meth : Method} {c : Code} {H : Heap} {locs : List Loc} {cells slots : Nat} {Q : State → Prop} {cc : ByteArray} {pc : Nat} {ls : Array Slot} {rest : List Value} {D : va_G} {g cs : Nat → Nat} {n : Nat} {now : Int64} {ad : Nat → Nat} {K E P T V : Nat → Int32} {F U M X : Nat → Int64} {rk wy ps rg : Nat → Int32} {rs : Int32}
/-- orders[k] -/
theorem x_ald (hexec : p.tables.exec = Jvm.exec) (hb : c.code = cc) (hK : va_K D classes (ty4 cs) s) (hP : va_P D classes (cW g cs n now ad K E P T V F U M X rk wy ps rg rs) H) {k : Nat} (h1 : 1 ≤ k) (h2 : k ≤ n) (hn : n ≤ 200) (hdg : decode cc pc = .ok (.aaload, 1))
    (kk : W p l e R s m args below meth c H locs cells slots Q (F0 m (pc + 1) ls (.ref (ad k) :: rest))) : W p l e R s m args below meth c H locs cells slots Q (F0 m pc ls (.int (nI k) :: .ref (g 1) :: rest)) := by
  refine va_aldq (cA := cs 3) (C := R_O) (n := 201) (f := og n ad) hexec hb hK hP 1 3 rfl rfl (vp_in_nI (by omega) (by omega)) hdg ?_
  rw [nI_clamp (by omega), show og n ad k = some (ad k) from if_pos ⟨h1, h2⟩]
  exact kk
end XA
end
section
set_option maxHeartbeats 4000000 in
set_option maxRecDepth 100000 in
/-- outside(v, lo, hi) -/
theorem c_X_outside (l : Launch) (v : Int64) (lo : Int64) (hi : Int64) : Met l y_X_outside (Cond.code y_X_outside b_X_outside 6 (some .boolean) :: wt) ({ frames := 0, cells := 0, slots := 0, locals := 0 }) (va_Pc [.long v, .long lo, .long hi] (fun S0 => True)) (vp_Si (fun r => bl r (v < lo ∨ ¬ v ≤ hi))) 0 0 (fun _ => False) := by
  refine Met.ofW (cc := b_X_outside) (maxL := 6) (ret := (some .boolean)) (by decide) rfl ?_
  intro p e s m args below meth c s₁ B hml hv
  obtain ⟨rfl, -⟩ := hv
  have hx := B.exec
  have hb := B.bytes
  have hr := B.returns
  have ht : ∀ w ∈ wt, w.before _ s = true := fun w h => atoms_spec (ws := _ :: wt) B.pre w (List.mem_cons_of_mem _ h)
  have hown : s.vm.findClass R_X = some m.cls := findClass_of_methodNamed B.named
  have hlocks := B.notSynchronized
  have hl := lv_entry ([.long v, .long lo, .long hi]) (n := 6) (Nat.le_of_ble_eq_true rfl)
  rw [lg_entry_eq]
  generalize (lg_sl ([.long v, .long lo, .long hi]) ++ List.replicate (6 - (lg_sl ([.long v, .long lo, .long hi])).length) Slot.unset).toArray = ls at hl ⊢
  have hl : lv_has ls 6 [(0, .long v), (2, .long lo), (4, .long hi)] := hl
  refine lv_lload_n hx hb d_X_outside_0 rfl (lv_at hl 0 rfl) ?_
  refine lv_lload_n hx hb d_X_outside_1 rfl (lv_at hl 1 rfl) ?_
  refine lc_lt (tgt := 13) hx hb d_X_outside_2 d_X_outside_3 (by decide) (fun c_1 => ?_) (fun c_1 => ?_)
  · refine lv_iconst (v := 1) hx hb d_X_outside_13 (by decide) ?_
    refine lv_goto (tgt := 18) hx hb d_X_outside_14 (by decide) ?_
    exact W.zret (ty := .boolean) (v := 1) hx hb hr rfl (fun t9 ht9 _ => ⟨1, rfl, bl_1 (by first | (simp [c_1]; done) | grind), ht9⟩) (fun _ h9 => absurd h9 List.not_mem_nil) d_X_outside_18
  · refine lv_lload_n hx hb d_X_outside_6 rfl (lv_at hl 0 rfl) ?_
    refine lv_lload hx hb d_X_outside_7 (lv_at hl 2 rfl) ?_
    refine lc_le (tgt := 17) hx hb d_X_outside_9 d_X_outside_10 (by decide) (fun c_2 => ?_) (fun c_2 => ?_)
    · refine lv_iconst (v := 0) hx hb d_X_outside_17 (by decide) ?_
      exact W.zret (ty := .boolean) (v := 0) hx hb hr rfl (fun t9 ht9 _ => ⟨0, rfl, bl_0 (by first | (simp [c_1, c_2]; done) | grind), ht9⟩) (fun _ h9 => absurd h9 List.not_mem_nil) d_X_outside_18
    · refine lv_iconst (v := 1) hx hb d_X_outside_13 (by decide) ?_
      refine lv_goto (tgt := 18) hx hb d_X_outside_14 (by decide) ?_
      exact W.zret (ty := .boolean) (v := 1) hx hb hr rfl (fun t9 ht9 _ => ⟨1, rfl, bl_1 (by first | (simp [c_1, c_2]; done) | grind), ht9⟩) (fun _ h9 => absurd h9 List.not_mem_nil) d_X_outside_18
set_option maxHeartbeats 4000000 in
set_option maxRecDepth 100000 in
/-- isAddress(v) -/
theorem c_X_isAddress (l : Launch) (v : Int32) : Met l y_X_isAddress (Cond.code y_X_isAddress b_X_isAddress 1 (some .boolean) :: wt) ({ frames := 0, cells := 0, slots := 0, locals := 0 }) (va_Pc [.int v] (fun S0 => True)) (vp_Si (fun r => bl r (¬ v ≤ 0 ∧ ¬ 99 < v))) 0 0 (fun _ => False) := by
  refine Met.ofW (cc := b_X_isAddress) (maxL := 1) (ret := (some .boolean)) (by decide) rfl ?_
  intro p e s m args below meth c s₁ B hml hv
  obtain ⟨rfl, -⟩ := hv
  have hx := B.exec
  have hb := B.bytes
  have hr := B.returns
  have ht : ∀ w ∈ wt, w.before _ s = true := fun w h => atoms_spec (ws := _ :: wt) B.pre w (List.mem_cons_of_mem _ h)
  have hown : s.vm.findClass R_X = some m.cls := findClass_of_methodNamed B.named
  have hlocks := B.notSynchronized
  have hl := lv_entry ([.int v]) (n := 1) (Nat.le_of_ble_eq_true rfl)
  rw [lg_entry_eq]
  generalize (lg_sl ([.int v]) ++ List.replicate (1 - (lg_sl ([.int v])).length) Slot.unset).toArray = ls at hl ⊢
  have hl : lv_has ls 1 [(0, .int v)] := hl
  refine lv_iload_n hx hb d_X_isAddress_0 rfl (lv_at hl 0 rfl) ?_
  refine lv_if_le (tgt := 14) hx hb d_X_isAddress_1 (by decide) (fun c_1 => ?_) (fun c_1 => ?_)
  · refine lv_iconst (v := 0) hx hb d_X_isAddress_14 (by decide) ?_
    exact W.zret (ty := .boolean) (v := 0) hx hb hr rfl (fun t9 ht9 _ => ⟨0, rfl, bl_0 (by first | (simp [c_1]; done) | grind), ht9⟩) (fun _ h9 => absurd h9 List.not_mem_nil) d_X_isAddress_15
  · refine lv_iload_n hx hb d_X_isAddress_4 rfl (lv_at hl 0 rfl) ?_
    refine lv_bipush (v := 99) hx hb d_X_isAddress_5 (by decide) ?_
    refine lv_icmp_gt (tgt := 14) hx hb d_X_isAddress_7 (by decide) (fun c_2 => ?_) (fun c_2 => ?_)
    · refine lv_iconst (v := 0) hx hb d_X_isAddress_14 (by decide) ?_
      exact W.zret (ty := .boolean) (v := 0) hx hb hr rfl (fun t9 ht9 _ => ⟨0, rfl, bl_0 (by first | (simp [c_1, c_2]; done) | grind), ht9⟩) (fun _ h9 => absurd h9 List.not_mem_nil) d_X_isAddress_15
    · refine lv_iconst (v := 1) hx hb d_X_isAddress_10 (by decide) ?_
      refine lv_goto (tgt := 15) hx hb d_X_isAddress_11 (by decide) ?_
      exact W.zret (ty := .boolean) (v := 1) hx hb hr rfl (fun t9 ht9 _ => ⟨1, rfl, bl_1 (by first | (simp [c_1, c_2]; done) | grind), ht9⟩) (fun _ h9 => absurd h9 List.not_mem_nil) d_X_isAddress_15
set_option maxHeartbeats 4000000 in
set_option maxRecDepth 100000 in
/-- isKind(v) -/
theorem c_X_isKind (l : Launch) (v : Int32) : Met l y_X_isKind (Cond.code y_X_isKind b_X_isKind 1 (some .boolean) :: wt) ({ frames := 0, cells := 0, slots := 0, locals := 0 }) (va_Pc [.int v] (fun S0 => True)) (vp_Si (fun r => bl r (¬ v < 0 ∧ ¬ 9 ≤ v))) 0 0 (fun _ => False) := by
  refine Met.ofW (cc := b_X_isKind) (maxL := 1) (ret := (some .boolean)) (by decide) rfl ?_
  intro p e s m args below meth c s₁ B hml hv
  obtain ⟨rfl, -⟩ := hv
  have hx := B.exec
  have hb := B.bytes
  have hr := B.returns
  have ht : ∀ w ∈ wt, w.before _ s = true := fun w h => atoms_spec (ws := _ :: wt) B.pre w (List.mem_cons_of_mem _ h)
  have hown : s.vm.findClass R_X = some m.cls := findClass_of_methodNamed B.named
  have hlocks := B.notSynchronized
  have hl := lv_entry ([.int v]) (n := 1) (Nat.le_of_ble_eq_true rfl)
  rw [lg_entry_eq]
  generalize (lg_sl ([.int v]) ++ List.replicate (1 - (lg_sl ([.int v])).length) Slot.unset).toArray = ls at hl ⊢
  have hl : lv_has ls 1 [(0, .int v)] := hl
  refine lv_iload_n hx hb d_X_isKind_0 rfl (lv_at hl 0 rfl) ?_
  refine lv_if_lt (tgt := 14) hx hb d_X_isKind_1 (by decide) (fun c_1 => ?_) (fun c_1 => ?_)
  · refine lv_iconst (v := 0) hx hb d_X_isKind_14 (by decide) ?_
    exact W.zret (ty := .boolean) (v := 0) hx hb hr rfl (fun t9 ht9 _ => ⟨0, rfl, bl_0 (by first | (simp [c_1]; done) | grind), ht9⟩) (fun _ h9 => absurd h9 List.not_mem_nil) d_X_isKind_15
  · refine lv_iload_n hx hb d_X_isKind_4 rfl (lv_at hl 0 rfl) ?_
    refine lv_bipush (v := 9) hx hb d_X_isKind_5 (by decide) ?_
    refine lv_icmp_ge (tgt := 14) hx hb d_X_isKind_7 (by decide) (fun c_2 => ?_) (fun c_2 => ?_)
    · refine lv_iconst (v := 0) hx hb d_X_isKind_14 (by decide) ?_
      exact W.zret (ty := .boolean) (v := 0) hx hb hr rfl (fun t9 ht9 _ => ⟨0, rfl, bl_0 (by first | (simp [c_1, c_2]; done) | grind), ht9⟩) (fun _ h9 => absurd h9 List.not_mem_nil) d_X_isKind_15
    · refine lv_iconst (v := 1) hx hb d_X_isKind_10 (by decide) ?_
      refine lv_goto (tgt := 15) hx hb d_X_isKind_11 (by decide) ?_
      exact W.zret (ty := .boolean) (v := 1) hx hb hr rfl (fun t9 ht9 _ => ⟨1, rfl, bl_1 (by first | (simp [c_1, c_2]; done) | grind), ht9⟩) (fun _ h9 => absurd h9 List.not_mem_nil) d_X_isKind_15
set_option maxHeartbeats 4000000 in
set_option maxRecDepth 100000 in
/-- the reference: isIn(v, lo, hi) -/
theorem c_M_isIn (l : Launch) (v : Int64) (lo : Int64) (hi : Int64) : Met l y_M_isIn (Cond.code y_M_isIn b_M_isIn 6 (some .boolean) :: wt) ({ frames := 0, cells := 0, slots := 0, locals := 0 }) (va_Pc [.long v, .long lo, .long hi] (fun S0 => True)) (vp_Si (fun r => bl r (¬ v < lo ∧ ¬ hi < v))) 0 0 (fun _ => False) := by
  refine Met.ofW (cc := b_M_isIn) (maxL := 6) (ret := (some .boolean)) (by decide) rfl ?_
  intro p e s m args below meth c s₁ B hml hv
  obtain ⟨rfl, -⟩ := hv
  have hx := B.exec
  have hb := B.bytes
  have hr := B.returns
  have ht : ∀ w ∈ wt, w.before _ s = true := fun w h => atoms_spec (ws := _ :: wt) B.pre w (List.mem_cons_of_mem _ h)
  have hown : s.vm.findClass R_M = some m.cls := findClass_of_methodNamed B.named
  have hlocks := B.notSynchronized
  have hl := lv_entry ([.long v, .long lo, .long hi]) (n := 6) (Nat.le_of_ble_eq_true rfl)
  rw [lg_entry_eq]
  generalize (lg_sl ([.long v, .long lo, .long hi]) ++ List.replicate (6 - (lg_sl ([.long v, .long lo, .long hi])).length) Slot.unset).toArray = ls at hl ⊢
  have hl : lv_has ls 6 [(0, .long v), (2, .long lo), (4, .long hi)] := hl
  refine lv_lload_n hx hb d_M_isIn_0 rfl (lv_at hl 0 rfl) ?_
  refine lv_lload_n hx hb d_M_isIn_1 rfl (lv_at hl 1 rfl) ?_
  refine lc_lt (tgt := 17) hx hb d_M_isIn_2 d_M_isIn_3 (by decide) (fun c_1 => ?_) (fun c_1 => ?_)
  · refine lv_iconst (v := 0) hx hb d_M_isIn_17 (by decide) ?_
    exact W.zret (ty := .boolean) (v := 0) hx hb hr rfl (fun t9 ht9 _ => ⟨0, rfl, bl_0 (by first | (simp [c_1]; done) | grind), ht9⟩) (fun _ h9 => absurd h9 List.not_mem_nil) d_M_isIn_18
  · refine lv_lload_n hx hb d_M_isIn_6 rfl (lv_at hl 0 rfl) ?_
    refine lv_lload hx hb d_M_isIn_7 (lv_at hl 2 rfl) ?_
    refine lc_gt (tgt := 17) hx hb d_M_isIn_9 d_M_isIn_10 (by decide) (fun c_2 => ?_) (fun c_2 => ?_)
    · refine lv_iconst (v := 0) hx hb d_M_isIn_17 (by decide) ?_
      exact W.zret (ty := .boolean) (v := 0) hx hb hr rfl (fun t9 ht9 _ => ⟨0, rfl, bl_0 (by first | (simp [c_1, c_2]; done) | grind), ht9⟩) (fun _ h9 => absurd h9 List.not_mem_nil) d_M_isIn_18
    · refine lv_iconst (v := 1) hx hb d_M_isIn_13 (by decide) ?_
      refine lv_goto (tgt := 18) hx hb d_M_isIn_14 (by decide) ?_
      exact W.zret (ty := .boolean) (v := 1) hx hb hr rfl (fun t9 ht9 _ => ⟨1, rfl, bl_1 (by first | (simp [c_1, c_2]; done) | grind), ht9⟩) (fun _ h9 => absurd h9 List.not_mem_nil) d_M_isIn_18
def lmax (x y : Int64) : Int64 := if y < x then x else y
theorem oF_len {ci : Nat} {kd en wh : Int32} {fm un md : Int64} {pv : Int32} {ov : Int64} {tt : Int32} {j : Nat} (h : j < 8) : j < (oF ci kd en wh fm un md pv ov tt).length := by
  unfold oF
  simp only [List.length_cons]
  omega
theorem se_O_lapses {ci : Nat} (h : ci < 3) : Cond.selects (C_o ci) y_O_lapses y_O_lapses ∈ wt := by
  match ci, h with
  | 0, _ => exact tk_155
  | 1, _ => exact tk_156
  | 2, _ => exact tk_157
theorem se_O_isOver {ci : Nat} (h : ci < 3) : Cond.selects (C_o ci) y_O_isOver y_O_isOver ∈ wt := by
  match ci, h with
  | 0, _ => exact tk_162
  | 1, _ => exact tk_163
  | 2, _ => exact tk_164
theorem se_O_cut {ci : Nat} (h : ci < 3) : Cond.selects (C_o ci) y_O_cut y_O_cut ∈ wt := by
  match ci, h with
  | 0, _ => exact tk_176
  | 1, _ => exact tk_177
  | 2, _ => exact tk_178
theorem se_O_isFor {ci : Nat} (h : ci < 3) : Cond.selects (C_o ci) y_O_isFor y_O_isFor ∈ wt := by
  match ci, h with
  | 0, _ => exact tk_199
  | 1, _ => exact tk_200
  | 2, _ => exact tk_201
theorem se_O_isIn {ci : Nat} (h : ci < 3) : Cond.selects (C_o ci) y_O_isIn y_O_isIn ∈ wt := by
  match ci, h with
  | 0, _ => exact tk_206
  | 1, _ => exact tk_207
  | 2, _ => exact tk_208
theorem se_O_sendsOn {ci : Nat} (h : ci < 3) : Cond.selects (C_o ci) y_O_sendsOn y_O_sendsOn ∈ wt := by
  match ci, h with
  | 0, _ => exact tk_213
  | 1, _ => exact tk_214
  | 2, _ => exact tk_215
set_option maxHeartbeats 4000000 in
set_option maxRecDepth 100000 in
/-- Order.isOver -/
theorem c_O_isOver (l : Launch) (kd en wh : Int32) (fm un md : Int64) (pv : Int32) (ov : Int64) (tt : Int32)  (ci : Nat) (hci : ci < 3) (D : va_G) (cs : Nat → Nat) (h0 : Nat) : Met l y_O_isOver (Cond.code y_O_isOver b_O_isOver 1 (some .boolean) :: wt) ({ frames := 0, cells := 0, slots := 0, locals := 0 }) (va_Pc [.ref h0] (fun S0 => va_P D classes [(h0, .inr (ci, oF ci kd en wh fm un md pv ov tt))] S0.heap ∧ KK D cs S0)) (vp_Si (fun r => bl r (¬ 1000000 ≤ ov))) 0 0 (fun _ => False) := by
  refine Met.ofW (cc := b_O_isOver) (maxL := 1) (ret := (some .boolean)) (by decide) rfl ?_
  intro p e s m args below meth c s₁ B hml hv
  obtain ⟨rfl, hP, hK, hN⟩ := hv
  have hx := B.exec
  have hb := B.bytes
  have hr := B.returns
  have ht : ∀ w ∈ wt, w.before _ s = true := fun w h => atoms_spec (ws := _ :: wt) B.pre w (List.mem_cons_of_mem _ h)
  have hown : s.vm.findClass R_O = some m.cls := findClass_of_methodNamed B.named
  have hlocks := B.notSynchronized
  have hl := lv_entry ([.ref h0]) (n := 1) (Nat.le_of_ble_eq_true rfl)
  rw [lg_entry_eq]
  generalize (lg_sl ([.ref h0]) ++ List.replicate (1 - (lg_sl ([.ref h0])).length) Slot.unset).toArray = ls at hl ⊢
  have hl : lv_has ls 1 [(0, .ref h0)] := hl
  refine lv_aload_n hx hb d_O_isOver_0 rfl (lv_at hl 0 rfl) ?_
  refine va_get (D := D) (ci := ci) (C := C_o ci) (T := F_O) (N := N_o ci) (v := .long ov) hx hb ht (i_o hci) hown hK hP 0 rfl (cl_o hci) 7 (n_o (by decide)) (ht _ tk_85) (fun _ h9 => h9) rfl d_O_isOver_1 ?_
  refine lv_ldc2 (v := 1000000) hx hb hown (ht _ tk_71) d_O_isOver_4 ?_
  refine lc_ge (tgt := 15) hx hb d_O_isOver_7 d_O_isOver_8 (by decide) (fun c_1 => ?_) (fun c_1 => ?_)
  · refine lv_iconst (v := 0) hx hb d_O_isOver_15 (by decide) ?_
    exact W.zret (ty := .boolean) (v := 0) hx hb hr rfl (fun t9 ht9 _ => ⟨0, rfl, bl_0 (by first | (simp [c_1]; done) | grind), ht9⟩) (fun _ h9 => absurd h9 List.not_mem_nil) d_O_isOver_16
  · refine lv_iconst (v := 1) hx hb d_O_isOver_11 (by decide) ?_
    refine lv_goto (tgt := 16) hx hb d_O_isOver_12 (by decide) ?_
    exact W.zret (ty := .boolean) (v := 1) hx hb hr rfl (fun t9 ht9 _ => ⟨1, rfl, bl_1 (by first | (simp [c_1]; done) | grind), ht9⟩) (fun _ h9 => absurd h9 List.not_mem_nil) d_O_isOver_16
set_option maxHeartbeats 4000000 in
set_option maxRecDepth 100000 in
/-- Order.isIn(day) -/
theorem c_O_isIn (l : Launch) (kd en wh : Int32) (fm un md : Int64) (pv : Int32) (ov : Int64) (tt : Int32) (dd : Int64) (ci : Nat) (hci : ci < 3) (D : va_G) (cs : Nat → Nat) (h0 : Nat) : Met l y_O_isIn (Cond.code y_O_isIn b_O_isIn 3 (some .boolean) :: wt) ({ frames := 0, cells := 0, slots := 0, locals := 0 }) (va_Pc [.ref h0, .long dd] (fun S0 => va_P D classes [(h0, .inr (ci, oF ci kd en wh fm un md pv ov tt))] S0.heap ∧ KK D cs S0)) (vp_Si (fun r => bl r (¬ dd < fm ∧ ¬ un < dd ∧ ¬ ov ≤ dd))) 0 0 (fun _ => False) := by
  refine Met.ofW (cc := b_O_isIn) (maxL := 3) (ret := (some .boolean)) (by decide) rfl ?_
  intro p e s m args below meth c s₁ B hml hv
  obtain ⟨rfl, hP, hK, hN⟩ := hv
  have hx := B.exec
  have hb := B.bytes
  have hr := B.returns
  have ht : ∀ w ∈ wt, w.before _ s = true := fun w h => atoms_spec (ws := _ :: wt) B.pre w (List.mem_cons_of_mem _ h)
  have hown : s.vm.findClass R_O = some m.cls := findClass_of_methodNamed B.named
  have hlocks := B.notSynchronized
  have hl := lv_entry ([.ref h0, .long dd]) (n := 3) (Nat.le_of_ble_eq_true rfl)
  rw [lg_entry_eq]
  generalize (lg_sl ([.ref h0, .long dd]) ++ List.replicate (3 - (lg_sl ([.ref h0, .long dd])).length) Slot.unset).toArray = ls at hl ⊢
  have hl : lv_has ls 3 [(0, .ref h0), (1, .long dd)] := hl
  refine lv_lload_n hx hb d_O_isIn_0 rfl (lv_at hl 1 rfl) ?_
  refine lv_aload_n hx hb d_O_isIn_1 rfl (lv_at hl 0 rfl) ?_
  refine va_get (D := D) (ci := ci) (C := C_o ci) (T := F_O) (N := N_o ci) (v := .long fm) hx hb ht (i_o hci) hown hK hP 0 rfl (cl_o hci) 3 (n_o (by decide)) (ht _ tk_78) (fun _ h9 => h9) rfl d_O_isIn_2 ?_
  refine lc_lt (tgt := 31) hx hb d_O_isIn_5 d_O_isIn_6 (by decide) (fun c_1 => ?_) (fun c_1 => ?_)
  · refine lv_iconst (v := 0) hx hb d_O_isIn_31 (by decide) ?_
    exact W.zret (ty := .boolean) (v := 0) hx hb hr rfl (fun t9 ht9 _ => ⟨0, rfl, bl_0 (by first | (simp [c_1]; done) | grind), ht9⟩) (fun _ h9 => absurd h9 List.not_mem_nil) d_O_isIn_32
  · refine lv_lload_n hx hb d_O_isIn_9 rfl (lv_at hl 1 rfl) ?_
    refine lv_aload_n hx hb d_O_isIn_10 rfl (lv_at hl 0 rfl) ?_
    refine va_get (D := D) (ci := ci) (C := C_o ci) (T := F_O) (N := N_o ci) (v := .long un) hx hb ht (i_o hci) hown hK hP 0 rfl (cl_o hci) 4 (n_o (by decide)) (ht _ tk_79) (fun _ h9 => h9) rfl d_O_isIn_11 ?_
    refine lc_gt (tgt := 31) hx hb d_O_isIn_14 d_O_isIn_15 (by decide) (fun c_2 => ?_) (fun c_2 => ?_)
    · refine lv_iconst (v := 0) hx hb d_O_isIn_31 (by decide) ?_
      exact W.zret (ty := .boolean) (v := 0) hx hb hr rfl (fun t9 ht9 _ => ⟨0, rfl, bl_0 (by first | (simp [c_1, c_2]; done) | grind), ht9⟩) (fun _ h9 => absurd h9 List.not_mem_nil) d_O_isIn_32
    · refine lv_lload_n hx hb d_O_isIn_18 rfl (lv_at hl 1 rfl) ?_
      refine lv_aload_n hx hb d_O_isIn_19 rfl (lv_at hl 0 rfl) ?_
      refine va_get (D := D) (ci := ci) (C := C_o ci) (T := F_O) (N := N_o ci) (v := .long ov) hx hb ht (i_o hci) hown hK hP 0 rfl (cl_o hci) 7 (n_o (by decide)) (ht _ tk_85) (fun _ h9 => h9) rfl d_O_isIn_20 ?_
      refine lc_ge (tgt := 31) hx hb d_O_isIn_23 d_O_isIn_24 (by decide) (fun c_3 => ?_) (fun c_3 => ?_)
      · refine lv_iconst (v := 0) hx hb d_O_isIn_31 (by decide) ?_
        exact W.zret (ty := .boolean) (v := 0) hx hb hr rfl (fun t9 ht9 _ => ⟨0, rfl, bl_0 (by first | (simp [c_1, c_2, c_3]; done) | grind), ht9⟩) (fun _ h9 => absurd h9 List.not_mem_nil) d_O_isIn_32
      · refine lv_iconst (v := 1) hx hb d_O_isIn_27 (by decide) ?_
        refine lv_goto (tgt := 32) hx hb d_O_isIn_28 (by decide) ?_
        exact W.zret (ty := .boolean) (v := 1) hx hb hr rfl (fun t9 ht9 _ => ⟨1, rfl, bl_1 (by first | (simp [c_1, c_2, c_3]; done) | grind), ht9⟩) (fun _ h9 => absurd h9 List.not_mem_nil) d_O_isIn_32
set_option maxHeartbeats 4000000 in
set_option maxRecDepth 100000 in
/-- Order.isFor(address, person, class, day) -/
theorem c_O_isFor (l : Launch) (kd en wh : Int32) (fm un md : Int64) (pv : Int32) (ov : Int64) (tt : Int32) (ad : Int32) (pe : Int32) (oc : Int32) (dd : Int64) (ci : Nat) (hci : ci < 3) (D : va_G) (cs : Nat → Nat) (h0 : Nat) : Met l y_O_isFor (Cond.code y_O_isFor b_O_isFor 6 (some .boolean) :: wt) ({ frames := 1, cells := 0, slots := 0, locals := 22 }) (va_Pc [.ref h0, .int ad, .int pe, .int oc, .long dd] (fun S0 => va_P D classes [(h0, .inr (ci, oF ci kd en wh fm un md pv ov tt))] S0.heap ∧ KK D cs S0)) (vp_Si (fun r => bl r (en = ad ∧ (wh = -1 ∨ wh = pe) ∧ kd - kd / 3 * 3 = oc ∧ ¬ dd < fm ∧ ¬ un < dd ∧ ¬ ov ≤ dd))) 0 0 (fun _ => False) := by
  refine Met.ofW (cc := b_O_isFor) (maxL := 6) (ret := (some .boolean)) (by decide) rfl ?_
  intro p e s m args below meth c s₁ B hml hv
  obtain ⟨rfl, hP, hK, hN⟩ := hv
  have hx := B.exec
  have hb := B.bytes
  have hr := B.returns
  have ht : ∀ w ∈ wt, w.before _ s = true := fun w h => atoms_spec (ws := _ :: wt) B.pre w (List.mem_cons_of_mem _ h)
  have hown : s.vm.findClass R_O = some m.cls := findClass_of_methodNamed B.named
  have hlocks := B.notSynchronized
  have hl := lv_entry ([.ref h0, .int ad, .int pe, .int oc, .long dd]) (n := 6) (Nat.le_of_ble_eq_true rfl)
  rw [lg_entry_eq]
  generalize (lg_sl ([.ref h0, .int ad, .int pe, .int oc, .long dd]) ++ List.replicate (6 - (lg_sl ([.ref h0, .int ad, .int pe, .int oc, .long dd])).length) Slot.unset).toArray = ls at hl ⊢
  have hl : lv_has ls 6 [(0, .ref h0), (1, .int ad), (2, .int pe), (3, .int oc), (4, .long dd)] := hl
  refine lv_aload_n hx hb d_O_isFor_0 rfl (lv_at hl 0 rfl) ?_
  refine va_get (D := D) (ci := ci) (C := C_o ci) (T := F_O) (N := N_o ci) (v := .int en) hx hb ht (i_o hci) hown hK hP 0 rfl (cl_o hci) 1 (n_o (by decide)) (ht _ tk_75) (fun _ h9 => h9) rfl d_O_isFor_1 ?_
  refine lv_iload_n hx hb d_O_isFor_4 rfl (lv_at hl 1 rfl) ?_
  refine lv_icmp_ne (tgt := 47) hx hb d_O_isFor_5 (by decide) (fun c_1 => ?_) (fun c_1 => ?_)
  · refine lv_iconst (v := 0) hx hb d_O_isFor_47 (by decide) ?_
    exact W.zret (ty := .boolean) (v := 0) hx hb hr rfl (fun t9 ht9 _ => ⟨0, rfl, bl_0 (by first | (simp [c_1]; done) | grind), ht9⟩) (fun _ h9 => absurd h9 List.not_mem_nil) d_O_isFor_48
  · refine lv_aload_n hx hb d_O_isFor_8 rfl (lv_at hl 0 rfl) ?_
    refine va_get (D := D) (ci := ci) (C := C_o ci) (T := F_O) (N := N_o ci) (v := .int wh) hx hb ht (i_o hci) hown hK hP 0 rfl (cl_o hci) 2 (n_o (by decide)) (ht _ tk_76) (fun _ h9 => h9) rfl d_O_isFor_9 ?_
    refine lv_iconst (v := (-1)) hx hb d_O_isFor_12 (by decide) ?_
    refine lv_icmp_eq (tgt := 24) hx hb d_O_isFor_13 (by decide) (fun c_2 => ?_) (fun c_2 => ?_)
    · refine lv_aload_n hx hb d_O_isFor_24 rfl (lv_at hl 0 rfl) ?_
      refine va_get (D := D) (ci := ci) (C := C_o ci) (T := F_O) (N := N_o ci) (v := .int kd) hx hb ht (i_o hci) hown hK hP 0 rfl (cl_o hci) 0 (n_o (by decide)) (ht _ tk_73) (fun _ h9 => h9) rfl d_O_isFor_25 ?_
      refine lv_iconst (v := 3) hx hb d_O_isFor_28 (by decide) ?_
      refine lv_irem hx hb d_O_isFor_29 (by decide) ?_
      refine lv_iload_n hx hb d_O_isFor_30 rfl (lv_at hl 3 rfl) ?_
      refine lv_icmp_ne (tgt := 47) hx hb d_O_isFor_31 (by decide) (fun c_3 => ?_) (fun c_3 => ?_)
      · refine lv_iconst (v := 0) hx hb d_O_isFor_47 (by decide) ?_
        exact W.zret (ty := .boolean) (v := 0) hx hb hr rfl (fun t9 ht9 _ => ⟨0, rfl, bl_0 (by first | (simp [c_1, c_2, c_3]; done) | grind), ht9⟩) (fun _ h9 => absurd h9 List.not_mem_nil) d_O_isFor_48
      · refine lv_aload_n hx hb d_O_isFor_34 rfl (lv_at hl 0 rfl) ?_
        refine lv_lload hx hb d_O_isFor_35 (lv_at hl 4 rfl) ?_
        have hPo_6 := hP
        refine vp_callSi (va_runU (C := C_o ci) (As := [.long dd]) (rest := []) ⟨hx, hb, hml, hown, ht⟩ (c_O_isIn l kd en wh fm un md pv ov tt dd ci hci D cs h0) (cU_ 1 ht tk_209 tk_203 tk_3 tk_204 tk_205 (se_O_isIn hci) (va_Decl.of (ht _ tk_204) (ht _ tk_209)) hd_O_isIn.2.2 ⟨Nat.le_of_ble_eq_true rfl, Nat.le_of_ble_eq_true rfl⟩) ⟨fun _ _ _ _ q => ⟨q.1, q.2.1, KK.call q.2.2⟩, va_recv (q0 := 0) hK hP (cl_o hci) rfl, fun U hU hW => ⟨rfl, by rw [hU]; exact hPo_6, KK.warm hK hN hW⟩⟩ rfl rfl hl.1 rfl (lv_room (Nat.le_of_ble_eq_true rfl)) d_O_isFor_37 ⟨Nat.le_of_ble_eq_true rfl, Nat.le_of_ble_eq_true rfl⟩).run (fun r_4 hw_5 => ?_)
        refine lv_if_eq (tgt := 47) hx hb d_O_isFor_40 (by decide) (fun c_7 => ?_) (fun c_7 => ?_)
        · have c_7 := bl_f hw_5 c_7
          refine lv_iconst (v := 0) hx hb d_O_isFor_47 (by decide) ?_
          exact W.zret (ty := .boolean) (v := 0) hx hb hr rfl (fun t9 ht9 _ => ⟨0, rfl, bl_0 (by first | (simp [c_1, c_2, c_3, c_7]; done) | grind), ht9⟩) (fun _ h9 => absurd h9 List.not_mem_nil) d_O_isFor_48
        · have c_7 := bl_t hw_5 c_7
          refine lv_iconst (v := 1) hx hb d_O_isFor_43 (by decide) ?_
          refine lv_goto (tgt := 48) hx hb d_O_isFor_44 (by decide) ?_
          exact W.zret (ty := .boolean) (v := 1) hx hb hr rfl (fun t9 ht9 _ => ⟨1, rfl, bl_1 (by first | (simp [c_1, c_2, c_3, c_7]; done) | grind), ht9⟩) (fun _ h9 => absurd h9 List.not_mem_nil) d_O_isFor_48
    · refine lv_aload_n hx hb d_O_isFor_16 rfl (lv_at hl 0 rfl) ?_
      refine va_get (D := D) (ci := ci) (C := C_o ci) (T := F_O) (N := N_o ci) (v := .int wh) hx hb ht (i_o hci) hown hK hP 0 rfl (cl_o hci) 2 (n_o (by decide)) (ht _ tk_76) (fun _ h9 => h9) rfl d_O_isFor_17 ?_
      refine lv_iload_n hx hb d_O_isFor_20 rfl (lv_at hl 2 rfl) ?_
      refine lv_icmp_ne (tgt := 47) hx hb d_O_isFor_21 (by decide) (fun c_8 => ?_) (fun c_8 => ?_)
      · refine lv_iconst (v := 0) hx hb d_O_isFor_47 (by decide) ?_
        exact W.zret (ty := .boolean) (v := 0) hx hb hr rfl (fun t9 ht9 _ => ⟨0, rfl, bl_0 (by first | (simp [c_1, c_2, c_8]; done) | grind), ht9⟩) (fun _ h9 => absurd h9 List.not_mem_nil) d_O_isFor_48
      · refine lv_aload_n hx hb d_O_isFor_24 rfl (lv_at hl 0 rfl) ?_
        refine va_get (D := D) (ci := ci) (C := C_o ci) (T := F_O) (N := N_o ci) (v := .int kd) hx hb ht (i_o hci) hown hK hP 0 rfl (cl_o hci) 0 (n_o (by decide)) (ht _ tk_73) (fun _ h9 => h9) rfl d_O_isFor_25 ?_
        refine lv_iconst (v := 3) hx hb d_O_isFor_28 (by decide) ?_
        refine lv_irem hx hb d_O_isFor_29 (by decide) ?_
        refine lv_iload_n hx hb d_O_isFor_30 rfl (lv_at hl 3 rfl) ?_
        refine lv_icmp_ne (tgt := 47) hx hb d_O_isFor_31 (by decide) (fun c_9 => ?_) (fun c_9 => ?_)
        · refine lv_iconst (v := 0) hx hb d_O_isFor_47 (by decide) ?_
          exact W.zret (ty := .boolean) (v := 0) hx hb hr rfl (fun t9 ht9 _ => ⟨0, rfl, bl_0 (by first | (simp [c_1, c_2, c_8, c_9]; done) | grind), ht9⟩) (fun _ h9 => absurd h9 List.not_mem_nil) d_O_isFor_48
        · refine lv_aload_n hx hb d_O_isFor_34 rfl (lv_at hl 0 rfl) ?_
          refine lv_lload hx hb d_O_isFor_35 (lv_at hl 4 rfl) ?_
          have hPo_12 := hP
          refine vp_callSi (va_runU (C := C_o ci) (As := [.long dd]) (rest := []) ⟨hx, hb, hml, hown, ht⟩ (c_O_isIn l kd en wh fm un md pv ov tt dd ci hci D cs h0) (cU_ 1 ht tk_209 tk_203 tk_3 tk_204 tk_205 (se_O_isIn hci) (va_Decl.of (ht _ tk_204) (ht _ tk_209)) hd_O_isIn.2.2 ⟨Nat.le_of_ble_eq_true rfl, Nat.le_of_ble_eq_true rfl⟩) ⟨fun _ _ _ _ q => ⟨q.1, q.2.1, KK.call q.2.2⟩, va_recv (q0 := 0) hK hP (cl_o hci) rfl, fun U hU hW => ⟨rfl, by rw [hU]; exact hPo_12, KK.warm hK hN hW⟩⟩ rfl rfl hl.1 rfl (lv_room (Nat.le_of_ble_eq_true rfl)) d_O_isFor_37 ⟨Nat.le_of_ble_eq_true rfl, Nat.le_of_ble_eq_true rfl⟩).run (fun r_10 hw_11 => ?_)
          refine lv_if_eq (tgt := 47) hx hb d_O_isFor_40 (by decide) (fun c_13 => ?_) (fun c_13 => ?_)
          · have c_13 := bl_f hw_11 c_13
            refine lv_iconst (v := 0) hx hb d_O_isFor_47 (by decide) ?_
            exact W.zret (ty := .boolean) (v := 0) hx hb hr rfl (fun t9 ht9 _ => ⟨0, rfl, bl_0 (by first | (simp [c_1, c_2, c_8, c_9, c_13]; done) | grind), ht9⟩) (fun _ h9 => absurd h9 List.not_mem_nil) d_O_isFor_48
          · have c_13 := bl_t hw_11 c_13
            refine lv_iconst (v := 1) hx hb d_O_isFor_43 (by decide) ?_
            refine lv_goto (tgt := 48) hx hb d_O_isFor_44 (by decide) ?_
            exact W.zret (ty := .boolean) (v := 1) hx hb hr rfl (fun t9 ht9 _ => ⟨1, rfl, bl_1 (by first | (simp [c_1, c_2, c_8, c_9, c_13]; done) | grind), ht9⟩) (fun _ h9 => absurd h9 List.not_mem_nil) d_O_isFor_48
set_option maxHeartbeats 4000000 in
set_option maxRecDepth 100000 in
/-- Order.lapses(day) -/
theorem c_O_lapses (l : Launch) (kd en wh : Int32) (fm un md : Int64) (pv : Int32) (ov : Int64) (tt : Int32) (dd : Int64) (ci : Nat) (hci : ci < 3) (D : va_G) (cs : Nat → Nat) (h0 : Nat) : Met l y_O_lapses (Cond.code y_O_lapses b_O_lapses 3 (some .boolean) :: wt) ({ frames := 1, cells := 0, slots := 0, locals := 20 }) (va_Pc [.ref h0, .long dd] (fun S0 => va_P D classes [(h0, .inr (ci, oF ci kd en wh fm un md pv ov tt))] S0.heap ∧ KK D cs S0)) (vp_Si (fun r => bl r (pv = 0 ∧ ¬ ¬ 1000000 ≤ ov ∧ ¬ dd ≤ md + 14))) 0 0 (fun _ => False) := by
  refine Met.ofW (cc := b_O_lapses) (maxL := 3) (ret := (some .boolean)) (by decide) rfl ?_
  intro p e s m args below meth c s₁ B hml hv
  obtain ⟨rfl, hP, hK, hN⟩ := hv
  have hx := B.exec
  have hb := B.bytes
  have hr := B.returns
  have ht : ∀ w ∈ wt, w.before _ s = true := fun w h => atoms_spec (ws := _ :: wt) B.pre w (List.mem_cons_of_mem _ h)
  have hown : s.vm.findClass R_O = some m.cls := findClass_of_methodNamed B.named
  have hlocks := B.notSynchronized
  have hl := lv_entry ([.ref h0, .long dd]) (n := 3) (Nat.le_of_ble_eq_true rfl)
  rw [lg_entry_eq]
  generalize (lg_sl ([.ref h0, .long dd]) ++ List.replicate (3 - (lg_sl ([.ref h0, .long dd])).length) Slot.unset).toArray = ls at hl ⊢
  have hl : lv_has ls 3 [(0, .ref h0), (1, .long dd)] := hl
  refine lv_aload_n hx hb d_O_lapses_0 rfl (lv_at hl 0 rfl) ?_
  refine va_get (D := D) (ci := ci) (C := C_o ci) (T := F_O) (N := N_o ci) (v := .int pv) hx hb ht (i_o hci) hown hK hP 0 rfl (cl_o hci) 6 (n_o (by decide)) (ht _ tk_83) (fun _ h9 => h9) rfl d_O_lapses_1 ?_
  refine lv_if_ne (tgt := 31) hx hb d_O_lapses_4 (by decide) (fun c_1 => ?_) (fun c_1 => ?_)
  · refine lv_iconst (v := 0) hx hb d_O_lapses_31 (by decide) ?_
    exact W.zret (ty := .boolean) (v := 0) hx hb hr rfl (fun t9 ht9 _ => ⟨0, rfl, bl_0 (by first | (simp [c_1]; done) | grind), ht9⟩) (fun _ h9 => absurd h9 List.not_mem_nil) d_O_lapses_32
  · refine lv_aload_n hx hb d_O_lapses_7 rfl (lv_at hl 0 rfl) ?_
    have hPo_4 := hP
    refine vp_callSi (va_runU (C := C_o ci) (As := []) (rest := []) ⟨hx, hb, hml, hown, ht⟩ (c_O_isOver l kd en wh fm un md pv ov tt  ci hci D cs h0) (cU_ 0 ht tk_165 tk_159 tk_3 tk_160 tk_161 (se_O_isOver hci) (va_Decl.of (ht _ tk_160) (ht _ tk_165)) hd_O_isOver.2.2 ⟨Nat.le_of_ble_eq_true rfl, Nat.le_of_ble_eq_true rfl⟩) ⟨fun _ _ _ _ q => ⟨q.1, q.2.1, KK.call q.2.2⟩, va_recv (q0 := 0) hK hP (cl_o hci) rfl, fun U hU hW => ⟨rfl, by rw [hU]; exact hPo_4, KK.warm hK hN hW⟩⟩ rfl rfl hl.1 rfl (lv_room (Nat.le_of_ble_eq_true rfl)) d_O_lapses_8 ⟨Nat.le_of_ble_eq_true rfl, Nat.le_of_ble_eq_true rfl⟩).run (fun r_2 hw_3 => ?_)
    refine lv_if_ne (tgt := 31) hx hb d_O_lapses_11 (by decide) (fun c_5 => ?_) (fun c_5 => ?_)
    · have c_5 := bl_t hw_3 c_5
      refine lv_iconst (v := 0) hx hb d_O_lapses_31 (by decide) ?_
      exact W.zret (ty := .boolean) (v := 0) hx hb hr rfl (fun t9 ht9 _ => ⟨0, rfl, bl_0 (by first | (simp [c_1, c_5]; done) | grind), ht9⟩) (fun _ h9 => absurd h9 List.not_mem_nil) d_O_lapses_32
    · have c_5 := bl_f hw_3 c_5
      refine lv_lload_n hx hb d_O_lapses_14 rfl (lv_at hl 1 rfl) ?_
      refine lv_aload_n hx hb d_O_lapses_15 rfl (lv_at hl 0 rfl) ?_
      refine va_get (D := D) (ci := ci) (C := C_o ci) (T := F_O) (N := N_o ci) (v := .long md) hx hb ht (i_o hci) hown hK hP 0 rfl (cl_o hci) 5 (n_o (by decide)) (ht _ tk_81) (fun _ h9 => h9) rfl d_O_lapses_16 ?_
      refine lv_ldc2 (v := 14) hx hb hown (ht _ tk_166) d_O_lapses_19 ?_
      refine lv_ladd hx hb d_O_lapses_22 ?_
      refine lc_le (tgt := 31) hx hb d_O_lapses_23 d_O_lapses_24 (by decide) (fun c_6 => ?_) (fun c_6 => ?_)
      · refine lv_iconst (v := 0) hx hb d_O_lapses_31 (by decide) ?_
        exact W.zret (ty := .boolean) (v := 0) hx hb hr rfl (fun t9 ht9 _ => ⟨0, rfl, bl_0 (by first | (simp [c_1, c_5, c_6]; done) | grind), ht9⟩) (fun _ h9 => absurd h9 List.not_mem_nil) d_O_lapses_32
      · refine lv_iconst (v := 1) hx hb d_O_lapses_27 (by decide) ?_
        refine lv_goto (tgt := 32) hx hb d_O_lapses_28 (by decide) ?_
        exact W.zret (ty := .boolean) (v := 1) hx hb hr rfl (fun t9 ht9 _ => ⟨1, rfl, bl_1 (by first | (simp [c_1, c_5, c_6]; done) | grind), ht9⟩) (fun _ h9 => absurd h9 List.not_mem_nil) d_O_lapses_32
set_option maxHeartbeats 4000000 in
set_option maxRecDepth 100000 in
/-- Forward.goesTo -/
theorem c_F_goesTo (l : Launch) (kd en wh : Int32) (fm un md : Int64) (pv : Int32) (ov : Int64) (tt : Int32) (D : va_G) (cs : Nat → Nat) (h0 : Nat) : Met l y_F_goesTo (Cond.code y_F_goesTo b_F_goesTo 1 (some .int) :: wt) ({ frames := 0, cells := 0, slots := 0, locals := 0 }) (va_Pc [.ref h0] (fun S0 => va_P D classes [(h0, .inr (0, oF 0 kd en wh fm un md pv ov tt))] S0.heap ∧ KK D cs S0)) (vp_Si (fun r => r = tt)) 0 0 (fun _ => False) := by
  refine Met.ofW (cc := b_F_goesTo) (maxL := 1) (ret := (some .int)) (by decide) rfl ?_
  intro p e s m args below meth c s₁ B hml hv
  obtain ⟨rfl, hP, hK, hN⟩ := hv
  have hx := B.exec
  have hb := B.bytes
  have hr := B.returns
  have ht : ∀ w ∈ wt, w.before _ s = true := fun w h => atoms_spec (ws := _ :: wt) B.pre w (List.mem_cons_of_mem _ h)
  have hown : s.vm.findClass R_F = some m.cls := findClass_of_methodNamed B.named
  have hlocks := B.notSynchronized
  have hl := lv_entry ([.ref h0]) (n := 1) (Nat.le_of_ble_eq_true rfl)
  rw [lg_entry_eq]
  generalize (lg_sl ([.ref h0]) ++ List.replicate (1 - (lg_sl ([.ref h0])).length) Slot.unset).toArray = ls at hl ⊢
  have hl : lv_has ls 1 [(0, .ref h0)] := hl
  refine lv_aload_n hx hb d_F_goesTo_0 rfl (lv_at hl 0 rfl) ?_
  refine va_get (D := D) (ci := 0) (C := C_o 0) (T := F_O) (N := N_o 0) (v := .int tt) hx hb ht (i_o (by decide)) hown hK hP 0 rfl (cl_o (by decide)) 8 (by decide) (ht _ tk_72) (fun _ h9 => h9) rfl d_F_goesTo_1 ?_
  exact W.iret (v := tt) hx hb hr (fun t9 ht9 _ => ⟨tt, rfl, rfl, ht9⟩) (fun _ h9 => absurd h9 List.not_mem_nil) d_F_goesTo_4
set_option maxHeartbeats 4000000 in
set_option maxRecDepth 100000 in
/-- Hold.goesTo -/
theorem c_H_goesTo (l : Launch) (kd en wh : Int32) (fm un md : Int64) (pv : Int32) (ov : Int64) (tt : Int32) (D : va_G) (cs : Nat → Nat) (h0 : Nat) : Met l y_H_goesTo (Cond.code y_H_goesTo b_H_goesTo 1 (some .int) :: wt) ({ frames := 0, cells := 0, slots := 0, locals := 0 }) (va_Pc [.ref h0] (fun S0 => va_P D classes [(h0, .inr (1, oF 1 kd en wh fm un md pv ov tt))] S0.heap ∧ KK D cs S0)) (vp_Si (fun r => r = 0)) 0 0 (fun _ => False) := by
  refine Met.ofW (cc := b_H_goesTo) (maxL := 1) (ret := (some .int)) (by decide) rfl ?_
  intro p e s m args below meth c s₁ B hml hv
  obtain ⟨rfl, hP, hK, hN⟩ := hv
  have hx := B.exec
  have hb := B.bytes
  have hr := B.returns
  have ht : ∀ w ∈ wt, w.before _ s = true := fun w h => atoms_spec (ws := _ :: wt) B.pre w (List.mem_cons_of_mem _ h)
  have hown : s.vm.findClass R_H = some m.cls := findClass_of_methodNamed B.named
  have hlocks := B.notSynchronized
  have hl := lv_entry ([.ref h0]) (n := 1) (Nat.le_of_ble_eq_true rfl)
  rw [lg_entry_eq]
  generalize (lg_sl ([.ref h0]) ++ List.replicate (1 - (lg_sl ([.ref h0])).length) Slot.unset).toArray = ls at hl ⊢
  have hl : lv_has ls 1 [(0, .ref h0)] := hl
  refine lv_iconst (v := 0) hx hb d_H_goesTo_0 (by decide) ?_
  exact W.iret (v := 0) hx hb hr (fun t9 ht9 _ => ⟨0, rfl, rfl, ht9⟩) (fun _ h9 => absurd h9 List.not_mem_nil) d_H_goesTo_1
set_option maxHeartbeats 4000000 in
set_option maxRecDepth 100000 in
/-- Refusal.goesTo -/
theorem c_R_goesTo (l : Launch) (kd en wh : Int32) (fm un md : Int64) (pv : Int32) (ov : Int64) (tt : Int32) (D : va_G) (cs : Nat → Nat) (h0 : Nat) : Met l y_R_goesTo (Cond.code y_R_goesTo b_R_goesTo 1 (some .int) :: wt) ({ frames := 0, cells := 0, slots := 0, locals := 0 }) (va_Pc [.ref h0] (fun S0 => va_P D classes [(h0, .inr (2, oF 2 kd en wh fm un md pv ov tt))] S0.heap ∧ KK D cs S0)) (vp_Si (fun r => r = (-2))) 0 0 (fun _ => False) := by
  refine Met.ofW (cc := b_R_goesTo) (maxL := 1) (ret := (some .int)) (by decide) rfl ?_
  intro p e s m args below meth c s₁ B hml hv
  obtain ⟨rfl, hP, hK, hN⟩ := hv
  have hx := B.exec
  have hb := B.bytes
  have hr := B.returns
  have ht : ∀ w ∈ wt, w.before _ s = true := fun w h => atoms_spec (ws := _ :: wt) B.pre w (List.mem_cons_of_mem _ h)
  have hown : s.vm.findClass R_R = some m.cls := findClass_of_methodNamed B.named
  have hlocks := B.notSynchronized
  have hl := lv_entry ([.ref h0]) (n := 1) (Nat.le_of_ble_eq_true rfl)
  rw [lg_entry_eq]
  generalize (lg_sl ([.ref h0]) ++ List.replicate (1 - (lg_sl ([.ref h0])).length) Slot.unset).toArray = ls at hl ⊢
  have hl : lv_has ls 1 [(0, .ref h0)] := hl
  refine lv_bipush (v := (-2)) hx hb d_R_goesTo_0 (by decide) ?_
  exact W.iret (v := (-2)) hx hb hr (fun t9 ht9 _ => ⟨(-2), rfl, rfl, ht9⟩) (fun _ h9 => absurd h9 List.not_mem_nil) d_R_goesTo_2
/-- what an order of a kind goes to -/
def gt (ci : Nat) (t : Int32) : Int32 := match ci with
  | 0 => t
  | 1 => 0
  | _ => -2
section WG
variable {p : Program} {l : Launch} {e : Env} {R : Room} {s : State} {m : MethodId} {args : Array Value} {below : List Frame} {meth : Method} {c : Code} {H : Heap} {locs : List Loc} {cells slots : Nat} {Q : State → Prop} {cc : ByteArray} {pc : Nat} {ls : Array Slot} {rest : List Value}
set_option maxHeartbeats 4000000 in
set_option maxRecDepth 100000 in
/-- a call of goesTo on an order of any kind -/
theorem w_goesTo {D : va_G} {cs : Nat → Nat} {ws : va_W} {i a ci index : Nat} {kd en wh : Int32} {fm un md : Int64} {pv : Int32} {ov : Int64} {tt : Int32} {own : String} (hx : p.tables.exec = Jvm.exec) (hb : c.code = cc) (hml : c.maxLocals = ls.size) (hown : s.vm.findClass own = some m.cls) (ht : ∀ w ∈ wt, w.before args s = true) (hK : va_K D classes (ty4 cs) s) (hN : Nx s) (hP : va_P D classes ws H) (he : ws[i]? = some (a, .inr (ci, oF ci kd en wh fm un md pv ov tt))) (hci : ci < 3) (hlk : Cond.methodLink own index ⟨"OrderRows2$Order", "goesTo", "()I"⟩ ∈ wt) (hR : 1 ≤ R.frames ∧ 20 ≤ R.locals) (hW : 2 * (F0 m pc ls (.ref a :: rest)).monitorRoom + (rest.map fun v => v.category).sum ≤ 8) (hdg : decode cc pc = .ok (.invokevirtual index, 3)) (hf : cells ≤ R.cells ∧ slots ≤ R.slots)
    (kk : W p l e R s m args below meth c H locs cells slots Q (F0 m (pc + 3) ls (.int (gt ci tt) :: rest))) : W p l e R s m args below meth c H locs cells slots Q (F0 m pc ls (.ref a :: rest)) := by
  have hPo := hP.one he
  match ci, hci, he, hPo, kk with
  | 0, hci, he, hPo, kk =>
    refine vp_callSi (va_runU (C := R_F) (As := []) (rest := rest) ⟨hx, hb, hml, hown, ht⟩ (c_F_goesTo l kd en wh fm un md pv ov tt D cs a) (cU_ 0 ht tk_222 hlk tk_4 tk_221 tk_219 tk_220 (Nx_de hN) hd_F_goesTo.2.2 hR) ⟨fun _ _ _ _ q => ⟨q.1, q.2.1, KK.call q.2.2⟩, va_recv (q0 := i) hK hP (cl_o hci) he, fun U hU hW => ⟨rfl, by rw [hU]; exact hPo, KK.warm hK hN hW⟩⟩ rfl rfl rfl rfl hW hdg hf).run (fun r hw => ?_)
    rw [hw]
    exact kk
  | 1, hci, he, hPo, kk =>
    refine vp_callSi (va_runU (C := R_H) (As := []) (rest := rest) ⟨hx, hb, hml, hown, ht⟩ (c_H_goesTo l kd en wh fm un md pv ov tt D cs a) (cU_ 0 ht tk_225 hlk tk_5 tk_224 tk_219 tk_223 (Nx_de hN) hd_H_goesTo.2.2 hR) ⟨fun _ _ _ _ q => ⟨q.1, q.2.1, KK.call q.2.2⟩, va_recv (q0 := i) hK hP (cl_o hci) he, fun U hU hW => ⟨rfl, by rw [hU]; exact hPo, KK.warm hK hN hW⟩⟩ rfl rfl rfl rfl hW hdg hf).run (fun r hw => ?_)
    rw [hw]
    exact kk
  | 2, hci, he, hPo, kk =>
    refine vp_callSi (va_runU (C := R_R) (As := []) (rest := rest) ⟨hx, hb, hml, hown, ht⟩ (c_R_goesTo l kd en wh fm un md pv ov tt D cs a) (cU_ 0 ht tk_228 hlk tk_6 tk_227 tk_219 tk_226 (Nx_de hN) hd_R_goesTo.2.2 hR) ⟨fun _ _ _ _ q => ⟨q.1, q.2.1, KK.call q.2.2⟩, va_recv (q0 := i) hK hP (cl_o hci) he, fun U hU hW => ⟨rfl, by rw [hU]; exact hPo, KK.warm hK hN hW⟩⟩ rfl rfl rfl rfl hW hdg hf).run (fun r hw => ?_)
    rw [hw]
    exact kk
end WG
set_option maxHeartbeats 4000000 in
set_option maxRecDepth 100000 in
/-- Order.sendsOn -/
theorem c_O_sendsOn (l : Launch) (kd en wh : Int32) (fm un md : Int64) (pv : Int32) (ov : Int64) (tt : Int32) (ci : Nat) (hci : ci < 3) (D : va_G) (cs : Nat → Nat) (h0 : Nat) : Met l y_O_sendsOn (Cond.code y_O_sendsOn b_O_sendsOn 1 (some .boolean) :: wt) ({ frames := 1, cells := 0, slots := 0, locals := 20 }) (va_Pc [.ref h0] (fun S0 => va_P D classes [(h0, .inr (ci, oF ci kd en wh fm un md pv ov tt))] S0.heap ∧ KK D cs S0)) (vp_Si (fun r => bl r (¬ gt ci tt ≤ 0))) 0 0 (fun _ => False) := by
  refine Met.ofW (cc := b_O_sendsOn) (maxL := 1) (ret := (some .boolean)) (by decide) rfl ?_
  intro p e s m args below meth c s₁ B hml hv
  obtain ⟨rfl, hP, hK, hN⟩ := hv
  have hx := B.exec
  have hb := B.bytes
  have hr := B.returns
  have ht : ∀ w ∈ wt, w.before _ s = true := fun w h => atoms_spec (ws := _ :: wt) B.pre w (List.mem_cons_of_mem _ h)
  have hown : s.vm.findClass R_O = some m.cls := findClass_of_methodNamed B.named
  have hlocks := B.notSynchronized
  have hl := lv_entry ([.ref h0]) (n := 1) (Nat.le_of_ble_eq_true rfl)
  rw [lg_entry_eq]
  generalize (lg_sl ([.ref h0]) ++ List.replicate (1 - (lg_sl ([.ref h0])).length) Slot.unset).toArray = ls at hl ⊢
  have hl : lv_has ls 1 [(0, .ref h0)] := hl
  refine lv_aload_n hx hb d_O_sendsOn_0 rfl (lv_at hl 0 rfl) ?_
  refine w_goesTo (i := 0) (D := D) (cs := cs) hx hb (hml.trans hl.1.symm) hown ht hK hN hP rfl hci tk_217 ⟨Nat.le_of_ble_eq_true rfl, Nat.le_of_ble_eq_true rfl⟩ (lv_room (Nat.le_of_ble_eq_true rfl)) d_O_sendsOn_1 ⟨Nat.le_of_ble_eq_true rfl, Nat.le_of_ble_eq_true rfl⟩ ?_
  refine lv_if_le (tgt := 11) hx hb d_O_sendsOn_4 (by decide) (fun c_1 => ?_) (fun c_1 => ?_)
  · refine lv_iconst (v := 0) hx hb d_O_sendsOn_11 (by decide) ?_
    exact W.zret (ty := .boolean) (v := 0) hx hb hr rfl (fun t9 ht9 _ => ⟨0, rfl, bl_0 (by first | (simp [c_1]; done) | grind), ht9⟩) (fun _ h9 => absurd h9 List.not_mem_nil) d_O_sendsOn_12
  · refine lv_iconst (v := 1) hx hb d_O_sendsOn_7 (by decide) ?_
    refine lv_goto (tgt := 12) hx hb d_O_sendsOn_8 (by decide) ?_
    exact W.zret (ty := .boolean) (v := 1) hx hb hr rfl (fun t9 ht9 _ => ⟨1, rfl, bl_1 (by first | (simp [c_1]; done) | grind), ht9⟩) (fun _ h9 => absurd h9 List.not_mem_nil) d_O_sendsOn_12
set_option maxHeartbeats 4000000 in
set_option maxRecDepth 100000 in
/-- Order.cut(day) -/
theorem c_O_cut (l : Launch) (kd en wh : Int32) (fm un md : Int64) (pv : Int32) (ov : Int64) (tt : Int32) (dd : Int64) (ci : Nat) (hci : ci < 3) (D : va_G) (cs : Nat → Nat) (h0 : Nat) (sz : Nat) : Met l y_O_cut (Cond.code y_O_cut b_O_cut 3 (some .int) :: wt) ({ frames := 1, cells := 0, slots := 0, locals := 24 }) (va_Pc [.ref h0, .long dd] (fun S0 => S0.heap.size = sz ∧ va_P D classes [(h0, .inr (ci, oF ci kd en wh fm un md pv ov tt))] S0.heap ∧ KK D cs S0 ∧ va_D (fun _ => True) [(h0, .inr (ci, oF ci kd en wh fm un md pv ov tt))])) (va_Qi (fun (r : Int32) (_ : Unit) => r = (lmax 0 (un + 1 - lmax fm dd)).toInt32) (fun (_ : Unit) S1 => va_P D classes [(h0, .inr (ci, oF ci kd en wh fm un md pv dd tt))] S1.heap ∧ va_D (va_A [(h0, .inr (ci, oF ci kd en wh fm un md pv ov tt))] sz) [(h0, .inr (ci, oF ci kd en wh fm un md pv dd tt))]) (va_A [(h0, .inr (ci, oF ci kd en wh fm un md pv ov tt))] sz)) 0 0 (va_A [(h0, .inr (ci, oF ci kd en wh fm un md pv ov tt))] sz) := by
  refine Met.ofW (cc := b_O_cut) (maxL := 3) (ret := (some .int)) (by decide) rfl ?_
  intro p e s m args below meth c s₁ B hml hv
  obtain ⟨rfl, hsz, hP, ⟨hK, hN⟩, hD0⟩ := hv
  have hx := B.exec
  have hb := B.bytes
  have hr := B.returns
  have ht : ∀ w ∈ wt, w.before _ s = true := fun w h => atoms_spec (ws := _ :: wt) B.pre w (List.mem_cons_of_mem _ h)
  have hown : s.vm.findClass R_O = some m.cls := findClass_of_methodNamed B.named
  have hlocks := B.notSynchronized
  subst hsz
  have hD := hD0.self (sz := s.heap.size)
  generalize hAe : va_A [(h0, .inr (ci, oF ci kd en wh fm un md pv ov tt))] s.heap.size = A at hD ⊢
  have hA : ∀ q : Nat, s.heap.size ≤ q → A q := fun q h => by rw [← hAe]; exact Or.inr h
  have hS : va_S A s.heap s.heap [] := va_S.rf
  have hl := lv_entry ([.ref h0, .long dd]) (n := 3) (Nat.le_of_ble_eq_true rfl)
  rw [lg_entry_eq]
  generalize (lg_sl ([.ref h0, .long dd]) ++ List.replicate (3 - (lg_sl ([.ref h0, .long dd])).length) Slot.unset).toArray = ls at hl ⊢
  have hl : lv_has ls 3 [(0, .ref h0), (1, .long dd)] := hl
  refine lv_aload_n hx hb d_O_cut_0 rfl (lv_at hl 0 rfl) ?_
  refine lv_lload_n hx hb d_O_cut_1 rfl (lv_at hl 1 rfl) ?_
  refine va_put (D := D) (ci := ci) (C := C_o ci) (T := F_O) (N := N_o ci) (v := .long dd) (ty := .long) hx hb ht (i_o hci) t_O ty_o nm_o hown hK hP hD hS 0 rfl (cl_o hci) 7 (n_o (by decide)) (ht _ tk_85) (fun _ h9 => h9) rfl (by decide +kernel) rfl rfl (oF_len (by decide)) d_O_cut_2 (fun H locs hP hD hS => ?_)
  have hP : va_P D classes [(h0, .inr (ci, oF ci kd en wh fm un md pv dd tt))] H := hP
  have hD : va_D A [(h0, .inr (ci, oF ci kd en wh fm un md pv dd tt))] := hD
  refine lv_lconst (v := 0) hx hb d_O_cut_5 (by decide) ?_
  refine lv_aload_n hx hb d_O_cut_6 rfl (lv_at hl 0 rfl) ?_
  refine va_get (D := D) (ci := ci) (C := C_o ci) (T := F_O) (N := N_o ci) (v := .long un) hx hb ht (i_o hci) hown hK hP 0 rfl (cl_o hci) 4 (n_o (by decide)) (ht _ tk_79) (fun _ h9 => h9) rfl d_O_cut_7 ?_
  refine lv_lconst (v := 1) hx hb d_O_cut_10 (by decide) ?_
  refine lv_ladd hx hb d_O_cut_11 ?_
  refine lv_aload_n hx hb d_O_cut_12 rfl (lv_at hl 0 rfl) ?_
  refine va_get (D := D) (ci := ci) (C := C_o ci) (T := F_O) (N := N_o ci) (v := .long fm) hx hb ht (i_o hci) hown hK hP 0 rfl (cl_o hci) 3 (n_o (by decide)) (ht _ tk_78) (fun _ h9 => h9) rfl d_O_cut_13 ?_
  refine lv_lload_n hx hb d_O_cut_16 rfl (lv_at hl 1 rfl) ?_
  refine va_mmax_long hx hb (hml.trans hl.1.symm) hown (ht _ tk_180) (ht _ tk_181) (ht _ tk_7) (ht _ tk_182) (Nat.le_of_ble_eq_true rfl) (Nat.le_of_ble_eq_true rfl) (Nat.le_of_ble_eq_true rfl) (Nat.le_of_ble_eq_true rfl) d_O_cut_17 ?_
  refine W.eq (g2 := F0 m 20 ls [.long (lmax fm dd), .long (un + 1), .long 0]) rfl ?_
  refine lv_lsub hx hb d_O_cut_20 ?_
  refine va_mmax_long hx hb (hml.trans hl.1.symm) hown (ht _ tk_180) (ht _ tk_181) (ht _ tk_7) (ht _ tk_182) (Nat.le_of_ble_eq_true rfl) (Nat.le_of_ble_eq_true rfl) (Nat.le_of_ble_eq_true rfl) (Nat.le_of_ble_eq_true rfl) d_O_cut_21 ?_
  refine W.eq (g2 := F0 m 24 ls [.long (lmax 0 ((un + 1) - (lmax fm dd)))]) rfl ?_
  refine lv_l2i (v := (lmax 0 ((un + 1) - (lmax fm dd))).toInt32) hx hb d_O_cut_24 rfl ?_
  exact W.iret (v := (lmax 0 ((un + 1) - (lmax fm dd))).toInt32) hx hb hr (fun t9 ht9 hW => ⟨⟨(lmax 0 ((un + 1) - (lmax fm dd))).toInt32, (), rfl, rfl, by rw [ht9]; exact hP, hD⟩, hS.F ht9⟩) hS.2.2 d_O_cut_25
set_option maxHeartbeats 4000000 in
set_option maxRecDepth 100000 in
/-- Order(..) -/
theorem c_O_init (l : Launch) (kd en wh : Int32) (fm un md : Int64) (pv : Int32) (ov : Int64) (tt : Int32) (k0 e0 w0 : Int32) (f0 u0 m0 : Int64) (ci : Nat) (hci : ci < 3) (D : va_G) (cs : Nat → Nat) (h0 : Nat) (sz : Nat) : Met l y_O_init (Cond.code y_O_init b_O_init 10 none :: wt) ({ frames := 1, cells := 0, slots := 0, locals := 14 }) (va_Pc [.ref h0, .int k0, .int e0, .int w0, .long f0, .long u0, .long m0] (fun S0 => S0.heap.size = sz ∧ va_P D classes [(h0, .inr (ci, oF ci kd en wh fm un md pv ov tt))] S0.heap ∧ KK D cs S0 ∧ va_D (fun _ => True) [(h0, .inr (ci, oF ci kd en wh fm un md pv ov tt))])) (va_Qv (fun _ : Unit => True) (fun (_ : Unit) S1 => va_P D classes [(h0, .inr (ci, oF ci k0 e0 w0 f0 u0 m0 pv 1000000 tt))] S1.heap ∧ va_D (va_A [(h0, .inr (ci, oF ci kd en wh fm un md pv ov tt))] sz) [(h0, .inr (ci, oF ci k0 e0 w0 f0 u0 m0 pv 1000000 tt))]) (va_A [(h0, .inr (ci, oF ci kd en wh fm un md pv ov tt))] sz)) 0 0 (va_A [(h0, .inr (ci, oF ci kd en wh fm un md pv ov tt))] sz) := by
  refine Met.ofW (cc := b_O_init) (maxL := 10) (ret := none) (by decide) rfl ?_
  intro p e s m args below meth c s₁ B hml hv
  obtain ⟨rfl, hsz, hP, ⟨hK, hN⟩, hD0⟩ := hv
  have hx := B.exec
  have hb := B.bytes
  have hr := B.returns
  have ht : ∀ w ∈ wt, w.before _ s = true := fun w h => atoms_spec (ws := _ :: wt) B.pre w (List.mem_cons_of_mem _ h)
  have hown : s.vm.findClass R_O = some m.cls := findClass_of_methodNamed B.named
  have hlocks := B.notSynchronized
  have hin : meth.name = "<init>" := (name_of_methodNamed B.named B.method).1
  subst hsz
  have hD := hD0.self (sz := s.heap.size)
  generalize hAe : va_A [(h0, .inr (ci, oF ci kd en wh fm un md pv ov tt))] s.heap.size = A at hD ⊢
  have hA : ∀ q : Nat, s.heap.size ≤ q → A q := fun q h => by rw [← hAe]; exact Or.inr h
  have hS : va_S A s.heap s.heap [] := va_S.rf
  have hl := lv_entry ([.ref h0, .int k0, .int e0, .int w0, .long f0, .long u0, .long m0]) (n := 10) (Nat.le_of_ble_eq_true rfl)
  rw [lg_entry_eq]
  generalize (lg_sl ([.ref h0, .int k0, .int e0, .int w0, .long f0, .long u0, .long m0]) ++ List.replicate (10 - (lg_sl ([.ref h0, .int k0, .int e0, .int w0, .long f0, .long u0, .long m0])).length) Slot.unset).toArray = ls at hl ⊢
  have hl : lv_has ls 10 [(0, .ref h0), (1, .int k0), (2, .int e0), (3, .int w0), (4, .long f0), (6, .long u0), (8, .long m0)] := hl
  refine lv_aload_n hx hb d_O_init_0 rfl (lv_at hl 0 rfl) ?_
  refine W.objInit hx hb hown (ht _ tk_70) (ht _ tk_15) (ht _ tk_16) rfl (by rw [hml]; exact hl.1) rfl d_O_init_1 (Nat.le_of_ble_eq_true rfl) (Nat.le_of_ble_eq_true rfl) ?_
  refine W.eq (g2 := F0 m 4 ls []) rfl ?_
  refine lv_aload_n hx hb d_O_init_4 rfl (lv_at hl 0 rfl) ?_
  refine lv_ldc2 (v := 1000000) hx hb hown (ht _ tk_71) d_O_init_5 ?_
  refine va_put (D := D) (ci := ci) (C := C_o ci) (T := F_O) (N := N_o ci) (v := .long 1000000) (ty := .long) hx hb ht (i_o hci) t_O ty_o nm_o hown hK hP hD hS 0 rfl (cl_o hci) 7 (n_o (by decide)) (ht _ tk_85) (fun _ h9 => h9) rfl (by decide +kernel) rfl rfl (oF_len (by decide)) d_O_init_8 (fun H locs hP hD hS => ?_)
  have hP : va_P D classes [(h0, .inr (ci, oF ci kd en wh fm un md pv 1000000 tt))] H := hP
  have hD : va_D A [(h0, .inr (ci, oF ci kd en wh fm un md pv 1000000 tt))] := hD
  refine lv_aload_n hx hb d_O_init_11 rfl (lv_at hl 0 rfl) ?_
  refine lv_iload_n hx hb d_O_init_12 rfl (lv_at hl 1 rfl) ?_
  refine va_putF (D := D) (ci := ci) (C := C_o ci) (T := F_O) (N := N_o ci) (v := .int k0) (ty := .int) hx hb ht (i_o hci) t_O ty_o nm_o hown hK hP hD hS 0 rfl (cl_o hci) 0 (n_o (by decide)) (ht _ tk_73) (fun _ h9 => h9) rfl hin rfl (by decide +kernel) rfl rfl (oF_len (by decide)) d_O_init_13 (fun H locs hP hD hS => ?_)
  have hP : va_P D classes [(h0, .inr (ci, oF ci k0 en wh fm un md pv 1000000 tt))] H := hP
  have hD : va_D A [(h0, .inr (ci, oF ci k0 en wh fm un md pv 1000000 tt))] := hD
  refine lv_aload_n hx hb d_O_init_16 rfl (lv_at hl 0 rfl) ?_
  refine lv_iload_n hx hb d_O_init_17 rfl (lv_at hl 2 rfl) ?_
  refine va_putF (D := D) (ci := ci) (C := C_o ci) (T := F_O) (N := N_o ci) (v := .int e0) (ty := .int) hx hb ht (i_o hci) t_O ty_o nm_o hown hK hP hD hS 0 rfl (cl_o hci) 1 (n_o (by decide)) (ht _ tk_75) (fun _ h9 => h9) rfl hin rfl (by decide +kernel) rfl rfl (oF_len (by decide)) d_O_init_18 (fun H locs hP hD hS => ?_)
  have hP : va_P D classes [(h0, .inr (ci, oF ci k0 e0 wh fm un md pv 1000000 tt))] H := hP
  have hD : va_D A [(h0, .inr (ci, oF ci k0 e0 wh fm un md pv 1000000 tt))] := hD
  refine lv_aload_n hx hb d_O_init_21 rfl (lv_at hl 0 rfl) ?_
  refine lv_iload_n hx hb d_O_init_22 rfl (lv_at hl 3 rfl) ?_
  refine va_putF (D := D) (ci := ci) (C := C_o ci) (T := F_O) (N := N_o ci) (v := .int w0) (ty := .int) hx hb ht (i_o hci) t_O ty_o nm_o hown hK hP hD hS 0 rfl (cl_o hci) 2 (n_o (by decide)) (ht _ tk_76) (fun _ h9 => h9) rfl hin rfl (by decide +kernel) rfl rfl (oF_len (by decide)) d_O_init_23 (fun H locs hP hD hS => ?_)
  have hP : va_P D classes [(h0, .inr (ci, oF ci k0 e0 w0 fm un md pv 1000000 tt))] H := hP
  have hD : va_D A [(h0, .inr (ci, oF ci k0 e0 w0 fm un md pv 1000000 tt))] := hD
  refine lv_aload_n hx hb d_O_init_26 rfl (lv_at hl 0 rfl) ?_
  refine lv_lload hx hb d_O_init_27 (lv_at hl 4 rfl) ?_
  refine va_putF (D := D) (ci := ci) (C := C_o ci) (T := F_O) (N := N_o ci) (v := .long f0) (ty := .long) hx hb ht (i_o hci) t_O ty_o nm_o hown hK hP hD hS 0 rfl (cl_o hci) 3 (n_o (by decide)) (ht _ tk_78) (fun _ h9 => h9) rfl hin rfl (by decide +kernel) rfl rfl (oF_len (by decide)) d_O_init_29 (fun H locs hP hD hS => ?_)
  have hP : va_P D classes [(h0, .inr (ci, oF ci k0 e0 w0 f0 un md pv 1000000 tt))] H := hP
  have hD : va_D A [(h0, .inr (ci, oF ci k0 e0 w0 f0 un md pv 1000000 tt))] := hD
  refine lv_aload_n hx hb d_O_init_32 rfl (lv_at hl 0 rfl) ?_
  refine lv_lload hx hb d_O_init_33 (lv_at hl 5 rfl) ?_
  refine va_put (D := D) (ci := ci) (C := C_o ci) (T := F_O) (N := N_o ci) (v := .long u0) (ty := .long) hx hb ht (i_o hci) t_O ty_o nm_o hown hK hP hD hS 0 rfl (cl_o hci) 4 (n_o (by decide)) (ht _ tk_79) (fun _ h9 => h9) rfl (by decide +kernel) rfl rfl (oF_len (by decide)) d_O_init_35 (fun H locs hP hD hS => ?_)
  have hP : va_P D classes [(h0, .inr (ci, oF ci k0 e0 w0 f0 u0 md pv 1000000 tt))] H := hP
  have hD : va_D A [(h0, .inr (ci, oF ci k0 e0 w0 f0 u0 md pv 1000000 tt))] := hD
  refine lv_aload_n hx hb d_O_init_38 rfl (lv_at hl 0 rfl) ?_
  refine lv_lload hx hb d_O_init_39 (lv_at hl 6 rfl) ?_
  refine va_putF (D := D) (ci := ci) (C := C_o ci) (T := F_O) (N := N_o ci) (v := .long m0) (ty := .long) hx hb ht (i_o hci) t_O ty_o nm_o hown hK hP hD hS 0 rfl (cl_o hci) 5 (n_o (by decide)) (ht _ tk_81) (fun _ h9 => h9) rfl hin rfl (by decide +kernel) rfl rfl (oF_len (by decide)) d_O_init_41 (fun H locs hP hD hS => ?_)
  have hP : va_P D classes [(h0, .inr (ci, oF ci k0 e0 w0 f0 u0 m0 pv 1000000 tt))] H := hP
  have hD : va_D A [(h0, .inr (ci, oF ci k0 e0 w0 f0 u0 m0 pv 1000000 tt))] := hD
  exact W.vret hx hb hr (fun t9 ht9 hW => ⟨⟨(), rfl, trivial, by rw [ht9]; exact hP, hD⟩, hS.F ht9⟩) hS.2.2 d_O_init_44
set_option maxHeartbeats 4000000 in
set_option maxRecDepth 100000 in
/-- F(..) -/
theorem c_F_init (l : Launch) (kd en wh : Int32) (fm un md : Int64) (pv : Int32) (ov : Int64) (tt : Int32) (k0 e0 w0 : Int32) (t0 : Int32) (f0 u0 m0 : Int64) (D : va_G) (cs : Nat → Nat) (h0 : Nat) (sz : Nat) : Met l y_F_init (Cond.code y_F_init b_F_init 11 none :: wt) ({ frames := 2, cells := 0, slots := 0, locals := 43 }) (va_Pc [.ref h0, .int k0, .int e0, .int w0, .int t0, .long f0, .long u0, .long m0] (fun S0 => S0.heap.size = sz ∧ va_P D classes [(h0, .inr (0, oF 0 kd en wh fm un md pv ov tt))] S0.heap ∧ KK D cs S0 ∧ va_D (fun _ => True) [(h0, .inr (0, oF 0 kd en wh fm un md pv ov tt))])) (va_Qv (fun _ : Unit => True) (fun (_ : Unit) S1 => va_P D classes [(h0, .inr (0, oF 0 k0 e0 w0 f0 u0 m0 pv 1000000 t0))] S1.heap ∧ va_D (va_A [(h0, .inr (0, oF 0 kd en wh fm un md pv ov tt))] sz) [(h0, .inr (0, oF 0 k0 e0 w0 f0 u0 m0 pv 1000000 t0))]) (va_A [(h0, .inr (0, oF 0 kd en wh fm un md pv ov tt))] sz)) 0 0 (va_A [(h0, .inr (0, oF 0 kd en wh fm un md pv ov tt))] sz) := by
  refine Met.ofW (cc := b_F_init) (maxL := 11) (ret := none) (by decide) rfl ?_
  intro p e s m args below meth c s₁ B hml hv
  obtain ⟨rfl, hsz, hP, ⟨hK, hN⟩, hD0⟩ := hv
  have hx := B.exec
  have hb := B.bytes
  have hr := B.returns
  have ht : ∀ w ∈ wt, w.before _ s = true := fun w h => atoms_spec (ws := _ :: wt) B.pre w (List.mem_cons_of_mem _ h)
  have hown : s.vm.findClass R_F = some m.cls := findClass_of_methodNamed B.named
  have hlocks := B.notSynchronized
  have hin : meth.name = "<init>" := (name_of_methodNamed B.named B.method).1
  subst hsz
  have hD := hD0.self (sz := s.heap.size)
  generalize hAe : va_A [(h0, .inr (0, oF 0 kd en wh fm un md pv ov tt))] s.heap.size = A at hD ⊢
  have hA : ∀ q : Nat, s.heap.size ≤ q → A q := fun q h => by rw [← hAe]; exact Or.inr h
  have hS : va_S A s.heap s.heap [] := va_S.rf
  have hl := lv_entry ([.ref h0, .int k0, .int e0, .int w0, .int t0, .long f0, .long u0, .long m0]) (n := 11) (Nat.le_of_ble_eq_true rfl)
  rw [lg_entry_eq]
  generalize (lg_sl ([.ref h0, .int k0, .int e0, .int w0, .int t0, .long f0, .long u0, .long m0]) ++ List.replicate (11 - (lg_sl ([.ref h0, .int k0, .int e0, .int w0, .int t0, .long f0, .long u0, .long m0])).length) Slot.unset).toArray = ls at hl ⊢
  have hl : lv_has ls 11 [(0, .ref h0), (1, .int k0), (2, .int e0), (3, .int w0), (4, .int t0), (5, .long f0), (7, .long u0), (9, .long m0)] := hl
  refine lv_aload_n hx hb d_F_init_0 rfl (lv_at hl 0 rfl) ?_
  refine lv_iload_n hx hb d_F_init_1 rfl (lv_at hl 1 rfl) ?_
  refine lv_iload_n hx hb d_F_init_2 rfl (lv_at hl 2 rfl) ?_
  refine lv_iload_n hx hb d_F_init_3 rfl (lv_at hl 3 rfl) ?_
  refine lv_lload hx hb d_F_init_4 (lv_at hl 5 rfl) ?_
  refine lv_lload hx hb d_F_init_6 (lv_at hl 6 rfl) ?_
  refine lv_lload hx hb d_F_init_8 (lv_at hl 7 rfl) ?_
  have hFc := freeW hD hS hA
  refine va_callv (va_runI (As := [.int k0, .int e0, .int w0, .long f0, .long u0, .long m0]) (rest := []) ⟨hx, hb, hml, hown, ht⟩ (c_O_init l kd en wh fm un md pv ov tt k0 e0 w0 f0 u0 m0 0 (by decide) D cs h0 s.heap.size) (cI_ 6 ht tk_69 tk_67 tk_3 tk_68 rfl hd_O_init ⟨Nat.le_of_ble_eq_true rfl, Nat.le_of_ble_eq_true rfl⟩) ⟨fun _ _ _ _ q => ⟨q.1, q.2.1, q.2.2.1, KK.call q.2.2.2.1, q.2.2.2.2⟩, fun U hU hW => ⟨rfl, by rw [hU], by rw [hU]; exact hP, KK.warm hK hN hW, hD.weaken (fun _ _ _ _ => trivial)⟩⟩ rfl rfl hl.1 rfl (lv_room (Nat.le_of_ble_eq_true rfl)) d_F_init_10 ⟨Nat.le_of_ble_eq_true rfl, Nat.le_of_ble_eq_true rfl⟩) hS (fun q _ h => hFc q h) hFc (fun u t1 H locs ht1 hvm hw hB hz1 hkp hS => ?_)
  obtain ⟨hP, hD⟩ := hB
  rw [ht1] at hP
  have hD := hD.weaken (fun k q _ h => hFc q.1 h)
  refine lv_aload_n hx hb d_F_init_13 rfl (lv_at hl 0 rfl) ?_
  refine lv_iload hx hb d_F_init_14 (lv_at hl 4 rfl) ?_
  refine va_putF (D := D) (ci := 0) (C := C_o 0) (T := F_O) (N := N_o 0) (v := .int t0) (ty := .int) hx hb ht (i_o (by decide)) t_O ty_o nm_o hown hK hP hD hS 0 rfl (cl_o (by decide)) 8 (by decide) (ht _ tk_72) (fun _ h9 => h9) rfl hin rfl (by decide +kernel) rfl rfl (Nat.le_of_ble_eq_true rfl) d_F_init_16 (fun H locs hP hD hS => ?_)
  have hP : va_P D classes [(h0, .inr (0, oF 0 k0 e0 w0 f0 u0 m0 pv 1000000 t0))] H := hP
  have hD : va_D A [(h0, .inr (0, oF 0 k0 e0 w0 f0 u0 m0 pv 1000000 t0))] := hD
  exact W.vret hx hb hr (fun t9 ht9 hW => ⟨⟨(), rfl, trivial, by rw [ht9]; exact hP, hD⟩, hS.F ht9⟩) hS.2.2 d_F_init_19
set_option maxHeartbeats 4000000 in
set_option maxRecDepth 100000 in
/-- H(..) -/
theorem c_H_init (l : Launch) (kd en wh : Int32) (fm un md : Int64) (pv : Int32) (ov : Int64) (tt : Int32) (k0 e0 w0 : Int32) (f0 u0 m0 : Int64) (D : va_G) (cs : Nat → Nat) (h0 : Nat) (sz : Nat) : Met l y_H_init (Cond.code y_H_init b_H_init 10 none :: wt) ({ frames := 2, cells := 0, slots := 0, locals := 43 }) (va_Pc [.ref h0, .int k0, .int e0, .int w0, .long f0, .long u0, .long m0] (fun S0 => S0.heap.size = sz ∧ va_P D classes [(h0, .inr (1, oF 1 kd en wh fm un md pv ov tt))] S0.heap ∧ KK D cs S0 ∧ va_D (fun _ => True) [(h0, .inr (1, oF 1 kd en wh fm un md pv ov tt))])) (va_Qv (fun _ : Unit => True) (fun (_ : Unit) S1 => va_P D classes [(h0, .inr (1, oF 1 k0 e0 w0 f0 u0 m0 pv 1000000 tt))] S1.heap ∧ va_D (va_A [(h0, .inr (1, oF 1 kd en wh fm un md pv ov tt))] sz) [(h0, .inr (1, oF 1 k0 e0 w0 f0 u0 m0 pv 1000000 tt))]) (va_A [(h0, .inr (1, oF 1 kd en wh fm un md pv ov tt))] sz)) 0 0 (va_A [(h0, .inr (1, oF 1 kd en wh fm un md pv ov tt))] sz) := by
  refine Met.ofW (cc := b_H_init) (maxL := 10) (ret := none) (by decide) rfl ?_
  intro p e s m args below meth c s₁ B hml hv
  obtain ⟨rfl, hsz, hP, ⟨hK, hN⟩, hD0⟩ := hv
  have hx := B.exec
  have hb := B.bytes
  have hr := B.returns
  have ht : ∀ w ∈ wt, w.before _ s = true := fun w h => atoms_spec (ws := _ :: wt) B.pre w (List.mem_cons_of_mem _ h)
  have hown : s.vm.findClass R_H = some m.cls := findClass_of_methodNamed B.named
  have hlocks := B.notSynchronized
  have hin : meth.name = "<init>" := (name_of_methodNamed B.named B.method).1
  subst hsz
  have hD := hD0.self (sz := s.heap.size)
  generalize hAe : va_A [(h0, .inr (1, oF 1 kd en wh fm un md pv ov tt))] s.heap.size = A at hD ⊢
  have hA : ∀ q : Nat, s.heap.size ≤ q → A q := fun q h => by rw [← hAe]; exact Or.inr h
  have hS : va_S A s.heap s.heap [] := va_S.rf
  have hl := lv_entry ([.ref h0, .int k0, .int e0, .int w0, .long f0, .long u0, .long m0]) (n := 10) (Nat.le_of_ble_eq_true rfl)
  rw [lg_entry_eq]
  generalize (lg_sl ([.ref h0, .int k0, .int e0, .int w0, .long f0, .long u0, .long m0]) ++ List.replicate (10 - (lg_sl ([.ref h0, .int k0, .int e0, .int w0, .long f0, .long u0, .long m0])).length) Slot.unset).toArray = ls at hl ⊢
  have hl : lv_has ls 10 [(0, .ref h0), (1, .int k0), (2, .int e0), (3, .int w0), (4, .long f0), (6, .long u0), (8, .long m0)] := hl
  refine lv_aload_n hx hb d_H_init_0 rfl (lv_at hl 0 rfl) ?_
  refine lv_iload_n hx hb d_H_init_1 rfl (lv_at hl 1 rfl) ?_
  refine lv_iload_n hx hb d_H_init_2 rfl (lv_at hl 2 rfl) ?_
  refine lv_iload_n hx hb d_H_init_3 rfl (lv_at hl 3 rfl) ?_
  refine lv_lload hx hb d_H_init_4 (lv_at hl 4 rfl) ?_
  refine lv_lload hx hb d_H_init_6 (lv_at hl 5 rfl) ?_
  refine lv_lload hx hb d_H_init_8 (lv_at hl 6 rfl) ?_
  have hFc := freeW hD hS hA
  refine va_callv (va_runI (As := [.int k0, .int e0, .int w0, .long f0, .long u0, .long m0]) (rest := []) ⟨hx, hb, hml, hown, ht⟩ (c_O_init l kd en wh fm un md pv ov tt k0 e0 w0 f0 u0 m0 1 (by decide) D cs h0 s.heap.size) (cI_ 6 ht tk_69 tk_111 tk_3 tk_68 rfl hd_O_init ⟨Nat.le_of_ble_eq_true rfl, Nat.le_of_ble_eq_true rfl⟩) ⟨fun _ _ _ _ q => ⟨q.1, q.2.1, q.2.2.1, KK.call q.2.2.2.1, q.2.2.2.2⟩, fun U hU hW => ⟨rfl, by rw [hU], by rw [hU]; exact hP, KK.warm hK hN hW, hD.weaken (fun _ _ _ _ => trivial)⟩⟩ rfl rfl hl.1 rfl (lv_room (Nat.le_of_ble_eq_true rfl)) d_H_init_10 ⟨Nat.le_of_ble_eq_true rfl, Nat.le_of_ble_eq_true rfl⟩) hS (fun q _ h => hFc q h) hFc (fun u t1 H locs ht1 hvm hw hB hz1 hkp hS => ?_)
  obtain ⟨hP, hD⟩ := hB
  rw [ht1] at hP
  have hD := hD.weaken (fun k q _ h => hFc q.1 h)
  exact W.vret hx hb hr (fun t9 ht9 hW => ⟨⟨(), rfl, trivial, by rw [ht9]; exact hP, hD⟩, hS.F ht9⟩) hS.2.2 d_H_init_13
set_option maxHeartbeats 4000000 in
set_option maxRecDepth 100000 in
/-- R(..) -/
theorem c_R_init (l : Launch) (kd en wh : Int32) (fm un md : Int64) (pv : Int32) (ov : Int64) (tt : Int32) (k0 e0 w0 : Int32) (f0 u0 m0 : Int64) (D : va_G) (cs : Nat → Nat) (h0 : Nat) (sz : Nat) : Met l y_R_init (Cond.code y_R_init b_R_init 10 none :: wt) ({ frames := 2, cells := 0, slots := 0, locals := 43 }) (va_Pc [.ref h0, .int k0, .int e0, .int w0, .long f0, .long u0, .long m0] (fun S0 => S0.heap.size = sz ∧ va_P D classes [(h0, .inr (2, oF 2 kd en wh fm un md pv ov tt))] S0.heap ∧ KK D cs S0 ∧ va_D (fun _ => True) [(h0, .inr (2, oF 2 kd en wh fm un md pv ov tt))])) (va_Qv (fun _ : Unit => True) (fun (_ : Unit) S1 => va_P D classes [(h0, .inr (2, oF 2 k0 e0 w0 f0 u0 m0 pv 1000000 tt))] S1.heap ∧ va_D (va_A [(h0, .inr (2, oF 2 kd en wh fm un md pv ov tt))] sz) [(h0, .inr (2, oF 2 k0 e0 w0 f0 u0 m0 pv 1000000 tt))]) (va_A [(h0, .inr (2, oF 2 kd en wh fm un md pv ov tt))] sz)) 0 0 (va_A [(h0, .inr (2, oF 2 kd en wh fm un md pv ov tt))] sz) := by
  refine Met.ofW (cc := b_R_init) (maxL := 10) (ret := none) (by decide) rfl ?_
  intro p e s m args below meth c s₁ B hml hv
  obtain ⟨rfl, hsz, hP, ⟨hK, hN⟩, hD0⟩ := hv
  have hx := B.exec
  have hb := B.bytes
  have hr := B.returns
  have ht : ∀ w ∈ wt, w.before _ s = true := fun w h => atoms_spec (ws := _ :: wt) B.pre w (List.mem_cons_of_mem _ h)
  have hown : s.vm.findClass R_R = some m.cls := findClass_of_methodNamed B.named
  have hlocks := B.notSynchronized
  have hin : meth.name = "<init>" := (name_of_methodNamed B.named B.method).1
  subst hsz
  have hD := hD0.self (sz := s.heap.size)
  generalize hAe : va_A [(h0, .inr (2, oF 2 kd en wh fm un md pv ov tt))] s.heap.size = A at hD ⊢
  have hA : ∀ q : Nat, s.heap.size ≤ q → A q := fun q h => by rw [← hAe]; exact Or.inr h
  have hS : va_S A s.heap s.heap [] := va_S.rf
  have hl := lv_entry ([.ref h0, .int k0, .int e0, .int w0, .long f0, .long u0, .long m0]) (n := 10) (Nat.le_of_ble_eq_true rfl)
  rw [lg_entry_eq]
  generalize (lg_sl ([.ref h0, .int k0, .int e0, .int w0, .long f0, .long u0, .long m0]) ++ List.replicate (10 - (lg_sl ([.ref h0, .int k0, .int e0, .int w0, .long f0, .long u0, .long m0])).length) Slot.unset).toArray = ls at hl ⊢
  have hl : lv_has ls 10 [(0, .ref h0), (1, .int k0), (2, .int e0), (3, .int w0), (4, .long f0), (6, .long u0), (8, .long m0)] := hl
  refine lv_aload_n hx hb d_R_init_0 rfl (lv_at hl 0 rfl) ?_
  refine lv_iload_n hx hb d_R_init_1 rfl (lv_at hl 1 rfl) ?_
  refine lv_iload_n hx hb d_R_init_2 rfl (lv_at hl 2 rfl) ?_
  refine lv_iload_n hx hb d_R_init_3 rfl (lv_at hl 3 rfl) ?_
  refine lv_lload hx hb d_R_init_4 (lv_at hl 4 rfl) ?_
  refine lv_lload hx hb d_R_init_6 (lv_at hl 5 rfl) ?_
  refine lv_lload hx hb d_R_init_8 (lv_at hl 6 rfl) ?_
  have hFc := freeW hD hS hA
  refine va_callv (va_runI (As := [.int k0, .int e0, .int w0, .long f0, .long u0, .long m0]) (rest := []) ⟨hx, hb, hml, hown, ht⟩ (c_O_init l kd en wh fm un md pv ov tt k0 e0 w0 f0 u0 m0 2 (by decide) D cs h0 s.heap.size) (cI_ 6 ht tk_69 tk_126 tk_3 tk_68 rfl hd_O_init ⟨Nat.le_of_ble_eq_true rfl, Nat.le_of_ble_eq_true rfl⟩) ⟨fun _ _ _ _ q => ⟨q.1, q.2.1, q.2.2.1, KK.call q.2.2.2.1, q.2.2.2.2⟩, fun U hU hW => ⟨rfl, by rw [hU], by rw [hU]; exact hP, KK.warm hK hN hW, hD.weaken (fun _ _ _ _ => trivial)⟩⟩ rfl rfl hl.1 rfl (lv_room (Nat.le_of_ble_eq_true rfl)) d_R_init_10 ⟨Nat.le_of_ble_eq_true rfl, Nat.le_of_ble_eq_true rfl⟩) hS (fun q _ h => hFc q h) hFc (fun u t1 H locs ht1 hvm hw hB hz1 hkp hS => ?_)
  obtain ⟨hP, hD⟩ := hB
  rw [ht1] at hP
  have hD := hD.weaken (fun k q _ h => hFc q.1 h)
  exact W.vret hx hb hr (fun t9 ht9 hW => ⟨⟨(), rfl, trivial, by rw [ht9]; exact hP, hD⟩, hS.F ht9⟩) hS.2.2 d_R_init_13
end
section
set_option maxHeartbeats 4000000 in
set_option maxRecDepth 100000 in
/-- isOrder(o) -/
theorem c_X_isOrder (l : Launch) (o : Int32) (D : va_G) (g cs : Nat → Nat) (n : Nat) (now : Int64) (ad : Nat → Nat) (K E P T V : Nat → Int32) (F U M X : Nat → Int64) (rk wy ps rg : Nat → Int32) (rs : Int32)  : Met l y_X_isOrder (Cond.code y_X_isOrder b_X_isOrder 2 (some .boolean) :: wt) ({ frames := 0, cells := 0, slots := 0, locals := 0 }) (va_Pc [.ref (g 0), .int o] (fun S0 => va_P D classes (cW g cs n now ad K E P T V F U M X rk wy ps rg rs) S0.heap ∧ KK D cs S0)) (vp_Si (fun r => bl r (¬ o ≤ 0 ∧ ¬ nI n < o))) 0 0 (fun _ => False) := by
  refine Met.ofW (cc := b_X_isOrder) (maxL := 2) (ret := (some .boolean)) (by decide) rfl ?_
  intro p e s m args below meth c s₁ B hml hv
  obtain ⟨rfl, hP, hK, hN⟩ := hv
  have hx := B.exec
  have hb := B.bytes
  have hr := B.returns
  have ht : ∀ w ∈ wt, w.before _ s = true := fun w h => atoms_spec (ws := _ :: wt) B.pre w (List.mem_cons_of_mem _ h)
  have hown : s.vm.findClass R_X = some m.cls := findClass_of_methodNamed B.named
  have hlocks := B.notSynchronized
  have hl := lv_entry ([.ref (g 0), .int o]) (n := 2) (Nat.le_of_ble_eq_true rfl)
  rw [lg_entry_eq]
  generalize (lg_sl ([.ref (g 0), .int o]) ++ List.replicate (2 - (lg_sl ([.ref (g 0), .int o])).length) Slot.unset).toArray = ls at hl ⊢
  have hl : lv_has ls 2 [(0, .ref (g 0)), (1, .int o)] := hl
  refine lv_iload_n hx hb d_X_isOrder_0 rfl (lv_at hl 1 rfl) ?_
  refine lv_if_le (tgt := 16) hx hb d_X_isOrder_1 (by decide) (fun c_1 => ?_) (fun c_1 => ?_)
  · refine lv_iconst (v := 0) hx hb d_X_isOrder_16 (by decide) ?_
    exact W.zret (ty := .boolean) (v := 0) hx hb hr rfl (fun t9 ht9 _ => ⟨0, rfl, bl_0 (by first | (simp [c_1]; done) | grind), ht9⟩) (fun _ h9 => absurd h9 List.not_mem_nil) d_X_isOrder_17
  · refine lv_iload_n hx hb d_X_isOrder_4 rfl (lv_at hl 1 rfl) ?_
    refine lv_aload_n hx hb d_X_isOrder_5 rfl (lv_at hl 0 rfl) ?_
    refine va_get (D := D) (ci := 3) (C := R_X) (T := F_X) (N := 8) (v := .int (nI n)) hx hb ht i_X hown hK hP 0 rfl rfl 1 (by decide) (ht _ tk_20) (fun _ h9 => h9) rfl d_X_isOrder_6 ?_
    refine lv_icmp_gt (tgt := 16) hx hb d_X_isOrder_9 (by decide) (fun c_2 => ?_) (fun c_2 => ?_)
    · refine lv_iconst (v := 0) hx hb d_X_isOrder_16 (by decide) ?_
      exact W.zret (ty := .boolean) (v := 0) hx hb hr rfl (fun t9 ht9 _ => ⟨0, rfl, bl_0 (by first | (simp [c_1, c_2]; done) | grind), ht9⟩) (fun _ h9 => absurd h9 List.not_mem_nil) d_X_isOrder_17
    · refine lv_iconst (v := 1) hx hb d_X_isOrder_12 (by decide) ?_
      refine lv_goto (tgt := 17) hx hb d_X_isOrder_13 (by decide) ?_
      exact W.zret (ty := .boolean) (v := 1) hx hb hr rfl (fun t9 ht9 _ => ⟨1, rfl, bl_1 (by first | (simp [c_1, c_2]; done) | grind), ht9⟩) (fun _ h9 => absurd h9 List.not_mem_nil) d_X_isOrder_17
set_option maxHeartbeats 4000000 in
set_option maxRecDepth 100000 in
/-- isNoDay(t) -/
theorem c_X_isNoDay (l : Launch) (t : Int64) (D : va_G) (g cs : Nat → Nat) (n : Nat) (now : Int64) (ad : Nat → Nat) (K E P T V : Nat → Int32) (F U M X : Nat → Int64) (rk wy ps rg : Nat → Int32) (rs : Int32)  : Met l y_X_isNoDay (Cond.code y_X_isNoDay b_X_isNoDay 3 (some .boolean) :: wt) ({ frames := 1, cells := 0, slots := 0, locals := 25 }) (va_Pc [.ref (g 0), .long t] (fun S0 => va_P D classes (cW g cs n now ad K E P T V F U M X rk wy ps rg rs) S0.heap ∧ KK D cs S0)) (vp_Si (fun r => bl r (t < now ∨ ¬ t ≤ 20000))) 0 0 (fun _ => False) := by
  refine Met.ofW (cc := b_X_isNoDay) (maxL := 3) (ret := (some .boolean)) (by decide) rfl ?_
  intro p e s m args below meth c s₁ B hml hv
  obtain ⟨rfl, hP, hK, hN⟩ := hv
  have hx := B.exec
  have hb := B.bytes
  have hr := B.returns
  have ht : ∀ w ∈ wt, w.before _ s = true := fun w h => atoms_spec (ws := _ :: wt) B.pre w (List.mem_cons_of_mem _ h)
  have hown : s.vm.findClass R_X = some m.cls := findClass_of_methodNamed B.named
  have hlocks := B.notSynchronized
  have hl := lv_entry ([.ref (g 0), .long t]) (n := 3) (Nat.le_of_ble_eq_true rfl)
  rw [lg_entry_eq]
  generalize (lg_sl ([.ref (g 0), .long t]) ++ List.replicate (3 - (lg_sl ([.ref (g 0), .long t])).length) Slot.unset).toArray = ls at hl ⊢
  have hl : lv_has ls 3 [(0, .ref (g 0)), (1, .long t)] := hl
  refine lv_lload_n hx hb d_X_isNoDay_0 rfl (lv_at hl 1 rfl) ?_
  refine lv_aload_n hx hb d_X_isNoDay_1 rfl (lv_at hl 0 rfl) ?_
  refine va_get (D := D) (ci := 3) (C := R_X) (T := F_X) (N := 8) (v := .long now) hx hb ht i_X hown hK hP 0 rfl rfl 3 (by decide) (ht _ tk_22) (fun _ h9 => h9) rfl d_X_isNoDay_2 ?_
  refine lv_ldc2 (v := 20000) hx hb hown (ht _ tk_61) d_X_isNoDay_5 ?_
  refine vp_callSi (W.runS (As := [.long t, .long now, .long 20000]) (rest := []) ⟨hx, hb, hml, hown, ht⟩ (c_X_outside l t now 20000) (cS_ 3 ht tk_60 tk_58 tk_1 tk_59 hd_X_outside ⟨Nat.le_of_ble_eq_true rfl, Nat.le_of_ble_eq_true rfl⟩) ⟨fun _ _ _ _ q => q, fun _ _ _ => ⟨rfl, trivial⟩⟩ rfl rfl hl.1 rfl (lv_room (Nat.le_of_ble_eq_true rfl)) d_X_isNoDay_8 ⟨Nat.le_of_ble_eq_true rfl, Nat.le_of_ble_eq_true rfl⟩) (fun r_1 hw_2 => ?_)
  rcases hw_2 with ⟨h9, h8⟩ | ⟨h9, h8⟩
  · subst h9
    exact W.zret (ty := .boolean) (v := 1) hx hb hr rfl (fun t9 ht9 _ => ⟨1, rfl, bl_1 h8, ht9⟩) (fun _ h9 => absurd h9 List.not_mem_nil) d_X_isNoDay_11
  · subst h9
    exact W.zret (ty := .boolean) (v := 0) hx hb hr rfl (fun t9 ht9 _ => ⟨0, rfl, bl_0 h8, ht9⟩) (fun _ h9 => absurd h9 List.not_mem_nil) d_X_isNoDay_11
/-- how many of the first have it -/
def cnt (q : Nat → Bool) : Nat → Nat
  | 0 => 0
  | j + 1 => cnt q j + (if q (j + 1) = true then 1 else 0)
theorem cnt_t {q : Nat → Bool} {j : Nat} (h : q (j + 1) = true) : cnt q (j + 1) = cnt q j + 1 := by simp [cnt, h]
theorem cnt_f {q : Nat → Bool} {j : Nat} (h : q (j + 1) = false) : cnt q (j + 1) = cnt q j := by simp [cnt, h]
/-- the first j, where they have it, are Y -/
def psX (q : Nat → Bool) (Y X : Nat → Int64) (j : Nat) : Nat → Int64 := fun i => if 1 ≤ i ∧ i ≤ j ∧ q i = true then Y i else X i
theorem psX_0 (q : Nat → Bool) (Y X : Nat → Int64) : psX q Y X 0 = X := by
  funext i
  exact if_neg (fun h => by omega)
theorem psX_at {q : Nat → Bool} {Y X : Nat → Int64} {j : Nat} : psX q Y X j (j + 1) = X (j + 1) := if_neg (fun h => by omega)
theorem psX_t {q : Nat → Bool} {Y X : Nat → Int64} {j : Nat} (h : q (j + 1) = true) : vp_updL (psX q Y X j) (j + 1) (Y (j + 1)) = psX q Y X (j + 1) := by
  funext i
  by_cases hi : i = j + 1
  · subst hi
    rw [pk_uLs]
    exact (if_pos ⟨by omega, by omega, h⟩).symm
  · rw [pk_uLn hi]
    unfold psX
    by_cases c : 1 ≤ i ∧ i ≤ j ∧ q i = true
    · rw [if_pos c, if_pos ⟨c.1, by omega, c.2.2⟩]
    · rw [if_neg c, if_neg (fun d => c ⟨d.1, by omega, d.2.2⟩)]
theorem psX_f {q : Nat → Bool} {Y X : Nat → Int64} {j : Nat} (h : q (j + 1) = false) : psX q Y X (j + 1) = psX q Y X j := by
  funext i
  unfold psX
  by_cases hi : i = j + 1
  · subst hi
    rw [if_neg (fun d => by rw [h] at d; exact absurd d.2.2 (by decide)), if_neg (fun d => by omega)]
  · by_cases c : 1 ≤ i ∧ i ≤ j ∧ q i = true
    · rw [if_pos c, if_pos ⟨c.1, by omega, c.2.2⟩]
    · rw [if_neg c, if_neg (fun d => c ⟨d.1, by omega, d.2.2⟩)]
/-- the class: which orders lapse -/
def qC (V : Nat → Int32) (M X : Nat → Int64) (t : Int64) (k : Nat) : Bool := decide (V k = 0 ∧ ¬ ¬ 1000000 ≤ X k ∧ ¬ t ≤ M k + 14)
def yC (M : Nat → Int64) : Nat → Int64 := fun i => M i + 14 + 1
set_option maxHeartbeats 4000000 in
set_option maxRecDepth 100000 in
/-- pass(t) -/
theorem c_X_pass (l : Launch) (t : Int64) (D : va_G) (g cs : Nat → Nat) (n : Nat) (now : Int64) (ad : Nat → Nat) (K E P T V : Nat → Int32) (F U M X : Nat → Int64) (rk wy ps rg : Nat → Int32) (rs : Int32) (hn : n ≤ 200) (sz : Nat) : Met l y_X_pass (Cond.code y_X_pass b_X_pass 5 (some .int) :: wt) ({ frames := 2, cells := 0, slots := 0, locals := 42 }) (va_Pc [.ref (g 0), .long t] (fun S0 => S0.heap.size = sz ∧ va_P D classes (cW g cs n now ad K E P T V F U M X rk wy ps rg rs) S0.heap ∧ KK D cs S0 ∧ va_D (fun _ => True) (cW g cs n now ad K E P T V F U M X rk wy ps rg rs))) (va_Qi (fun (r : Int32) (_ : Unit) => r = nI (cnt (qC V M X t) n)) (fun (_ : Unit) S1 => va_P D classes (cW g cs n t ad K E P T V F U M (psX (qC V M X t) (yC M) X n) rk wy ps rg rs) S1.heap ∧ va_D (va_A (cW g cs n now ad K E P T V F U M X rk wy ps rg rs) sz) (cW g cs n t ad K E P T V F U M (psX (qC V M X t) (yC M) X n) rk wy ps rg rs)) (va_A (cW g cs n now ad K E P T V F U M X rk wy ps rg rs) sz)) 0 0 (va_A (cW g cs n now ad K E P T V F U M X rk wy ps rg rs) sz) := by
  refine Met.ofW (cc := b_X_pass) (maxL := 5) (ret := (some .int)) (by decide) rfl ?_
  intro p e s m args below meth c s₁ B hml hv
  obtain ⟨rfl, hsz, hP, ⟨hK, hN⟩, hD0⟩ := hv
  have hx := B.exec
  have hb := B.bytes
  have hr := B.returns
  have ht : ∀ w ∈ wt, w.before _ s = true := fun w h => atoms_spec (ws := _ :: wt) B.pre w (List.mem_cons_of_mem _ h)
  have hown : s.vm.findClass R_X = some m.cls := findClass_of_methodNamed B.named
  have hlocks := B.notSynchronized
  subst hsz
  have hD := hD0.self (sz := s.heap.size)
  generalize hAe : va_A (cW g cs n now ad K E P T V F U M X rk wy ps rg rs) s.heap.size = A at hD ⊢
  have hA : ∀ q : Nat, s.heap.size ≤ q → A q := fun q h => by rw [← hAe]; exact Or.inr h
  have hS : va_S A s.heap s.heap [] := va_S.rf
  have hl := lv_entry ([.ref (g 0), .long t]) (n := 5) (Nat.le_of_ble_eq_true rfl)
  rw [lg_entry_eq]
  generalize (lg_sl ([.ref (g 0), .long t]) ++ List.replicate (5 - (lg_sl ([.ref (g 0), .long t])).length) Slot.unset).toArray = ls at hl ⊢
  have hl : lv_has ls 5 [(0, .ref (g 0)), (1, .long t)] := hl
  refine W.nameQ (fun Q hQe => ?_)
  refine lv_aload_n hx hb d_X_pass_0 rfl (lv_at hl 0 rfl) ?_
  refine lv_lload_n hx hb d_X_pass_1 rfl (lv_at hl 1 rfl) ?_
  refine va_put (D := D) (ci := 3) (C := R_X) (T := F_X) (N := 8) (v := .long t) (ty := .long) hx hb ht i_X t_X t_X_ok n_X hown hK hP hD hS 0 rfl rfl 3 (by decide) (ht _ tk_22) (fun _ h9 => h9) rfl (by decide +kernel) rfl rfl (Nat.le_of_ble_eq_true rfl) d_X_pass_2 (fun H locs hP hD hS => ?_)
  have hP : va_P D classes (cW g cs n t ad K E P T V F U M X rk wy ps rg rs) H := hP
  have hD : va_D A (cW g cs n t ad K E P T V F U M X rk wy ps rg rs) := hD
  refine lv_iconst (v := 0) hx hb d_X_pass_5 (by decide) ?_
  refine lv_istore_n (lv' := [(3, .int 0), (0, .ref (g 0)), (1, .long t)]) hx hb d_X_pass_6 rfl hl (by decide) rfl (fun ls hl => ?_)
  refine lv_iconst (v := 1) hx hb d_X_pass_7 (by decide) ?_
  refine lv_istore (lv' := [(4, .int 1), (3, .int 0), (0, .ref (g 0)), (1, .long t)]) hx hb d_X_pass_8 hl (by decide) rfl (fun ls hl => ?_)
  have loop : ∀ (z : Nat) (j : Nat) (H : Heap) (locs : List Loc) (ls : Array Slot), j + z = n → va_P D classes (cW g cs n t ad K E P T V F U M (psX (qC V M X t) (yC M) X j) rk wy ps rg rs) H → va_D A (cW g cs n t ad K E P T V F U M (psX (qC V M X t) (yC M) X j) rk wy ps rg rs) → va_S A s.heap H locs → lv_has ls 5 [(4, .int (nI (j + 1))), (3, .int (nI (cnt (qC V M X t) j))), (0, .ref (g 0)), (1, .long t)] → W p l e ({ frames := 2, cells := 0, slots := 0, locals := 42 } : Room) s m ([.ref (g 0), .long t] : List Value).toArray below meth c H locs 0 0 Q (F0 m 10 ls []) := by
    intro z
    induction z with
    | zero =>
      intro j H locs ls hj hP hD hS hl
      refine lv_iload hx hb d_X_pass_10 (lv_at hl 0 rfl) ?_
      refine lv_aload_n hx hb d_X_pass_12 rfl (lv_at hl 2 rfl) ?_
      refine va_get (D := D) (ci := 3) (C := R_X) (T := F_X) (N := 8) (v := .int (nI n)) hx hb ht i_X hown hK hP 0 rfl rfl 1 (by decide) (ht _ tk_20) (fun _ h9 => h9) rfl d_X_pass_13 ?_
      refine lv_icmp_gt (tgt := 71) hx hb d_X_pass_16 (by decide) (fun c_1 => ?_) (fun c_1 => ?_)
      · have hjn : j = n := by omega
        rw [hjn] at hP hD hl
        refine lv_iload_n hx hb d_X_pass_71 rfl (lv_at hl 1 rfl) ?_
        rw [hQe]
        exact W.iret (v := nI (cnt (qC V M X t) n)) hx hb hr (fun t9 ht9 hW => ⟨⟨nI (cnt (qC V M X t) n), (), rfl, rfl, by rw [ht9]; exact hP, hD⟩, hS.F ht9⟩) hS.2.2 d_X_pass_72
      · exact absurd (nI_lt (by omega) (by omega)) c_1
    | succ z ih =>
      intro j H locs ls hj hP hD hS hl
      refine lv_iload hx hb d_X_pass_10 (lv_at hl 0 rfl) ?_
      refine lv_aload_n hx hb d_X_pass_12 rfl (lv_at hl 2 rfl) ?_
      refine va_get (D := D) (ci := 3) (C := R_X) (T := F_X) (N := 8) (v := .int (nI n)) hx hb ht i_X hown hK hP 0 rfl rfl 1 (by decide) (ht _ tk_20) (fun _ h9 => h9) rfl d_X_pass_13 ?_
      refine lv_icmp_gt (tgt := 71) hx hb d_X_pass_16 (by decide) (fun c_2 => ?_) (fun c_2 => ?_)
      · exact absurd c_2 (nI_nlt (by omega) (by omega))
      · refine lv_aload_n hx hb d_X_pass_19 rfl (lv_at hl 2 rfl) ?_
        refine va_get (D := D) (ci := 3) (C := R_X) (T := F_X) (N := 8) (v := .ref (g 1)) hx hb ht i_X hown hK hP 0 rfl rfl 0 (by decide) (ht _ tk_19) (fun _ h9 => h9) rfl d_X_pass_20 ?_
        refine lv_iload hx hb d_X_pass_23 (lv_at hl 0 rfl) ?_
        refine x_ald hx hb hK hP (by omega) (by omega) hn d_X_pass_25 ?_
        refine lv_lload_n hx hb d_X_pass_26 rfl (lv_at hl 3 rfl) ?_
        have hPo_5 := hP.one (cW_at (k := j + 1) (by omega) (by omega))
        refine vp_callSi (va_runU (C := C_o (cx (K (j + 1)))) (As := [.long t]) (rest := []) ⟨hx, hb, hml, hown, ht⟩ (c_O_lapses l (K (j + 1)) (E (j + 1)) (P (j + 1)) (F (j + 1)) (U (j + 1)) (M (j + 1)) (V (j + 1)) ((psX (qC V M X t) (yC M) X j) (j + 1)) (T (j + 1)) t (cx (K (j + 1))) (cx_lt _) D cs (ad (j + 1))) (cU_ 1 ht tk_158 tk_152 tk_3 tk_153 tk_154 (se_O_lapses (cx_lt _)) (va_Decl.of (ht _ tk_153) (ht _ tk_158)) hd_O_lapses.2.2 ⟨Nat.le_of_ble_eq_true rfl, Nat.le_of_ble_eq_true rfl⟩) ⟨fun _ _ _ _ q => ⟨q.1, q.2.1, KK.call q.2.2⟩, va_recv (q0 := (5 + (j + 1))) hK hP (cl_o (cx_lt _)) (cW_at (k := j + 1) (by omega) (by omega)), fun U hU hW => ⟨rfl, by rw [hU]; exact hPo_5, KK.warm hK hN hW⟩⟩ rfl rfl hl.1 rfl (lv_room (Nat.le_of_ble_eq_true rfl)) d_X_pass_27 ⟨Nat.le_of_ble_eq_true rfl, Nat.le_of_ble_eq_true rfl⟩).run (fun r_3 hw_4 => ?_)
        refine lv_if_ne (tgt := 36) hx hb d_X_pass_30 (by decide) (fun c_6 => ?_) (fun c_6 => ?_)
        · have c_6 := bl_t hw_4 c_6
          have c_6 : qC V M X t (j + 1) = true := by rw [psX_at] at c_6; exact decide_eq_true c_6
          refine lv_aload_n hx hb d_X_pass_36 rfl (lv_at hl 2 rfl) ?_
          refine va_get (D := D) (ci := 3) (C := R_X) (T := F_X) (N := 8) (v := .ref (g 1)) hx hb ht i_X hown hK hP 0 rfl rfl 0 (by decide) (ht _ tk_19) (fun _ h9 => h9) rfl d_X_pass_37 ?_
          refine lv_iload hx hb d_X_pass_40 (lv_at hl 0 rfl) ?_
          refine x_ald hx hb hK hP (by omega) (by omega) hn d_X_pass_42 ?_
          refine lv_aload_n hx hb d_X_pass_43 rfl (lv_at hl 2 rfl) ?_
          refine va_get (D := D) (ci := 3) (C := R_X) (T := F_X) (N := 8) (v := .ref (g 1)) hx hb ht i_X hown hK hP 0 rfl rfl 0 (by decide) (ht _ tk_19) (fun _ h9 => h9) rfl d_X_pass_44 ?_
          refine lv_iload hx hb d_X_pass_47 (lv_at hl 0 rfl) ?_
          refine x_ald hx hb hK hP (by omega) (by omega) hn d_X_pass_49 ?_
          refine va_getN (D := D) (ci := cx (K (j + 1))) (C := C_o (cx (K (j + 1)))) (T := F_O) (N := N_o (cx (K (j + 1)))) (v := .long (M (j + 1))) hx hb ht (i_o (cx_lt _)) hown hK hP (5 + (j + 1)) (cW_at (k := j + 1) (by omega) (by omega)) (cl_o (cx_lt _)) 5 (n_o (by decide)) (Nx_82 hN) (fun _ h9 => h9) rfl d_X_pass_50 ?_
          refine lv_ldc2 (v := 14) hx hb hown (ht _ tk_167) d_X_pass_53 ?_
          refine lv_ladd hx hb d_X_pass_56 ?_
          refine lv_lconst (v := 1) hx hb d_X_pass_57 (by decide) ?_
          refine lv_ladd hx hb d_X_pass_58 ?_
          refine va_putN (D := D) (ci := cx (K (j + 1))) (C := C_o (cx (K (j + 1)))) (T := F_O) (N := N_o (cx (K (j + 1)))) (v := .long (((M (j + 1)) + 14) + 1)) (ty := .long) hx hb ht (i_o (cx_lt _)) t_O ty_o nm_o hown hK hP hD hS (5 + (j + 1)) (cW_at (k := j + 1) (by omega) (by omega)) (cl_o (cx_lt _)) 7 (n_o (by decide)) (Nx_86 hN) (fun _ h9 => h9) rfl (by decide +kernel) rfl rfl (oF_len (by decide)) d_X_pass_59 (fun H locs hP hD hS => ?_)
          have hP : va_P D classes (cW g cs n t ad K E P T V F U M (vp_updL (psX (qC V M X t) (yC M) X j) (j + 1) (((M (j + 1)) + 14) + 1)) rk wy ps rg rs) H := (cW_setX (n := n) (k := j + 1) (by omega) (by omega) _) ▸ hP
          have hD : va_D A (cW g cs n t ad K E P T V F U M (vp_updL (psX (qC V M X t) (yC M) X j) (j + 1) (((M (j + 1)) + 14) + 1)) rk wy ps rg rs) := (cW_setX (n := n) (k := j + 1) (by omega) (by omega) _) ▸ hD
          have hP : va_P D classes (cW g cs n t ad K E P T V F U M (psX (qC V M X t) (yC M) X (j + 1)) rk wy ps rg rs) H := (psX_t (Y := yC M) c_6) ▸ hP
          have hD : va_D A (cW g cs n t ad K E P T V F U M (psX (qC V M X t) (yC M) X (j + 1)) rk wy ps rg rs) := (psX_t (Y := yC M) c_6) ▸ hD
          refine lv_iinc (v := nI (cnt (qC V M X t) (j + 1))) (lv' := [(3, .int (nI (cnt (qC V M X t) (j + 1)))), (4, .int (nI (j + 1))), (0, .ref (g 0)), (1, .long t)]) hx hb d_X_pass_62 hl (k := 1) rfl (by rw [cnt_t c_6]; exact nI_1 _) (by decide) rfl (fun ls hl => ?_)
          refine lv_iinc (v := nI (j + 2)) (lv' := [(4, .int (nI (j + 2))), (3, .int (nI (cnt (qC V M X t) (j + 1)))), (0, .ref (g 0)), (1, .long t)]) hx hb d_X_pass_65 hl (k := 1) rfl (show nI (j + 1) + 1 = _ from nI_1 (j + 1)) (by decide) rfl (fun ls hl => ?_)
          refine lv_goto (tgt := 10) hx hb d_X_pass_68 (by decide) ?_
          exact ih (j + 1) H locs ls (by omega) hP hD hS (lv_sub hl [0, 1, 2, 3] rfl)
        · have c_6 := bl_f hw_4 c_6
          have c_6 : qC V M X t (j + 1) = false := by rw [psX_at] at c_6; exact decide_eq_false c_6
          refine lv_goto (tgt := 65) hx hb d_X_pass_33 (by decide) ?_
          refine lv_iinc (v := nI (j + 2)) (lv' := [(4, .int (nI (j + 2))), (3, .int (nI (cnt (qC V M X t) j))), (0, .ref (g 0)), (1, .long t)]) hx hb d_X_pass_65 hl (k := 0) rfl (show nI (j + 1) + 1 = _ from nI_1 (j + 1)) (by decide) rfl (fun ls hl => ?_)
          refine lv_goto (tgt := 10) hx hb d_X_pass_68 (by decide) ?_
          exact ih (j + 1) H locs ls (by omega) (by rw [psX_f c_6]; exact hP) (by rw [psX_f c_6]; exact hD) hS (by rw [cnt_f c_6]; exact lv_sub hl [0, 1, 2, 3] rfl)
  exact loop n 0 H locs ls (by omega) (by rw [psX_0]; exact hP) (by rw [psX_0]; exact hD) hS (lv_sub hl [0, 1, 2, 3] rfl)
end
section
/-- an order's number -/
abbrev okO (n : Nat) (o : Int32) : Prop := ¬ o ≤ 0 ∧ ¬ nI n < o
theorem ordk_of {n : Nat} {o : Int32} (h : okO n o) : ∃ k, 1 ≤ k ∧ k ≤ n ∧ o = nI k := by
  obtain ⟨j, hj, rfl⟩ := nI_of (x := o) (fun q => h.1 (Int32.le_of_lt q))
  refine ⟨j, ?_, ?_, rfl⟩
  · rcases Nat.eq_zero_or_pos j with rfl | q
    · exact absurd (by rw [nI_0]; exact Int32.le_refl _) h.1
    · exact q
  · rcases Nat.lt_or_ge n j with q | q
    · exact absurd (nI_lt q hj) h.2
    · exact q
theorem kind_of {v : Int32} (h : ¬ v < 0 ∧ ¬ 9 ≤ v) : ∃ k, k < 9 ∧ v = nI k := by
  obtain ⟨j, hj, rfl⟩ := nI_of (x := v) h.1
  refine ⟨j, ?_, rfl⟩
  rcases Nat.lt_or_ge j 9 with q | q
  · exact q
  · exact absurd (show (9 : Int32) ≤ nI j from nI_le (a := 9) q hj) h.2
theorem vin_of {i rs : Int32} {q N : Nat} (hq : rs = nI q) (h2 : q ≤ N) (hN : N < 2 ^ 31) (c1 : ¬ i < 0) (c2 : ¬ rs ≤ i) : vp_in i N := by
  obtain ⟨j, hj, rfl⟩ := nI_of (x := i) c1
  rcases Nat.lt_or_ge j q with w | w
  · exact vp_in_nI (by omega) hN
  · exact absurd (by rw [hq]; exact nI_le w hj) c2
/-- a day that may not be -/
abbrev badD (now t : Int64) : Prop := t < now ∨ ¬ t ≤ 20000
abbrev Xp (n : Nat) (V : Nat → Int32) (M X : Nat → Int64) (t : Int64) : Nat → Int64 := psX (qC V M X t) (yC M) X n
abbrev QtickC (n : Nat) (now : Int64) (V : Nat → Int32) (M X : Nat → Int64) (t : Int64) (r : Int32) (u : Int64 × (Nat → Int64)) : Prop := (badD now t ∧ r = -102 ∧ u = (now, X)) ∨ (¬ badD now t ∧ r = nI (cnt (qC V M X t) n) ∧ u = (t, Xp n V M X t))
set_option maxHeartbeats 4000000 in
set_option maxRecDepth 100000 in
/-- tick(t) -/
theorem c_X_tick (l : Launch) (t : Int64) (D : va_G) (g cs : Nat → Nat) (n : Nat) (now : Int64) (ad : Nat → Nat) (K E P T V : Nat → Int32) (F U M X : Nat → Int64) (rk wy ps rg : Nat → Int32) (rs : Int32) (hn : n ≤ 200) (sz : Nat) : Met l y_X_tick (Cond.code y_X_tick b_X_tick 3 (some .int) :: wt) ({ frames := 3, cells := 0, slots := 0, locals := 66 }) (va_Pc [.ref (g 0), .long t] (fun S0 => S0.heap.size = sz ∧ va_P D classes (cW g cs n now ad K E P T V F U M X rk wy ps rg rs) S0.heap ∧ KK D cs S0 ∧ va_D (fun _ => True) (cW g cs n now ad K E P T V F U M X rk wy ps rg rs))) (va_Qi (fun r u => QtickC n now V M X t r u) (fun (u : Int64 × (Nat → Int64)) S1 => va_P D classes (cW g cs n u.1 ad K E P T V F U M u.2 rk wy ps rg rs) S1.heap ∧ va_D (va_A (cW g cs n now ad K E P T V F U M X rk wy ps rg rs) sz) (cW g cs n u.1 ad K E P T V F U M u.2 rk wy ps rg rs)) (va_A (cW g cs n now ad K E P T V F U M X rk wy ps rg rs) sz)) 0 0 (va_A (cW g cs n now ad K E P T V F U M X rk wy ps rg rs) sz) := by
  refine Met.ofW (cc := b_X_tick) (maxL := 3) (ret := (some .int)) (by decide) rfl ?_
  intro p e s m args below meth c s₁ B hml hv
  obtain ⟨rfl, hsz, hP, ⟨hK, hN⟩, hD0⟩ := hv
  have hx := B.exec
  have hb := B.bytes
  have hr := B.returns
  have ht : ∀ w ∈ wt, w.before _ s = true := fun w h => atoms_spec (ws := _ :: wt) B.pre w (List.mem_cons_of_mem _ h)
  have hown : s.vm.findClass R_X = some m.cls := findClass_of_methodNamed B.named
  have hlocks := B.notSynchronized
  subst hsz
  have hD := hD0.self (sz := s.heap.size)
  generalize hAe : va_A (cW g cs n now ad K E P T V F U M X rk wy ps rg rs) s.heap.size = A at hD ⊢
  have hA : ∀ q : Nat, s.heap.size ≤ q → A q := fun q h => by rw [← hAe]; exact Or.inr h
  have hS : va_S A s.heap s.heap [] := va_S.rf
  have hl := lv_entry ([.ref (g 0), .long t]) (n := 3) (Nat.le_of_ble_eq_true rfl)
  rw [lg_entry_eq]
  generalize (lg_sl ([.ref (g 0), .long t]) ++ List.replicate (3 - (lg_sl ([.ref (g 0), .long t])).length) Slot.unset).toArray = ls at hl ⊢
  have hl : lv_has ls 3 [(0, .ref (g 0)), (1, .long t)] := hl
  refine lv_aload_n hx hb d_X_tick_0 rfl (lv_at hl 0 rfl) ?_
  refine lv_lload_n hx hb d_X_tick_1 rfl (lv_at hl 1 rfl) ?_
  refine vp_callSi (W.runV (C := R_X) (As := [.long t]) (rest := []) ⟨hx, hb, hml, hown, ht⟩ (c_X_isNoDay l t D g cs n now ad K E P T V F U M X rk wy ps rg rs ) (cV_ 1 ht tk_147 tk_144 tk_1 tk_146 ts_X_isNoDay hd_X_isNoDay ⟨Nat.le_of_ble_eq_true rfl, Nat.le_of_ble_eq_true rfl⟩) ⟨fun _ _ _ _ q => ⟨q.1, q.2.1, KK.call q.2.2⟩, va_recv (ci := 3) (q0 := 0) hK hP rfl rfl, fun U hU hW => ⟨rfl, by rw [hU]; exact hP, KK.warm hK hN hW⟩⟩ rfl rfl hl.1 rfl (lv_room (Nat.le_of_ble_eq_true rfl)) d_X_tick_2 ⟨Nat.le_of_ble_eq_true rfl, Nat.le_of_ble_eq_true rfl⟩) (fun r_1 hw_2 => ?_)
  refine lv_if_eq (tgt := 13) hx hb d_X_tick_5 (by decide) (fun c_3 => ?_) (fun c_3 => ?_)
  · have c_3 := bl_f hw_2 c_3
    refine lv_aload_n hx hb d_X_tick_13 rfl (lv_at hl 0 rfl) ?_
    refine lv_lload_n hx hb d_X_tick_14 rfl (lv_at hl 1 rfl) ?_
    have hFc := freeW hD hS hA
    refine va_calli (va_runV (C := R_X) (As := [.long t]) (rest := []) ⟨hx, hb, hml, hown, ht⟩ (c_X_pass l t D g cs n now ad K E P T V F U M X rk wy ps rg rs hn _) (cV_ 1 ht tk_151 tk_148 tk_1 tk_150 ts_X_pass hd_X_pass ⟨Nat.le_of_ble_eq_true rfl, Nat.le_of_ble_eq_true rfl⟩) ⟨fun _ _ _ _ q => ⟨q.1, q.2.1, q.2.2.1, KK.call q.2.2.2.1, q.2.2.2.2⟩, va_recv (ci := 3) (q0 := 0) hK hP rfl rfl, fun U hU hW => ⟨rfl, by rw [hU], by rw [hU]; exact hP, KK.warm hK hN hW, hD.weaken (fun _ _ _ _ => trivial)⟩⟩ rfl rfl hl.1 rfl (lv_room (Nat.le_of_ble_eq_true rfl)) d_X_tick_15 ⟨Nat.le_of_ble_eq_true rfl, Nat.le_of_ble_eq_true rfl⟩) hS (fun q _ h => hFc q h) hFc (fun r_4 u_6 t1 H locs ht1 hvm hw_5 hB hz1 hkp hS => ?_)
    obtain ⟨hP, hD⟩ := hB
    rw [ht1] at hP
    have hD := hD.weaken (fun k q _ h => hFc q.1 h)
    exact W.iret (v := r_4) hx hb hr (fun t9 ht9 hW => ⟨⟨r_4, (t, Xp n V M X t), rfl, Or.inr ⟨c_3, hw_5, rfl⟩, by rw [ht9]; exact hP, hD⟩, hS.F ht9⟩) hS.2.2 d_X_tick_18
  · have c_3 := bl_t hw_2 c_3
    refine lv_bipush (v := (-102)) hx hb d_X_tick_8 (by decide) ?_
    refine lv_goto (tgt := 18) hx hb d_X_tick_10 (by decide) ?_
    exact W.iret (v := (-102)) hx hb hr (fun t9 ht9 hW => ⟨⟨(-102), (now, X), rfl, Or.inl ⟨c_3, rfl, rfl⟩, by rw [ht9]; exact hP, hD⟩, hS.F ht9⟩) hS.2.2 d_X_tick_18
abbrev QproofC (n : Nat) (now : Int64) (V : Nat → Int32) (M X : Nat → Int64) (o gd : Int32) (t : Int64) (r : Int32) (u : Int64 × (Nat → Int32) × (Nat → Int64)) : Prop :=
  (¬ okO n o ∧ r = -101 ∧ u = (now, V, X)) ∨ (okO n o ∧ badD now t ∧ r = -102 ∧ u = (now, V, X)) ∨
  (∃ k, 1 ≤ k ∧ k ≤ n ∧ o = nI k ∧ ¬ badD now t ∧
    ((¬ 1000000 ≤ Xp n V M X t k ∧ r = -103 ∧ u = (t, V, Xp n V M X t)) ∨ (¬ ¬ 1000000 ≤ Xp n V M X t k ∧ ¬ V k = 0 ∧ r = -103 ∧ u = (t, V, Xp n V M X t)) ∨
     (¬ ¬ 1000000 ≤ Xp n V M X t k ∧ V k = 0 ∧ ((gd = 1 ∧ r = 1 ∧ u = (t, upd V k 1, Xp n V M X t)) ∨ (gd = 0 ∧ r = 0 ∧ u = (t, V, vp_updL (Xp n V M X t) k t)))))) 
set_option maxHeartbeats 4000000 in
set_option maxRecDepth 100000 in
/-- proof(o, good, t) -/
theorem c_X_proof (l : Launch) (o : Int32) (gd : Int32) (t : Int64) (D : va_G) (g cs : Nat → Nat) (n : Nat) (now : Int64) (ad : Nat → Nat) (K E P T V : Nat → Int32) (F U M X : Nat → Int64) (rk wy ps rg : Nat → Int32) (rs : Int32) (hn : n ≤ 200) (hg : gd = 0 ∨ gd = 1) (sz : Nat) : Met l y_X_proof (Cond.code y_X_proof b_X_proof 6 (some .int) :: wt) ({ frames := 3, cells := 0, slots := 0, locals := 66 }) (va_Pc [.ref (g 0), .int o, .int gd, .long t] (fun S0 => S0.heap.size = sz ∧ va_P D classes (cW g cs n now ad K E P T V F U M X rk wy ps rg rs) S0.heap ∧ KK D cs S0 ∧ va_D (fun _ => True) (cW g cs n now ad K E P T V F U M X rk wy ps rg rs))) (va_Qi (fun r u => QproofC n now V M X o gd t r u) (fun (u : Int64 × (Nat → Int32) × (Nat → Int64)) S1 => va_P D classes (cW g cs n u.1 ad K E P T u.2.1 F U M u.2.2 rk wy ps rg rs) S1.heap ∧ va_D (va_A (cW g cs n now ad K E P T V F U M X rk wy ps rg rs) sz) (cW g cs n u.1 ad K E P T u.2.1 F U M u.2.2 rk wy ps rg rs)) (va_A (cW g cs n now ad K E P T V F U M X rk wy ps rg rs) sz)) 0 0 (va_A (cW g cs n now ad K E P T V F U M X rk wy ps rg rs) sz) := by
  refine Met.ofW (cc := b_X_proof) (maxL := 6) (ret := (some .int)) (by decide) rfl ?_
  intro p e s m args below meth c s₁ B hml hv
  obtain ⟨rfl, hsz, hP, ⟨hK, hN⟩, hD0⟩ := hv
  have hx := B.exec
  have hb := B.bytes
  have hr := B.returns
  have ht : ∀ w ∈ wt, w.before _ s = true := fun w h => atoms_spec (ws := _ :: wt) B.pre w (List.mem_cons_of_mem _ h)
  have hown : s.vm.findClass R_X = some m.cls := findClass_of_methodNamed B.named
  have hlocks := B.notSynchronized
  subst hsz
  have hD := hD0.self (sz := s.heap.size)
  generalize hAe : va_A (cW g cs n now ad K E P T V F U M X rk wy ps rg rs) s.heap.size = A at hD ⊢
  have hA : ∀ q : Nat, s.heap.size ≤ q → A q := fun q h => by rw [← hAe]; exact Or.inr h
  have hS : va_S A s.heap s.heap [] := va_S.rf
  have hl := lv_entry ([.ref (g 0), .int o, .int gd, .long t]) (n := 6) (Nat.le_of_ble_eq_true rfl)
  rw [lg_entry_eq]
  generalize (lg_sl ([.ref (g 0), .int o, .int gd, .long t]) ++ List.replicate (6 - (lg_sl ([.ref (g 0), .int o, .int gd, .long t])).length) Slot.unset).toArray = ls at hl ⊢
  have hl : lv_has ls 6 [(0, .ref (g 0)), (1, .int o), (2, .int gd), (3, .long t)] := hl
  refine lv_aload_n hx hb d_X_proof_0 rfl (lv_at hl 0 rfl) ?_
  refine lv_iload_n hx hb d_X_proof_1 rfl (lv_at hl 1 rfl) ?_
  refine vp_callSi (W.runV (C := R_X) (As := [.int o]) (rest := []) ⟨hx, hb, hml, hown, ht⟩ (c_X_isOrder l o D g cs n now ad K E P T V F U M X rk wy ps rg rs ) (cV_ 1 ht tk_143 tk_140 tk_1 tk_142 ts_X_isOrder hd_X_isOrder ⟨Nat.le_of_ble_eq_true rfl, Nat.le_of_ble_eq_true rfl⟩) ⟨fun _ _ _ _ q => ⟨q.1, q.2.1, KK.call q.2.2⟩, va_recv (ci := 3) (q0 := 0) hK hP rfl rfl, fun U hU hW => ⟨rfl, by rw [hU]; exact hP, KK.warm hK hN hW⟩⟩ rfl rfl hl.1 rfl (lv_room (Nat.le_of_ble_eq_true rfl)) d_X_proof_2 ⟨Nat.le_of_ble_eq_true rfl, Nat.le_of_ble_eq_true rfl⟩) (fun r_1 hw_2 => ?_)
  refine lv_if_ne (tgt := 11) hx hb d_X_proof_5 (by decide) (fun c_3 => ?_) (fun c_3 => ?_)
  · have c_3 := bl_t hw_2 c_3
    refine lv_aload_n hx hb d_X_proof_11 rfl (lv_at hl 0 rfl) ?_
    refine lv_lload_n hx hb d_X_proof_12 rfl (lv_at hl 3 rfl) ?_
    refine vp_callSi (W.runV (C := R_X) (As := [.long t]) (rest := []) ⟨hx, hb, hml, hown, ht⟩ (c_X_isNoDay l t D g cs n now ad K E P T V F U M X rk wy ps rg rs ) (cV_ 1 ht tk_147 tk_144 tk_1 tk_146 ts_X_isNoDay hd_X_isNoDay ⟨Nat.le_of_ble_eq_true rfl, Nat.le_of_ble_eq_true rfl⟩) ⟨fun _ _ _ _ q => ⟨q.1, q.2.1, KK.call q.2.2⟩, va_recv (ci := 3) (q0 := 0) hK hP rfl rfl, fun U hU hW => ⟨rfl, by rw [hU]; exact hP, KK.warm hK hN hW⟩⟩ rfl rfl hl.1 rfl (lv_room (Nat.le_of_ble_eq_true rfl)) d_X_proof_13 ⟨Nat.le_of_ble_eq_true rfl, Nat.le_of_ble_eq_true rfl⟩) (fun r_4 hw_5 => ?_)
    refine lv_if_eq (tgt := 22) hx hb d_X_proof_16 (by decide) (fun c_6 => ?_) (fun c_6 => ?_)
    · have c_6 := bl_f hw_5 c_6
      refine lv_aload_n hx hb d_X_proof_22 rfl (lv_at hl 0 rfl) ?_
      refine lv_lload_n hx hb d_X_proof_23 rfl (lv_at hl 3 rfl) ?_
      have hFc := freeW hD hS hA
      refine va_calli (va_runV (C := R_X) (As := [.long t]) (rest := []) ⟨hx, hb, hml, hown, ht⟩ (c_X_pass l t D g cs n now ad K E P T V F U M X rk wy ps rg rs hn _) (cV_ 1 ht tk_151 tk_148 tk_1 tk_150 ts_X_pass hd_X_pass ⟨Nat.le_of_ble_eq_true rfl, Nat.le_of_ble_eq_true rfl⟩) ⟨fun _ _ _ _ q => ⟨q.1, q.2.1, q.2.2.1, KK.call q.2.2.2.1, q.2.2.2.2⟩, va_recv (ci := 3) (q0 := 0) hK hP rfl rfl, fun U hU hW => ⟨rfl, by rw [hU], by rw [hU]; exact hP, KK.warm hK hN hW, hD.weaken (fun _ _ _ _ => trivial)⟩⟩ rfl rfl hl.1 rfl (lv_room (Nat.le_of_ble_eq_true rfl)) d_X_proof_24 ⟨Nat.le_of_ble_eq_true rfl, Nat.le_of_ble_eq_true rfl⟩) hS (fun q _ h => hFc q h) hFc (fun r_7 u_9 t1 H locs ht1 hvm hw_8 hB hz1 hkp hS => ?_)
      obtain ⟨hP, hD⟩ := hB
      rw [ht1] at hP
      have hD := hD.weaken (fun k q _ h => hFc q.1 h)
      refine lv_pop hx hb d_X_proof_27 rfl ?_
      have hok := c_3
      obtain ⟨k, hk1, hk2, rfl⟩ := ordk_of hok
      refine lv_aload_n hx hb d_X_proof_28 rfl (lv_at hl 0 rfl) ?_
      refine va_get (D := D) (ci := 3) (C := R_X) (T := F_X) (N := 8) (v := .ref (g 1)) hx hb ht i_X hown hK hP 0 rfl rfl 0 (by decide) (ht _ tk_19) (fun _ h9 => h9) rfl d_X_proof_29 ?_
      refine lv_iload_n hx hb d_X_proof_32 rfl (lv_at hl 1 rfl) ?_
      refine x_ald hx hb hK hP hk1 hk2 hn d_X_proof_33 ?_
      refine lv_astore (lv' := [(5, .ref (ad k)), (0, .ref (g 0)), (1, .int (nI k)), (2, .int gd), (3, .long t)]) hx hb d_X_proof_34 hl (by decide) rfl (fun ls hl => ?_)
      refine lv_aload hx hb d_X_proof_36 (lv_at hl 0 rfl) ?_
      have hPo_12 := hP.one (cW_at (k := k) hk1 hk2)
      refine vp_callSi (va_runU (C := C_o (cx (K k))) (As := []) (rest := []) ⟨hx, hb, hml, hown, ht⟩ (c_O_isOver l (K k) (E k) (P k) (F k) (U k) (M k) (V k) ((psX (qC V M X t) (yC M) X n) k) (T k)  (cx (K k)) (cx_lt _) D cs (ad k)) (cU_ 0 ht tk_165 tk_168 tk_3 tk_160 tk_161 (se_O_isOver (cx_lt _)) (va_Decl.of (ht _ tk_160) (ht _ tk_165)) hd_O_isOver.2.2 ⟨Nat.le_of_ble_eq_true rfl, Nat.le_of_ble_eq_true rfl⟩) ⟨fun _ _ _ _ q => ⟨q.1, q.2.1, KK.call q.2.2⟩, va_recv (q0 := (5 + k)) hK hP (cl_o (cx_lt _)) (cW_at (k := k) hk1 hk2), fun U hU hW => ⟨rfl, by rw [hU]; exact hPo_12, KK.warm hK hN hW⟩⟩ rfl rfl hl.1 rfl (lv_room (Nat.le_of_ble_eq_true rfl)) d_X_proof_38 ⟨Nat.le_of_ble_eq_true rfl, Nat.le_of_ble_eq_true rfl⟩).run (fun r_10 hw_11 => ?_)
      refine lv_if_ne (tgt := 52) hx hb d_X_proof_41 (by decide) (fun c_13 => ?_) (fun c_13 => ?_)
      · have c_13 := bl_t hw_11 c_13
        refine lv_bipush (v := (-103)) hx hb d_X_proof_52 (by decide) ?_
        exact W.iret (v := (-103)) hx hb hr (fun t9 ht9 hW => ⟨⟨(-103), (t, V, Xp n V M X t), rfl, Or.inr (Or.inr ⟨k, hk1, hk2, rfl, c_6, Or.inl ⟨c_13, rfl, rfl⟩⟩), by rw [ht9]; exact hP, hD⟩, hS.F ht9⟩) hS.2.2 d_X_proof_54
      · have c_13 := bl_f hw_11 c_13
        refine lv_aload hx hb d_X_proof_44 (lv_at hl 0 rfl) ?_
        refine va_getN (D := D) (ci := cx (K k)) (C := C_o (cx (K k))) (T := F_O) (N := N_o (cx (K k))) (v := .int (V k)) hx hb ht (i_o (cx_lt _)) hown hK hP (5 + k) (cW_at (k := k) hk1 hk2) (cl_o (cx_lt _)) 6 (n_o (by decide)) (Nx_84 hN) (fun _ h9 => h9) rfl d_X_proof_46 ?_
        refine lv_if_eq (tgt := 55) hx hb d_X_proof_49 (by decide) (fun c_14 => ?_) (fun c_14 => ?_)
        · rcases hg with rfl | rfl
          · refine lv_iload_n hx hb d_X_proof_55 rfl (lv_at hl 3 rfl) ?_
            refine lv_if_eq (tgt := 68) hx hb d_X_proof_56 (by decide) (fun _ => ?_) (fun h9 => absurd (by decide) h9)
            refine lv_aload hx hb d_X_proof_68 (lv_at hl 0 rfl) ?_
            refine lv_lload_n hx hb d_X_proof_70 rfl (lv_at hl 4 rfl) ?_
            refine va_putN (D := D) (ci := cx (K k)) (C := C_o (cx (K k))) (T := F_O) (N := N_o (cx (K k))) (v := .long t) (ty := .long) hx hb ht (i_o (cx_lt _)) t_O ty_o nm_o hown hK hP hD hS (5 + k) (cW_at (k := k) hk1 hk2) (cl_o (cx_lt _)) 7 (n_o (by decide)) (Nx_86 hN) (fun _ h9 => h9) rfl (by decide +kernel) rfl rfl (oF_len (by decide)) d_X_proof_71 (fun H locs hP hD hS => ?_)
            have hP : va_P D classes (cW g cs n t ad K E P T V F U M (vp_updL (psX (qC V M X t) (yC M) X n) k t) rk wy ps rg rs) H := (cW_setX (n := n) (k := k) hk1 hk2 _) ▸ hP
            have hD : va_D A (cW g cs n t ad K E P T V F U M (vp_updL (psX (qC V M X t) (yC M) X n) k t) rk wy ps rg rs) := (cW_setX (n := n) (k := k) hk1 hk2 _) ▸ hD
            refine lv_iload_n hx hb d_X_proof_74 rfl (lv_at hl 3 rfl) ?_
            refine lv_if_eq (tgt := 82) hx hb d_X_proof_75 (by decide) (fun _ => ?_) (fun h9 => absurd (by decide) h9)
            refine lv_iconst (v := 0) hx hb d_X_proof_82 (by decide) ?_
            exact W.iret (v := 0) hx hb hr (fun t9 ht9 hW => ⟨⟨0, (t, V, vp_updL (Xp n V M X t) k t), rfl, Or.inr (Or.inr ⟨k, hk1, hk2, rfl, c_6, Or.inr (Or.inr ⟨c_13, c_14, Or.inr ⟨rfl, rfl, rfl⟩⟩)⟩), by rw [ht9]; exact hP, hD⟩, hS.F ht9⟩) hS.2.2 d_X_proof_83
          · refine lv_iload_n hx hb d_X_proof_55 rfl (lv_at hl 3 rfl) ?_
            refine lv_if_eq (tgt := 68) hx hb d_X_proof_56 (by decide) (fun h9 => absurd h9 (by decide)) (fun _ => ?_)
            refine lv_aload hx hb d_X_proof_59 (lv_at hl 0 rfl) ?_
            refine lv_iconst (v := 1) hx hb d_X_proof_61 (by decide) ?_
            refine va_putN (D := D) (ci := cx (K k)) (C := C_o (cx (K k))) (T := F_O) (N := N_o (cx (K k))) (v := .int 1) (ty := .boolean) hx hb ht (i_o (cx_lt _)) t_O ty_o nm_o hown hK hP hD hS (5 + k) (cW_at (k := k) hk1 hk2) (cl_o (cx_lt _)) 6 (n_o (by decide)) (Nx_84 hN) (fun _ h9 => h9) rfl (by decide +kernel) rfl rfl (oF_len (by decide)) d_X_proof_62 (fun H locs hP hD hS => ?_)
            have hP : va_P D classes (cW g cs n t ad K E P T (upd V k 1) F U M (psX (qC V M X t) (yC M) X n) rk wy ps rg rs) H := (cW_setV (n := n) (k := k) hk1 hk2 _) ▸ hP
            have hD : va_D A (cW g cs n t ad K E P T (upd V k 1) F U M (psX (qC V M X t) (yC M) X n) rk wy ps rg rs) := (cW_setV (n := n) (k := k) hk1 hk2 _) ▸ hD
            refine lv_goto (tgt := 74) hx hb d_X_proof_65 (by decide) ?_
            refine lv_iload_n hx hb d_X_proof_74 rfl (lv_at hl 3 rfl) ?_
            refine lv_if_eq (tgt := 82) hx hb d_X_proof_75 (by decide) (fun h9 => absurd h9 (by decide)) (fun _ => ?_)
            refine lv_iconst (v := 1) hx hb d_X_proof_78 (by decide) ?_
            refine lv_goto (tgt := 83) hx hb d_X_proof_79 (by decide) ?_
            exact W.iret (v := 1) hx hb hr (fun t9 ht9 hW => ⟨⟨1, (t, upd V k 1, Xp n V M X t), rfl, Or.inr (Or.inr ⟨k, hk1, hk2, rfl, c_6, Or.inr (Or.inr ⟨c_13, c_14, Or.inl ⟨rfl, rfl, rfl⟩⟩)⟩), by rw [ht9]; exact hP, hD⟩, hS.F ht9⟩) hS.2.2 d_X_proof_83
        · refine lv_bipush (v := (-103)) hx hb d_X_proof_52 (by decide) ?_
          exact W.iret (v := (-103)) hx hb hr (fun t9 ht9 hW => ⟨⟨(-103), (t, V, Xp n V M X t), rfl, Or.inr (Or.inr ⟨k, hk1, hk2, rfl, c_6, Or.inr (Or.inl ⟨c_13, c_14, rfl, rfl⟩)⟩), by rw [ht9]; exact hP, hD⟩, hS.F ht9⟩) hS.2.2 d_X_proof_54
    · have c_6 := bl_t hw_5 c_6
      refine lv_bipush (v := (-102)) hx hb d_X_proof_19 (by decide) ?_
      exact W.iret (v := (-102)) hx hb hr (fun t9 ht9 hW => ⟨⟨(-102), (now, V, X), rfl, Or.inr (Or.inl ⟨c_3, c_6, rfl, rfl⟩), by rw [ht9]; exact hP, hD⟩, hS.F ht9⟩) hS.2.2 d_X_proof_21
  · have c_3 := bl_f hw_2 c_3
    refine lv_bipush (v := (-101)) hx hb d_X_proof_8 (by decide) ?_
    exact W.iret (v := (-101)) hx hb hr (fun t9 ht9 hW => ⟨⟨(-101), (now, V, X), rfl, Or.inl ⟨c_3, rfl, rfl⟩, by rw [ht9]; exact hP, hD⟩, hS.F ht9⟩) hS.2.2 d_X_proof_10
abbrev QwithC (n : Nat) (now : Int64) (V : Nat → Int32) (F U M X : Nat → Int64) (o : Int32) (t : Int64) (r : Int32) (u : Int64 × (Nat → Int64)) : Prop :=
  (¬ okO n o ∧ r = -101 ∧ u = (now, X)) ∨ (okO n o ∧ badD now t ∧ r = -102 ∧ u = (now, X)) ∨
  (∃ k, 1 ≤ k ∧ k ≤ n ∧ o = nI k ∧ ¬ badD now t ∧
    ((¬ 1000000 ≤ Xp n V M X t k ∧ r = -103 ∧ u = (t, Xp n V M X t)) ∨
     (¬ ¬ 1000000 ≤ Xp n V M X t k ∧ r = (lmax 0 (U k + 1 - lmax (F k) t)).toInt32 ∧ u = (t, vp_updL (Xp n V M X t) k t))))
set_option maxHeartbeats 4000000 in
set_option maxRecDepth 100000 in
/-- withdraw(o, t) -/
theorem c_X_withdraw (l : Launch) (o : Int32) (t : Int64) (D : va_G) (g cs : Nat → Nat) (n : Nat) (now : Int64) (ad : Nat → Nat) (K E P T V : Nat → Int32) (F U M X : Nat → Int64) (rk wy ps rg : Nat → Int32) (rs : Int32) (hn : n ≤ 200) (sz : Nat) : Met l y_X_withdraw (Cond.code y_X_withdraw b_X_withdraw 4 (some .int) :: wt) ({ frames := 3, cells := 0, slots := 0, locals := 66 }) (va_Pc [.ref (g 0), .int o, .long t] (fun S0 => S0.heap.size = sz ∧ va_P D classes (cW g cs n now ad K E P T V F U M X rk wy ps rg rs) S0.heap ∧ KK D cs S0 ∧ va_D (fun _ => True) (cW g cs n now ad K E P T V F U M X rk wy ps rg rs))) (va_Qi (fun r u => QwithC n now V F U M X o t r u) (fun (u : Int64 × (Nat → Int64)) S1 => va_P D classes (cW g cs n u.1 ad K E P T V F U M u.2 rk wy ps rg rs) S1.heap ∧ va_D (va_A (cW g cs n now ad K E P T V F U M X rk wy ps rg rs) sz) (cW g cs n u.1 ad K E P T V F U M u.2 rk wy ps rg rs)) (va_A (cW g cs n now ad K E P T V F U M X rk wy ps rg rs) sz)) 0 0 (va_A (cW g cs n now ad K E P T V F U M X rk wy ps rg rs) sz) := by
  refine Met.ofW (cc := b_X_withdraw) (maxL := 4) (ret := (some .int)) (by decide) rfl ?_
  intro p e s m args below meth c s₁ B hml hv
  obtain ⟨rfl, hsz, hP, ⟨hK, hN⟩, hD0⟩ := hv
  have hx := B.exec
  have hb := B.bytes
  have hr := B.returns
  have ht : ∀ w ∈ wt, w.before _ s = true := fun w h => atoms_spec (ws := _ :: wt) B.pre w (List.mem_cons_of_mem _ h)
  have hown : s.vm.findClass R_X = some m.cls := findClass_of_methodNamed B.named
  have hlocks := B.notSynchronized
  subst hsz
  have hD := hD0.self (sz := s.heap.size)
  generalize hAe : va_A (cW g cs n now ad K E P T V F U M X rk wy ps rg rs) s.heap.size = A at hD ⊢
  have hA : ∀ q : Nat, s.heap.size ≤ q → A q := fun q h => by rw [← hAe]; exact Or.inr h
  have hS : va_S A s.heap s.heap [] := va_S.rf
  have hl := lv_entry ([.ref (g 0), .int o, .long t]) (n := 4) (Nat.le_of_ble_eq_true rfl)
  rw [lg_entry_eq]
  generalize (lg_sl ([.ref (g 0), .int o, .long t]) ++ List.replicate (4 - (lg_sl ([.ref (g 0), .int o, .long t])).length) Slot.unset).toArray = ls at hl ⊢
  have hl : lv_has ls 4 [(0, .ref (g 0)), (1, .int o), (2, .long t)] := hl
  refine lv_aload_n hx hb d_X_withdraw_0 rfl (lv_at hl 0 rfl) ?_
  refine lv_iload_n hx hb d_X_withdraw_1 rfl (lv_at hl 1 rfl) ?_
  refine vp_callSi (W.runV (C := R_X) (As := [.int o]) (rest := []) ⟨hx, hb, hml, hown, ht⟩ (c_X_isOrder l o D g cs n now ad K E P T V F U M X rk wy ps rg rs ) (cV_ 1 ht tk_143 tk_140 tk_1 tk_142 ts_X_isOrder hd_X_isOrder ⟨Nat.le_of_ble_eq_true rfl, Nat.le_of_ble_eq_true rfl⟩) ⟨fun _ _ _ _ q => ⟨q.1, q.2.1, KK.call q.2.2⟩, va_recv (ci := 3) (q0 := 0) hK hP rfl rfl, fun U hU hW => ⟨rfl, by rw [hU]; exact hP, KK.warm hK hN hW⟩⟩ rfl rfl hl.1 rfl (lv_room (Nat.le_of_ble_eq_true rfl)) d_X_withdraw_2 ⟨Nat.le_of_ble_eq_true rfl, Nat.le_of_ble_eq_true rfl⟩) (fun r_1 hw_2 => ?_)
  refine lv_if_ne (tgt := 11) hx hb d_X_withdraw_5 (by decide) (fun c_3 => ?_) (fun c_3 => ?_)
  · have c_3 := bl_t hw_2 c_3
    refine lv_aload_n hx hb d_X_withdraw_11 rfl (lv_at hl 0 rfl) ?_
    refine lv_lload_n hx hb d_X_withdraw_12 rfl (lv_at hl 2 rfl) ?_
    refine vp_callSi (W.runV (C := R_X) (As := [.long t]) (rest := []) ⟨hx, hb, hml, hown, ht⟩ (c_X_isNoDay l t D g cs n now ad K E P T V F U M X rk wy ps rg rs ) (cV_ 1 ht tk_147 tk_144 tk_1 tk_146 ts_X_isNoDay hd_X_isNoDay ⟨Nat.le_of_ble_eq_true rfl, Nat.le_of_ble_eq_true rfl⟩) ⟨fun _ _ _ _ q => ⟨q.1, q.2.1, KK.call q.2.2⟩, va_recv (ci := 3) (q0 := 0) hK hP rfl rfl, fun U hU hW => ⟨rfl, by rw [hU]; exact hP, KK.warm hK hN hW⟩⟩ rfl rfl hl.1 rfl (lv_room (Nat.le_of_ble_eq_true rfl)) d_X_withdraw_13 ⟨Nat.le_of_ble_eq_true rfl, Nat.le_of_ble_eq_true rfl⟩) (fun r_4 hw_5 => ?_)
    refine lv_if_eq (tgt := 22) hx hb d_X_withdraw_16 (by decide) (fun c_6 => ?_) (fun c_6 => ?_)
    · have c_6 := bl_f hw_5 c_6
      refine lv_aload_n hx hb d_X_withdraw_22 rfl (lv_at hl 0 rfl) ?_
      refine lv_lload_n hx hb d_X_withdraw_23 rfl (lv_at hl 2 rfl) ?_
      have hFc := freeW hD hS hA
      refine va_calli (va_runV (C := R_X) (As := [.long t]) (rest := []) ⟨hx, hb, hml, hown, ht⟩ (c_X_pass l t D g cs n now ad K E P T V F U M X rk wy ps rg rs hn _) (cV_ 1 ht tk_151 tk_148 tk_1 tk_150 ts_X_pass hd_X_pass ⟨Nat.le_of_ble_eq_true rfl, Nat.le_of_ble_eq_true rfl⟩) ⟨fun _ _ _ _ q => ⟨q.1, q.2.1, q.2.2.1, KK.call q.2.2.2.1, q.2.2.2.2⟩, va_recv (ci := 3) (q0 := 0) hK hP rfl rfl, fun U hU hW => ⟨rfl, by rw [hU], by rw [hU]; exact hP, KK.warm hK hN hW, hD.weaken (fun _ _ _ _ => trivial)⟩⟩ rfl rfl hl.1 rfl (lv_room (Nat.le_of_ble_eq_true rfl)) d_X_withdraw_24 ⟨Nat.le_of_ble_eq_true rfl, Nat.le_of_ble_eq_true rfl⟩) hS (fun q _ h => hFc q h) hFc (fun r_7 u_9 t1 H locs ht1 hvm hw_8 hB hz1 hkp hS => ?_)
      obtain ⟨hP, hD⟩ := hB
      rw [ht1] at hP
      have hD := hD.weaken (fun k q _ h => hFc q.1 h)
      refine lv_pop hx hb d_X_withdraw_27 rfl ?_
      have hok := c_3
      obtain ⟨k, hk1, hk2, rfl⟩ := ordk_of hok
      refine lv_aload_n hx hb d_X_withdraw_28 rfl (lv_at hl 0 rfl) ?_
      refine va_get (D := D) (ci := 3) (C := R_X) (T := F_X) (N := 8) (v := .ref (g 1)) hx hb ht i_X hown hK hP 0 rfl rfl 0 (by decide) (ht _ tk_19) (fun _ h9 => h9) rfl d_X_withdraw_29 ?_
      refine lv_iload_n hx hb d_X_withdraw_32 rfl (lv_at hl 1 rfl) ?_
      refine x_ald hx hb hK hP hk1 hk2 hn d_X_withdraw_33 ?_
      have hPo_12 := hP.one (cW_at (k := k) hk1 hk2)
      refine vp_callSi (va_runU (C := C_o (cx (K k))) (As := []) (rest := []) ⟨hx, hb, hml, hown, ht⟩ (c_O_isOver l (K k) (E k) (P k) (F k) (U k) (M k) (V k) ((psX (qC V M X t) (yC M) X n) k) (T k)  (cx (K k)) (cx_lt _) D cs (ad k)) (cU_ 0 ht tk_165 tk_168 tk_3 tk_160 tk_161 (se_O_isOver (cx_lt _)) (va_Decl.of (ht _ tk_160) (ht _ tk_165)) hd_O_isOver.2.2 ⟨Nat.le_of_ble_eq_true rfl, Nat.le_of_ble_eq_true rfl⟩) ⟨fun _ _ _ _ q => ⟨q.1, q.2.1, KK.call q.2.2⟩, va_recv (q0 := (5 + k)) hK hP (cl_o (cx_lt _)) (cW_at (k := k) hk1 hk2), fun U hU hW => ⟨rfl, by rw [hU]; exact hPo_12, KK.warm hK hN hW⟩⟩ rfl rfl hl.1 rfl (lv_room (Nat.le_of_ble_eq_true rfl)) d_X_withdraw_34 ⟨Nat.le_of_ble_eq_true rfl, Nat.le_of_ble_eq_true rfl⟩).run (fun r_10 hw_11 => ?_)
      refine lv_if_eq (tgt := 45) hx hb d_X_withdraw_37 (by decide) (fun c_13 => ?_) (fun c_13 => ?_)
      · have c_13 := bl_f hw_11 c_13
        refine lv_aload_n hx hb d_X_withdraw_45 rfl (lv_at hl 0 rfl) ?_
        refine va_get (D := D) (ci := 3) (C := R_X) (T := F_X) (N := 8) (v := .ref (g 1)) hx hb ht i_X hown hK hP 0 rfl rfl 0 (by decide) (ht _ tk_19) (fun _ h9 => h9) rfl d_X_withdraw_46 ?_
        refine lv_iload_n hx hb d_X_withdraw_49 rfl (lv_at hl 1 rfl) ?_
        refine x_ald hx hb hK hP hk1 hk2 hn d_X_withdraw_50 ?_
        refine lv_lload_n hx hb d_X_withdraw_51 rfl (lv_at hl 2 rfl) ?_
        have hPo := hP.one (cW_at (k := k) hk1 hk2)
        have hFc := free1 hD hS hA (cW_at (k := k) hk1 hk2)
        refine va_calli (va_runU (C := C_o (cx (K k))) (As := [.long t]) (rest := []) ⟨hx, hb, hml, hown, ht⟩ (c_O_cut l (K k) (E k) (P k) (F k) (U k) (M k) (V k) ((psX (qC V M X t) (yC M) X n) k) (T k) t (cx (K k)) (cx_lt _) D cs (ad k) _) (cU_ 1 ht tk_179 tk_173 tk_3 tk_174 tk_175 (se_O_cut (cx_lt _)) (va_Decl.of (ht _ tk_174) (ht _ tk_179)) hd_O_cut.2.2 ⟨Nat.le_of_ble_eq_true rfl, Nat.le_of_ble_eq_true rfl⟩) ⟨fun _ _ _ _ q => ⟨q.1, q.2.1, q.2.2.1, KK.call q.2.2.2.1, q.2.2.2.2⟩, va_recv (q0 := (5 + k)) hK hP (cl_o (cx_lt _)) (cW_at (k := k) hk1 hk2), fun U0 hU hW => ⟨rfl, by rw [hU], by rw [hU]; exact hPo, KK.warm hK hN hW, va_D.one trivial⟩⟩ rfl rfl hl.1 rfl (lv_room (Nat.le_of_ble_eq_true rfl)) d_X_withdraw_52 ⟨Nat.le_of_ble_eq_true rfl, Nat.le_of_ble_eq_true rfl⟩) hS (fun q _ h => hFc q h) hFc (fun r_14 u_16 t1 H locs ht1 hvm hw_15 hB hz1 hkp hS => ?_)
        obtain ⟨hP1, hD1⟩ := hB
        rw [ht1] at hP1
        obtain ⟨hP, hD⟩ := jn1 hP hD (cW_at (k := k) hk1 hk2) hkp hP1
        have hP : va_P D classes (cW g cs n t ad K E P T V F U M (vp_updL (psX (qC V M X t) (yC M) X n) k t) rk wy ps rg rs) H := (cW_setX (n := n) (k := k) hk1 hk2 _) ▸ hP
        have hD : va_D A (cW g cs n t ad K E P T V F U M (vp_updL (psX (qC V M X t) (yC M) X n) k t) rk wy ps rg rs) := (cW_setX (n := n) (k := k) hk1 hk2 _) ▸ hD
        exact W.iret (v := r_14) hx hb hr (fun t9 ht9 hW => ⟨⟨r_14, (t, vp_updL (Xp n V M X t) k t), rfl, Or.inr (Or.inr ⟨k, hk1, hk2, rfl, c_6, Or.inr ⟨c_13, hw_15, rfl⟩⟩), by rw [ht9]; exact hP, hD⟩, hS.F ht9⟩) hS.2.2 d_X_withdraw_55
      · have c_13 := bl_t hw_11 c_13
        refine lv_bipush (v := (-103)) hx hb d_X_withdraw_40 (by decide) ?_
        refine lv_goto (tgt := 55) hx hb d_X_withdraw_42 (by decide) ?_
        exact W.iret (v := (-103)) hx hb hr (fun t9 ht9 hW => ⟨⟨(-103), (t, Xp n V M X t), rfl, Or.inr (Or.inr ⟨k, hk1, hk2, rfl, c_6, Or.inl ⟨c_13, rfl, rfl⟩⟩), by rw [ht9]; exact hP, hD⟩, hS.F ht9⟩) hS.2.2 d_X_withdraw_55
    · have c_6 := bl_t hw_5 c_6
      refine lv_bipush (v := (-102)) hx hb d_X_withdraw_19 (by decide) ?_
      exact W.iret (v := (-102)) hx hb hr (fun t9 ht9 hW => ⟨⟨(-102), (now, X), rfl, Or.inr (Or.inl ⟨c_3, c_6, rfl, rfl⟩), by rw [ht9]; exact hP, hD⟩, hS.F ht9⟩) hS.2.2 d_X_withdraw_21
  · have c_3 := bl_f hw_2 c_3
    refine lv_bipush (v := (-101)) hx hb d_X_withdraw_8 (by decide) ?_
    exact W.iret (v := (-101)) hx hb hr (fun t9 ht9 hW => ⟨⟨(-101), (now, X), rfl, Or.inl ⟨c_3, rfl, rfl⟩, by rw [ht9]; exact hP, hD⟩, hS.F ht9⟩) hS.2.2 d_X_withdraw_10
abbrev QextC (n : Nat) (U X : Nat → Int64) (o : Int32) (t : Int64) (r : Int32) (u : Nat → Int64) : Prop :=
  (¬ okO n o ∧ r = -101 ∧ u = U) ∨ (okO n o ∧ badD 0 t ∧ r = -102 ∧ u = U) ∨
  (∃ k, 1 ≤ k ∧ k ≤ n ∧ o = nI k ∧ ¬ badD 0 t ∧
    ((¬ 1000000 ≤ X k ∧ r = -103 ∧ u = U) ∨ (¬ ¬ 1000000 ≤ X k ∧ U k < t ∧ r = 1 ∧ u = vp_updL U k t) ∨ (¬ ¬ 1000000 ≤ X k ∧ ¬ U k < t ∧ r = 0 ∧ u = U)))
set_option maxHeartbeats 4000000 in
set_option maxRecDepth 100000 in
/-- extend(o, t) -/
theorem c_X_extend (l : Launch) (o : Int32) (t : Int64) (D : va_G) (g cs : Nat → Nat) (n : Nat) (now : Int64) (ad : Nat → Nat) (K E P T V : Nat → Int32) (F U M X : Nat → Int64) (rk wy ps rg : Nat → Int32) (rs : Int32) (hn : n ≤ 200) (sz : Nat) : Met l y_X_extend (Cond.code y_X_extend b_X_extend 5 (some .int) :: wt) ({ frames := 1, cells := 0, slots := 0, locals := 25 }) (va_Pc [.ref (g 0), .int o, .long t] (fun S0 => S0.heap.size = sz ∧ va_P D classes (cW g cs n now ad K E P T V F U M X rk wy ps rg rs) S0.heap ∧ KK D cs S0 ∧ va_D (fun _ => True) (cW g cs n now ad K E P T V F U M X rk wy ps rg rs))) (va_Qi (fun r u => QextC n U X o t r u) (fun (u : Nat → Int64) S1 => va_P D classes (cW g cs n now ad K E P T V F u M X rk wy ps rg rs) S1.heap ∧ va_D (va_A (cW g cs n now ad K E P T V F U M X rk wy ps rg rs) sz) (cW g cs n now ad K E P T V F u M X rk wy ps rg rs)) (va_A (cW g cs n now ad K E P T V F U M X rk wy ps rg rs) sz)) 0 0 (va_A (cW g cs n now ad K E P T V F U M X rk wy ps rg rs) sz) := by
  refine Met.ofW (cc := b_X_extend) (maxL := 5) (ret := (some .int)) (by decide) rfl ?_
  intro p e s m args below meth c s₁ B hml hv
  obtain ⟨rfl, hsz, hP, ⟨hK, hN⟩, hD0⟩ := hv
  have hx := B.exec
  have hb := B.bytes
  have hr := B.returns
  have ht : ∀ w ∈ wt, w.before _ s = true := fun w h => atoms_spec (ws := _ :: wt) B.pre w (List.mem_cons_of_mem _ h)
  have hown : s.vm.findClass R_X = some m.cls := findClass_of_methodNamed B.named
  have hlocks := B.notSynchronized
  subst hsz
  have hD := hD0.self (sz := s.heap.size)
  generalize hAe : va_A (cW g cs n now ad K E P T V F U M X rk wy ps rg rs) s.heap.size = A at hD ⊢
  have hA : ∀ q : Nat, s.heap.size ≤ q → A q := fun q h => by rw [← hAe]; exact Or.inr h
  have hS : va_S A s.heap s.heap [] := va_S.rf
  have hl := lv_entry ([.ref (g 0), .int o, .long t]) (n := 5) (Nat.le_of_ble_eq_true rfl)
  rw [lg_entry_eq]
  generalize (lg_sl ([.ref (g 0), .int o, .long t]) ++ List.replicate (5 - (lg_sl ([.ref (g 0), .int o, .long t])).length) Slot.unset).toArray = ls at hl ⊢
  have hl : lv_has ls 5 [(0, .ref (g 0)), (1, .int o), (2, .long t)] := hl
  refine lv_aload_n hx hb d_X_extend_0 rfl (lv_at hl 0 rfl) ?_
  refine lv_iload_n hx hb d_X_extend_1 rfl (lv_at hl 1 rfl) ?_
  refine vp_callSi (W.runV (C := R_X) (As := [.int o]) (rest := []) ⟨hx, hb, hml, hown, ht⟩ (c_X_isOrder l o D g cs n now ad K E P T V F U M X rk wy ps rg rs ) (cV_ 1 ht tk_143 tk_140 tk_1 tk_142 ts_X_isOrder hd_X_isOrder ⟨Nat.le_of_ble_eq_true rfl, Nat.le_of_ble_eq_true rfl⟩) ⟨fun _ _ _ _ q => ⟨q.1, q.2.1, KK.call q.2.2⟩, va_recv (ci := 3) (q0 := 0) hK hP rfl rfl, fun U hU hW => ⟨rfl, by rw [hU]; exact hP, KK.warm hK hN hW⟩⟩ rfl rfl hl.1 rfl (lv_room (Nat.le_of_ble_eq_true rfl)) d_X_extend_2 ⟨Nat.le_of_ble_eq_true rfl, Nat.le_of_ble_eq_true rfl⟩) (fun r_1 hw_2 => ?_)
  refine lv_if_ne (tgt := 11) hx hb d_X_extend_5 (by decide) (fun c_3 => ?_) (fun c_3 => ?_)
  · have c_3 := bl_t hw_2 c_3
    refine lv_lload_n hx hb d_X_extend_11 rfl (lv_at hl 2 rfl) ?_
    refine lv_lconst (v := 0) hx hb d_X_extend_12 (by decide) ?_
    refine lv_ldc2 (v := 20000) hx hb hown (ht _ tk_61) d_X_extend_13 ?_
    refine vp_callSi (W.runS (As := [.long t, .long 0, .long 20000]) (rest := []) ⟨hx, hb, hml, hown, ht⟩ (c_X_outside l t 0 20000) (cS_ 3 ht tk_60 tk_58 tk_1 tk_59 hd_X_outside ⟨Nat.le_of_ble_eq_true rfl, Nat.le_of_ble_eq_true rfl⟩) ⟨fun _ _ _ _ q => q, fun _ _ _ => ⟨rfl, trivial⟩⟩ rfl rfl hl.1 rfl (lv_room (Nat.le_of_ble_eq_true rfl)) d_X_extend_16 ⟨Nat.le_of_ble_eq_true rfl, Nat.le_of_ble_eq_true rfl⟩) (fun r_4 hw_5 => ?_)
    refine lv_if_eq (tgt := 25) hx hb d_X_extend_19 (by decide) (fun c_6 => ?_) (fun c_6 => ?_)
    · have c_6 := bl_f hw_5 c_6
      have hok := c_3
      obtain ⟨k, hk1, hk2, rfl⟩ := ordk_of hok
      refine lv_aload_n hx hb d_X_extend_25 rfl (lv_at hl 0 rfl) ?_
      refine va_get (D := D) (ci := 3) (C := R_X) (T := F_X) (N := 8) (v := .ref (g 1)) hx hb ht i_X hown hK hP 0 rfl rfl 0 (by decide) (ht _ tk_19) (fun _ h9 => h9) rfl d_X_extend_26 ?_
      refine lv_iload_n hx hb d_X_extend_29 rfl (lv_at hl 1 rfl) ?_
      refine x_ald hx hb hK hP hk1 hk2 hn d_X_extend_30 ?_
      refine lv_astore (lv' := [(4, .ref (ad k)), (0, .ref (g 0)), (1, .int (nI k)), (2, .long t)]) hx hb d_X_extend_31 hl (by decide) rfl (fun ls hl => ?_)
      refine lv_aload hx hb d_X_extend_33 (lv_at hl 0 rfl) ?_
      have hPo_9 := hP.one (cW_at (k := k) hk1 hk2)
      refine vp_callSi (va_runU (C := C_o (cx (K k))) (As := []) (rest := []) ⟨hx, hb, hml, hown, ht⟩ (c_O_isOver l (K k) (E k) (P k) (F k) (U k) (M k) (V k) (X k) (T k)  (cx (K k)) (cx_lt _) D cs (ad k)) (cU_ 0 ht tk_165 tk_168 tk_3 tk_160 tk_161 (se_O_isOver (cx_lt _)) (va_Decl.of (ht _ tk_160) (ht _ tk_165)) hd_O_isOver.2.2 ⟨Nat.le_of_ble_eq_true rfl, Nat.le_of_ble_eq_true rfl⟩) ⟨fun _ _ _ _ q => ⟨q.1, q.2.1, KK.call q.2.2⟩, va_recv (q0 := (5 + k)) hK hP (cl_o (cx_lt _)) (cW_at (k := k) hk1 hk2), fun U hU hW => ⟨rfl, by rw [hU]; exact hPo_9, KK.warm hK hN hW⟩⟩ rfl rfl hl.1 rfl (lv_room (Nat.le_of_ble_eq_true rfl)) d_X_extend_35 ⟨Nat.le_of_ble_eq_true rfl, Nat.le_of_ble_eq_true rfl⟩).run (fun r_7 hw_8 => ?_)
      refine lv_if_eq (tgt := 44) hx hb d_X_extend_38 (by decide) (fun c_10 => ?_) (fun c_10 => ?_)
      · have c_10 := bl_f hw_8 c_10
        refine lv_lload_n hx hb d_X_extend_44 rfl (lv_at hl 3 rfl) ?_
        refine lv_aload hx hb d_X_extend_45 (lv_at hl 0 rfl) ?_
        refine va_getN (D := D) (ci := cx (K k)) (C := C_o (cx (K k))) (T := F_O) (N := N_o (cx (K k))) (v := .long (U k)) hx hb ht (i_o (cx_lt _)) hown hK hP (5 + k) (cW_at (k := k) hk1 hk2) (cl_o (cx_lt _)) 4 (n_o (by decide)) (Nx_80 hN) (fun _ h9 => h9) rfl d_X_extend_47 ?_
        refine lc_gt (tgt := 56) hx hb d_X_extend_50 d_X_extend_51 (by decide) (fun c_11 => ?_) (fun c_11 => ?_)
        · refine lv_aload hx hb d_X_extend_56 (lv_at hl 0 rfl) ?_
          refine lv_lload_n hx hb d_X_extend_58 rfl (lv_at hl 3 rfl) ?_
          refine va_putN (D := D) (ci := cx (K k)) (C := C_o (cx (K k))) (T := F_O) (N := N_o (cx (K k))) (v := .long t) (ty := .long) hx hb ht (i_o (cx_lt _)) t_O ty_o nm_o hown hK hP hD hS (5 + k) (cW_at (k := k) hk1 hk2) (cl_o (cx_lt _)) 4 (n_o (by decide)) (Nx_80 hN) (fun _ h9 => h9) rfl (by decide +kernel) rfl rfl (oF_len (by decide)) d_X_extend_59 (fun H locs hP hD hS => ?_)
          have hP : va_P D classes (cW g cs n now ad K E P T V F (vp_updL U k t) M X rk wy ps rg rs) H := (cW_setU (n := n) (k := k) hk1 hk2 _) ▸ hP
          have hD : va_D A (cW g cs n now ad K E P T V F (vp_updL U k t) M X rk wy ps rg rs) := (cW_setU (n := n) (k := k) hk1 hk2 _) ▸ hD
          refine lv_iconst (v := 1) hx hb d_X_extend_62 (by decide) ?_
          exact W.iret (v := 1) hx hb hr (fun t9 ht9 hW => ⟨⟨1, vp_updL U k t, rfl, Or.inr (Or.inr ⟨k, hk1, hk2, rfl, c_6, Or.inr (Or.inl ⟨c_10, c_11, rfl, rfl⟩)⟩), by rw [ht9]; exact hP, hD⟩, hS.F ht9⟩) hS.2.2 d_X_extend_63
        · refine lv_iconst (v := 0) hx hb d_X_extend_54 (by decide) ?_
          exact W.iret (v := 0) hx hb hr (fun t9 ht9 hW => ⟨⟨0, U, rfl, Or.inr (Or.inr ⟨k, hk1, hk2, rfl, c_6, Or.inr (Or.inr ⟨c_10, c_11, rfl, rfl⟩)⟩), by rw [ht9]; exact hP, hD⟩, hS.F ht9⟩) hS.2.2 d_X_extend_55
      · have c_10 := bl_t hw_8 c_10
        refine lv_bipush (v := (-103)) hx hb d_X_extend_41 (by decide) ?_
        exact W.iret (v := (-103)) hx hb hr (fun t9 ht9 hW => ⟨⟨(-103), U, rfl, Or.inr (Or.inr ⟨k, hk1, hk2, rfl, c_6, Or.inl ⟨c_10, rfl, rfl⟩⟩), by rw [ht9]; exact hP, hD⟩, hS.F ht9⟩) hS.2.2 d_X_extend_43
    · have c_6 := bl_t hw_5 c_6
      refine lv_bipush (v := (-102)) hx hb d_X_extend_22 (by decide) ?_
      exact W.iret (v := (-102)) hx hb hr (fun t9 ht9 hW => ⟨⟨(-102), U, rfl, Or.inr (Or.inl ⟨c_3, c_6, rfl, rfl⟩), by rw [ht9]; exact hP, hD⟩, hS.F ht9⟩) hS.2.2 d_X_extend_24
  · have c_3 := bl_f hw_2 c_3
    refine lv_bipush (v := (-101)) hx hb d_X_extend_8 (by decide) ?_
    exact W.iret (v := (-101)) hx hb hr (fun t9 ht9 hW => ⟨⟨(-101), U, rfl, Or.inl ⟨c_3, rfl, rfl⟩, by rw [ht9]; exact hP, hD⟩, hS.F ht9⟩) hS.2.2 d_X_extend_10
abbrev QrankC (rk : Nat → Int32) (o x r : Int32) (u : Nat → Int32) : Prop :=
  (¬ (¬ o < 0 ∧ ¬ 9 ≤ o) ∧ r = -102 ∧ u = rk) ∨ ((¬ o < 0 ∧ ¬ 9 ≤ o) ∧ (x.toInt64 < 0 ∨ ¬ x.toInt64 ≤ 100) ∧ r = -102 ∧ u = rk) ∨
  (∃ k, k < 9 ∧ o = nI k ∧ ¬ (x.toInt64 < 0 ∨ ¬ x.toInt64 ≤ 100) ∧ r = rk k ∧ u = upd rk k x)
set_option maxHeartbeats 4000000 in
set_option maxRecDepth 100000 in
/-- rank(kind, r) -/
theorem c_X_rank (l : Launch) (o : Int32) (x : Int32) (D : va_G) (g cs : Nat → Nat) (n : Nat) (now : Int64) (ad : Nat → Nat) (K E P T V : Nat → Int32) (F U M X : Nat → Int64) (rk wy ps rg : Nat → Int32) (rs : Int32)  (sz : Nat) : Met l y_X_rank (Cond.code y_X_rank b_X_rank 4 (some .int) :: wt) ({ frames := 1, cells := 0, slots := 0, locals := 25 }) (va_Pc [.ref (g 0), .int o, .int x] (fun S0 => S0.heap.size = sz ∧ va_P D classes (cW g cs n now ad K E P T V F U M X rk wy ps rg rs) S0.heap ∧ KK D cs S0 ∧ va_D (fun _ => True) (cW g cs n now ad K E P T V F U M X rk wy ps rg rs))) (va_Qi (fun r u => QrankC rk o x r u) (fun (u : Nat → Int32) S1 => va_P D classes (cW g cs n now ad K E P T V F U M X u wy ps rg rs) S1.heap ∧ va_D (va_A (cW g cs n now ad K E P T V F U M X rk wy ps rg rs) sz) (cW g cs n now ad K E P T V F U M X u wy ps rg rs)) (va_A (cW g cs n now ad K E P T V F U M X rk wy ps rg rs) sz)) 0 0 (va_A (cW g cs n now ad K E P T V F U M X rk wy ps rg rs) sz) := by
  refine Met.ofW (cc := b_X_rank) (maxL := 4) (ret := (some .int)) (by decide) rfl ?_
  intro p e s m args below meth c s₁ B hml hv
  obtain ⟨rfl, hsz, hP, ⟨hK, hN⟩, hD0⟩ := hv
  have hx := B.exec
  have hb := B.bytes
  have hr := B.returns
  have ht : ∀ w ∈ wt, w.before _ s = true := fun w h => atoms_spec (ws := _ :: wt) B.pre w (List.mem_cons_of_mem _ h)
  have hown : s.vm.findClass R_X = some m.cls := findClass_of_methodNamed B.named
  have hlocks := B.notSynchronized
  subst hsz
  have hD := hD0.self (sz := s.heap.size)
  generalize hAe : va_A (cW g cs n now ad K E P T V F U M X rk wy ps rg rs) s.heap.size = A at hD ⊢
  have hA : ∀ q : Nat, s.heap.size ≤ q → A q := fun q h => by rw [← hAe]; exact Or.inr h
  have hS : va_S A s.heap s.heap [] := va_S.rf
  have hl := lv_entry ([.ref (g 0), .int o, .int x]) (n := 4) (Nat.le_of_ble_eq_true rfl)
  rw [lg_entry_eq]
  generalize (lg_sl ([.ref (g 0), .int o, .int x]) ++ List.replicate (4 - (lg_sl ([.ref (g 0), .int o, .int x])).length) Slot.unset).toArray = ls at hl ⊢
  have hl : lv_has ls 4 [(0, .ref (g 0)), (1, .int o), (2, .int x)] := hl
  refine lv_iload_n hx hb d_X_rank_0 rfl (lv_at hl 1 rfl) ?_
  refine vp_callSi (W.runS (As := [.int o]) (rest := []) ⟨hx, hb, hml, hown, ht⟩ (c_X_isKind l o) (cS_ 1 ht tk_52 tk_50 tk_1 tk_51 hd_X_isKind ⟨Nat.le_of_ble_eq_true rfl, Nat.le_of_ble_eq_true rfl⟩) ⟨fun _ _ _ _ q => q, fun _ _ _ => ⟨rfl, trivial⟩⟩ rfl rfl hl.1 rfl (lv_room (Nat.le_of_ble_eq_true rfl)) d_X_rank_1 ⟨Nat.le_of_ble_eq_true rfl, Nat.le_of_ble_eq_true rfl⟩) (fun r_1 hw_2 => ?_)
  refine lv_if_eq (tgt := 19) hx hb d_X_rank_4 (by decide) (fun c_3 => ?_) (fun c_3 => ?_)
  · have c_3 := bl_f hw_2 c_3
    refine lv_bipush (v := (-102)) hx hb d_X_rank_19 (by decide) ?_
    exact W.iret (v := (-102)) hx hb hr (fun t9 ht9 hW => ⟨⟨(-102), rk, rfl, Or.inl ⟨c_3, rfl, rfl⟩, by rw [ht9]; exact hP, hD⟩, hS.F ht9⟩) hS.2.2 d_X_rank_21
  · have c_3 := bl_t hw_2 c_3
    refine lv_iload_n hx hb d_X_rank_7 rfl (lv_at hl 2 rfl) ?_
    refine lv_i2l (v := x.toInt64) hx hb d_X_rank_8 rfl ?_
    refine lv_lconst (v := 0) hx hb d_X_rank_9 (by decide) ?_
    refine lv_ldc2 (v := 100) hx hb hown (ht _ tk_245) d_X_rank_10 ?_
    refine vp_callSi (W.runS (As := [.long x.toInt64, .long 0, .long 100]) (rest := []) ⟨hx, hb, hml, hown, ht⟩ (c_X_outside l x.toInt64 0 100) (cS_ 3 ht tk_60 tk_58 tk_1 tk_59 hd_X_outside ⟨Nat.le_of_ble_eq_true rfl, Nat.le_of_ble_eq_true rfl⟩) ⟨fun _ _ _ _ q => q, fun _ _ _ => ⟨rfl, trivial⟩⟩ rfl rfl hl.1 rfl (lv_room (Nat.le_of_ble_eq_true rfl)) d_X_rank_13 ⟨Nat.le_of_ble_eq_true rfl, Nat.le_of_ble_eq_true rfl⟩) (fun r_4 hw_5 => ?_)
    refine lv_if_eq (tgt := 22) hx hb d_X_rank_16 (by decide) (fun c_6 => ?_) (fun c_6 => ?_)
    · have c_6 := bl_f hw_5 c_6
      obtain ⟨k, hk1, rfl⟩ := kind_of c_3
      refine lv_aload_n hx hb d_X_rank_22 rfl (lv_at hl 0 rfl) ?_
      refine va_get (D := D) (ci := 3) (C := R_X) (T := F_X) (N := 8) (v := .ref (g 2)) hx hb ht i_X hown hK hP 0 rfl rfl 2 (by decide) (ht _ tk_21) (fun _ h9 => h9) rfl d_X_rank_23 ?_
      refine lv_iload_n hx hb d_X_rank_26 rfl (lv_at hl 1 rfl) ?_
      refine vi_iald (k := k) (f := rk) hx hb hK hP 2 0 rfl rfl (by omega) (by omega) d_X_rank_27 ?_
      refine lv_istore_n (lv' := [(3, .int (rk k)), (0, .ref (g 0)), (1, .int (nI k)), (2, .int x)]) hx hb d_X_rank_28 rfl hl (by decide) rfl (fun ls hl => ?_)
      refine lv_aload_n hx hb d_X_rank_29 rfl (lv_at hl 1 rfl) ?_
      refine va_get (D := D) (ci := 3) (C := R_X) (T := F_X) (N := 8) (v := .ref (g 2)) hx hb ht i_X hown hK hP 0 rfl rfl 2 (by decide) (ht _ tk_21) (fun _ h9 => h9) rfl d_X_rank_30 ?_
      refine lv_iload_n hx hb d_X_rank_33 rfl (lv_at hl 2 rfl) ?_
      refine lv_iload_n hx hb d_X_rank_34 rfl (lv_at hl 3 rfl) ?_
      refine vi_iast (k := k) (f := rk) (x := x) hx hb hK hP hD hS 2 0 rfl rfl (by omega) (by omega) d_X_rank_35 (fun H locs hP hD hS => ?_)
      have hP : va_P D classes (cW g cs n now ad K E P T V F U M X (upd rk k x) wy ps rg rs) H := hP
      have hD : va_D A (cW g cs n now ad K E P T V F U M X (upd rk k x) wy ps rg rs) := hD
      refine lv_iload_n hx hb d_X_rank_36 rfl (lv_at hl 0 rfl) ?_
      exact W.iret (v := rk k) hx hb hr (fun t9 ht9 hW => ⟨⟨rk k, upd rk k x, rfl, Or.inr (Or.inr ⟨k, hk1, rfl, c_6, rfl, rfl⟩), by rw [ht9]; exact hP, hD⟩, hS.F ht9⟩) hS.2.2 d_X_rank_37
    · have c_6 := bl_t hw_5 c_6
      refine lv_bipush (v := (-102)) hx hb d_X_rank_19 (by decide) ?_
      exact W.iret (v := (-102)) hx hb hr (fun t9 ht9 hW => ⟨⟨(-102), rk, rfl, Or.inr (Or.inl ⟨c_3, c_6, rfl, rfl⟩), by rw [ht9]; exact hP, hD⟩, hS.F ht9⟩) hS.2.2 d_X_rank_21
set_option maxHeartbeats 4000000 in
set_option maxRecDepth 100000 in
/-- ring(i) -/
theorem c_X_ring (l : Launch) (i : Int32) (D : va_G) (g cs : Nat → Nat) (n : Nat) (now : Int64) (ad : Nat → Nat) (K E P T V : Nat → Int32) (F U M X : Nat → Int64) (rk wy ps rg : Nat → Int32) (rs : Int32) (q : Nat) (hq : rs = nI q) (hq2 : q ≤ 100) : Met l y_X_ring (Cond.code y_X_ring b_X_ring 2 (some .int) :: wt) ({ frames := 0, cells := 0, slots := 0, locals := 0 }) (va_Pc [.ref (g 0), .int i] (fun S0 => va_P D classes (cW g cs n now ad K E P T V F U M X rk wy ps rg rs) S0.heap ∧ KK D cs S0)) (vp_Si (fun r => ((i < 0 ∨ rs ≤ i) ∧ r = 0) ∨ (¬ i < 0 ∧ ¬ rs ≤ i ∧ r = rg i.toNatClampNeg))) 0 0 (fun _ => False) := by
  refine Met.ofW (cc := b_X_ring) (maxL := 2) (ret := (some .int)) (by decide) rfl ?_
  intro p e s m args below meth c s₁ B hml hv
  obtain ⟨rfl, hP, hK, hN⟩ := hv
  have hx := B.exec
  have hb := B.bytes
  have hr := B.returns
  have ht : ∀ w ∈ wt, w.before _ s = true := fun w h => atoms_spec (ws := _ :: wt) B.pre w (List.mem_cons_of_mem _ h)
  have hown : s.vm.findClass R_X = some m.cls := findClass_of_methodNamed B.named
  have hlocks := B.notSynchronized
  have hl := lv_entry ([.ref (g 0), .int i]) (n := 2) (Nat.le_of_ble_eq_true rfl)
  rw [lg_entry_eq]
  generalize (lg_sl ([.ref (g 0), .int i]) ++ List.replicate (2 - (lg_sl ([.ref (g 0), .int i])).length) Slot.unset).toArray = ls at hl ⊢
  have hl : lv_has ls 2 [(0, .ref (g 0)), (1, .int i)] := hl
  refine lv_iload_n hx hb d_X_ring_0 rfl (lv_at hl 1 rfl) ?_
  refine lv_if_lt (tgt := 21) hx hb d_X_ring_1 (by decide) (fun c_1 => ?_) (fun c_1 => ?_)
  · refine lv_iconst (v := 0) hx hb d_X_ring_21 (by decide) ?_
    exact W.iret (v := 0) hx hb hr (fun t9 ht9 _ => ⟨0, rfl, Or.inl ⟨Or.inl c_1, rfl⟩, ht9⟩) (fun _ h9 => absurd h9 List.not_mem_nil) d_X_ring_22
  · refine lv_iload_n hx hb d_X_ring_4 rfl (lv_at hl 1 rfl) ?_
    refine lv_aload_n hx hb d_X_ring_5 rfl (lv_at hl 0 rfl) ?_
    refine va_get (D := D) (ci := 3) (C := R_X) (T := F_X) (N := 8) (v := .int rs) hx hb ht i_X hown hK hP 0 rfl rfl 7 (by decide) (ht _ tk_26) (fun _ h9 => h9) rfl d_X_ring_6 ?_
    refine lv_icmp_ge (tgt := 21) hx hb d_X_ring_9 (by decide) (fun c_2 => ?_) (fun c_2 => ?_)
    · refine lv_iconst (v := 0) hx hb d_X_ring_21 (by decide) ?_
      exact W.iret (v := 0) hx hb hr (fun t9 ht9 _ => ⟨0, rfl, Or.inl ⟨Or.inr c_2, rfl⟩, ht9⟩) (fun _ h9 => absurd h9 List.not_mem_nil) d_X_ring_22
    · refine lv_aload_n hx hb d_X_ring_12 rfl (lv_at hl 0 rfl) ?_
      refine va_get (D := D) (ci := 3) (C := R_X) (T := F_X) (N := 8) (v := .ref (g 5)) hx hb ht i_X hown hK hP 0 rfl rfl 6 (by decide) (ht _ tk_25) (fun _ h9 => h9) rfl d_X_ring_13 ?_
      refine lv_iload_n hx hb d_X_ring_16 rfl (lv_at hl 1 rfl) ?_
      refine va_iald (f := rg) hx hb hK hP 5 0 rfl rfl (vin_of hq hq2 (by omega) c_1 c_2) d_X_ring_17 ?_
      refine lv_goto (tgt := 22) hx hb d_X_ring_18 (by decide) ?_
      exact W.iret (v := rg i.toNatClampNeg) hx hb hr (fun t9 ht9 _ => ⟨rg i.toNatClampNeg, rfl, Or.inr ⟨c_1, c_2, rfl⟩, ht9⟩) (fun _ h9 => absurd h9 List.not_mem_nil) d_X_ring_22
end
section
/-- the last of the best among the first: 0 for none -/
def fdR (q : Nat → Bool) (rv : Nat → Int32) : Nat → Nat
  | 0 => 0
  | j + 1 => if q (j + 1) = true ∧ (fdR q rv j = 0 ∨ ¬ rv (j + 1) < rv (fdR q rv j)) then j + 1 else fdR q rv j
theorem fdR_le (q : Nat → Bool) (rv : Nat → Int32) : ∀ j, fdR q rv j ≤ j
  | 0 => Nat.le_refl 0
  | j + 1 => by
    have := fdR_le q rv j
    unfold fdR
    split <;> omega
theorem fdR_f {q : Nat → Bool} {rv : Nat → Int32} {j : Nat} (h : q (j + 1) = false) : fdR q rv (j + 1) = fdR q rv j := if_neg (fun c => by rw [h] at c; exact absurd c.1 (by decide))
theorem fdR_t {q : Nat → Bool} {rv : Nat → Int32} {j : Nat} (h : q (j + 1) = true) (g : fdR q rv j = 0 ∨ ¬ rv (j + 1) < rv (fdR q rv j)) : fdR q rv (j + 1) = j + 1 := if_pos ⟨h, g⟩
theorem fdR_n {q : Nat → Bool} {rv : Nat → Int32} {j : Nat} (h0 : ¬ fdR q rv j = 0) (g : rv (j + 1) < rv (fdR q rv j)) : fdR q rv (j + 1) = fdR q rv j := if_neg (fun c => by rcases c.2 with d | d <;> contradiction)
def ob (ad : Nat → Nat) (b : Nat) : Option Nat := if b = 0 then none else some (ad b)
theorem ob_0 {ad : Nat → Nat} {b : Nat} (h : b = 0) : va_rf (ob ad b) = .null := by rw [ob, if_pos h]; rfl
theorem ob_s {ad : Nat → Nat} {b : Nat} (h : ¬ b = 0) : va_rf (ob ad b) = .ref (ad b) := by rw [ob, if_neg h]; rfl
/-- the class: which orders are for an address, a person, a class, a day -/
def qF (K E P : Nat → Int32) (F U X : Nat → Int64) (a w c : Int32) (d : Int64) (k : Nat) : Bool := decide (E k = a ∧ (P k = -1 ∨ P k = w) ∧ K k - K k / 3 * 3 = c ∧ ¬ d < F k ∧ ¬ U k < d ∧ ¬ X k ≤ d)
def rvK (K rk : Nat → Int32) (k : Nat) : Int32 := rk (K k).toNatClampNeg
/-- the class: which orders are told of -/
def qT (K P T V : Nat → Int32) (F U X : Nat → Int64) (now : Int64) (sd : Int32) (k : Nat) : Bool := decide (P k = sd ∧ ¬ V k = 0 ∧ ¬ gt (cx (K k)) (T k) ≤ 0 ∧ ¬ now < F k ∧ ¬ U k < now ∧ ¬ X k ≤ now)
/-- the i-th of those that have it, counted from 0; 0 -/
def TD (q : Nat → Bool) (n : Nat) (i r : Int32) : Prop := (∃ j, j < n ∧ q (j + 1) = true ∧ nI (cnt q j) = i ∧ r = nI (j + 1)) ∨ ((∀ j, j < n → q (j + 1) = true → ¬ nI (cnt q j) = i) ∧ r = 0)
theorem cnt_le (q : Nat → Bool) : ∀ j, cnt q j ≤ j
  | 0 => Nat.le_refl 0
  | j + 1 => by
    have := cnt_le q j
    unfold cnt
    split <;> omega
theorem sub0 {i x : Int32} : i - x = 0 ↔ x = i := by
  constructor
  · intro h
    have e : i - x + x = 0 + x := by rw [h]
    rw [Int32.sub_add_cancel, Int32.zero_add] at e
    exact e.symm
  · intro h
    rw [h, Int32.sub_self]
theorem sub1 {i : Int32} {a : Nat} : i - nI a + (-1) = i - nI (a + 1) := by
  rw [← nI_1, Int32.sub_eq_add_neg, Int32.sub_eq_add_neg, Int32.neg_add, Int32.add_assoc, Int32.sub_eq_add_neg]
theorem va_rf_cat (r : Option Nat) : (va_rf r).category = 1 := by cases r <;> rfl
set_option maxHeartbeats 4000000 in
set_option maxRecDepth 100000 in
/-- find(address, who, class, day) -/
theorem c_X_find (l : Launch) (a : Int32) (w : Int32) (cl : Int32) (d : Int64) (D : va_G) (g cs : Nat → Nat) (n : Nat) (now : Int64) (ad : Nat → Nat) (K E P T V : Nat → Int32) (F U M X : Nat → Int64) (rk wy ps rg : Nat → Int32) (rs : Int32) (hn : n ≤ 200) (hKr : ∀ k, 1 ≤ k → k ≤ n → vp_in (K k) 9) : Met l y_X_find (Cond.code y_X_find b_X_find 9 (some (.object "OrderRows2$Order")) :: wt) ({ frames := 2, cells := 0, slots := 0, locals := 47 }) (va_Pc [.ref (g 0), .int a, .int w, .int cl, .long d] (fun S0 => va_P D classes (cW g cs n now ad K E P T V F U M X rk wy ps rg rs) S0.heap ∧ KK D cs S0)) (va_Sq (fun r => r = ob ad (fdR (qF K E P F U X a w cl d) (rvK K rk) n))) 0 0 (fun _ => False) := by
  refine Met.ofW (cc := b_X_find) (maxL := 9) (ret := (some (.object "OrderRows2$Order"))) (by decide) rfl ?_
  intro p e s m args below meth c s₁ B hml hv
  obtain ⟨rfl, hP, hK, hN⟩ := hv
  have hx := B.exec
  have hb := B.bytes
  have hr := B.returns
  have ht : ∀ w ∈ wt, w.before _ s = true := fun w h => atoms_spec (ws := _ :: wt) B.pre w (List.mem_cons_of_mem _ h)
  have hown : s.vm.findClass R_X = some m.cls := findClass_of_methodNamed B.named
  have hlocks := B.notSynchronized
  have hl := lv_entry ([.ref (g 0), .int a, .int w, .int cl, .long d]) (n := 9) (Nat.le_of_ble_eq_true rfl)
  rw [lg_entry_eq]
  generalize (lg_sl ([.ref (g 0), .int a, .int w, .int cl, .long d]) ++ List.replicate (9 - (lg_sl ([.ref (g 0), .int a, .int w, .int cl, .long d])).length) Slot.unset).toArray = ls at hl ⊢
  have hl : lv_has ls 9 [(0, .ref (g 0)), (1, .int a), (2, .int w), (3, .int cl), (4, .long d)] := hl
  refine W.nameQ (fun Q hQe => ?_)
  refine lv_null hx hb d_X_find_0 ?_
  refine lv_astoreN (lv' := [(6, .null), (0, .ref (g 0)), (1, .int a), (2, .int w), (3, .int cl), (4, .long d)]) hx hb d_X_find_1 hl (by decide) rfl (fun ls hl => ?_)
  refine lv_iconst (v := 1) hx hb d_X_find_3 (by decide) ?_
  refine lv_istore (lv' := [(7, .int 1), (6, .null), (0, .ref (g 0)), (1, .int a), (2, .int w), (3, .int cl), (4, .long d)]) hx hb d_X_find_4 hl (by decide) rfl (fun ls hl => ?_)
  have loop : ∀ (z : Nat) (j : Nat) (ls : Array Slot), (j + z = n) → lv_has ls 9 [(6, va_rf (ob ad (fdR (qF K E P F U X a w cl d) (rvK K rk) j))), (7, .int (nI (j + 1))), (0, .ref (g 0)), (1, .int a), (2, .int w), (3, .int cl), (4, .long d)] → W p l e ({ frames := 2, cells := 0, slots := 0, locals := 47 } : Room) s m ([.ref (g 0), .int a, .int w, .int cl, .long d] : List Value).toArray below meth c s.heap [] 0 0 Q (F0 m 6 ls []) := by
    intro z
    induction z with
    | zero =>
      intro j ls hj hl
      refine lv_iload hx hb d_X_find_6 (lv_at hl 1 rfl) ?_
      refine lv_aload_n hx hb d_X_find_8 rfl (lv_at hl 2 rfl) ?_
      refine va_get (D := D) (ci := 3) (C := R_X) (T := F_X) (N := 8) (v := .int (nI n)) hx hb ht i_X hown hK hP 0 rfl rfl 1 (by decide) (ht _ tk_20) (fun _ h9 => h9) rfl d_X_find_9 ?_
      refine lv_icmp_gt (tgt := 75) hx hb d_X_find_12 (by decide) (fun c_1 => ?_) (fun c_1 => ?_)
      · have hjn : j = n := by omega
        rw [hjn] at hl
        by_cases hb0 : fdR (qF K E P F U X a w cl d) (rvK K rk) n = 0
        · have hl6 : ls[6]? = some (.val (.null)) := by have h6 := lv_at hl 0 rfl; rw [ob_0 hb0] at h6; exact h6
          refine lv_aloadN hx hb d_X_find_75 hl6 ?_
          rw [hQe]
          refine W.aret (rt := .object "OrderRows2$Order") hx hb hr (Or.inl ⟨_, rfl⟩) (Or.inl rfl) (fun t9 ht9 _ => ⟨ob ad (fdR (qF K E P F U X a w cl d) (rvK K rk) n), by rw [ob_0 hb0], rfl, ht9⟩) (fun _ h9 => absurd h9 List.not_mem_nil) d_X_find_77
        · have hl6 : ls[6]? = some (.val (.ref (ad (fdR (qF K E P F U X a w cl d) (rvK K rk) n)))) := by have h6 := lv_at hl 0 rfl; rw [ob_s hb0] at h6; exact h6
          refine lv_aload hx hb d_X_find_75 hl6 ?_
          rw [hQe]
          refine W.aret (rt := .object "OrderRows2$Order") hx hb hr (Or.inl ⟨_, rfl⟩) (Or.inr ⟨_, rfl⟩) (fun t9 ht9 _ => ⟨ob ad (fdR (qF K E P F U X a w cl d) (rvK K rk) n), by rw [ob_s hb0], rfl, ht9⟩) (fun _ h9 => absurd h9 List.not_mem_nil) d_X_find_77
      · exact absurd (nI_lt (by omega) (by omega)) c_1
    | succ z ih =>
      intro j ls hj hl
      refine lv_iload hx hb d_X_find_6 (lv_at hl 1 rfl) ?_
      refine lv_aload_n hx hb d_X_find_8 rfl (lv_at hl 2 rfl) ?_
      refine va_get (D := D) (ci := 3) (C := R_X) (T := F_X) (N := 8) (v := .int (nI n)) hx hb ht i_X hown hK hP 0 rfl rfl 1 (by decide) (ht _ tk_20) (fun _ h9 => h9) rfl d_X_find_9 ?_
      refine lv_icmp_gt (tgt := 75) hx hb d_X_find_12 (by decide) (fun c_2 => ?_) (fun c_2 => ?_)
      · exact absurd c_2 (nI_nlt (by omega) (by omega))
      · refine lv_aload_n hx hb d_X_find_15 rfl (lv_at hl 2 rfl) ?_
        refine va_get (D := D) (ci := 3) (C := R_X) (T := F_X) (N := 8) (v := .ref (g 1)) hx hb ht i_X hown hK hP 0 rfl rfl 0 (by decide) (ht _ tk_19) (fun _ h9 => h9) rfl d_X_find_16 ?_
        refine lv_iload hx hb d_X_find_19 (lv_at hl 1 rfl) ?_
        refine x_ald hx hb hK hP (by omega) (by omega) hn d_X_find_21 ?_
        refine lv_astore (lv' := [(8, .ref (ad (j + 1))), (6, va_rf (ob ad (fdR (qF K E P F U X a w cl d) (rvK K rk) j))), (7, .int (nI (j + 1))), (0, .ref (g 0)), (1, .int a), (2, .int w), (3, .int cl), (4, .long d)]) hx hb d_X_find_22 hl (by decide) rfl (fun ls hl => ?_)
        refine lv_aload hx hb d_X_find_24 (lv_at hl 0 rfl) ?_
        refine lv_iload_n hx hb d_X_find_26 rfl (lv_at hl 4 rfl) ?_
        refine lv_iload_n hx hb d_X_find_27 rfl (lv_at hl 5 rfl) ?_
        refine lv_iload_n hx hb d_X_find_28 rfl (lv_at hl 6 rfl) ?_
        refine lv_lload hx hb d_X_find_29 (lv_at hl 7 rfl) ?_
        have hPo_5 := hP.one (cW_at (k := j + 1) (by omega) (by omega))
        refine vp_callSi (va_runU (C := C_o (cx (K (j + 1)))) (As := [.int a, .int w, .int cl, .long d]) (rest := []) ⟨hx, hb, hml, hown, ht⟩ (c_O_isFor l (K (j + 1)) (E (j + 1)) (P (j + 1)) (F (j + 1)) (U (j + 1)) (M (j + 1)) (V (j + 1)) (X (j + 1)) (T (j + 1)) a w cl d (cx (K (j + 1))) (cx_lt _) D cs (ad (j + 1))) (cU_ 4 ht tk_202 tk_196 tk_3 tk_197 tk_198 (se_O_isFor (cx_lt _)) (va_Decl.of (ht _ tk_197) (ht _ tk_202)) hd_O_isFor.2.2 ⟨Nat.le_of_ble_eq_true rfl, Nat.le_of_ble_eq_true rfl⟩) ⟨fun _ _ _ _ q => ⟨q.1, q.2.1, KK.call q.2.2⟩, va_recv (q0 := (5 + (j + 1))) hK hP (cl_o (cx_lt _)) (cW_at (k := j + 1) (by omega) (by omega)), fun U hU hW => ⟨rfl, by rw [hU]; exact hPo_5, KK.warm hK hN hW⟩⟩ rfl rfl hl.1 rfl (lv_room (Nat.le_of_ble_eq_true rfl)) d_X_find_31 ⟨Nat.le_of_ble_eq_true rfl, Nat.le_of_ble_eq_true rfl⟩).run (fun r_3 hw_4 => ?_)
        refine lv_if_eq (tgt := 69) hx hb d_X_find_34 (by decide) (fun c_6 => ?_) (fun c_6 => ?_)
        · have c_6 := bl_f hw_4 c_6
          have c_6 : qF K E P F U X a w cl d (j + 1) = false := decide_eq_false c_6
          refine lv_iinc (v := nI (j + 2)) (lv' := [(7, .int (nI (j + 2))), (8, .ref (ad (j + 1))), (6, va_rf (ob ad (fdR (qF K E P F U X a w cl d) (rvK K rk) j))), (0, .ref (g 0)), (1, .int a), (2, .int w), (3, .int cl), (4, .long d)]) hx hb d_X_find_69 hl (k := 2) rfl (show nI (j + 1) + 1 = _ from nI_1 (j + 1)) (by decide) (by simp [List.filter, va_rf_cat]) (fun ls hl => ?_)
          refine lv_goto (tgt := 6) hx hb d_X_find_72 (by decide) ?_
          exact ih (j + 1) ls (by omega) (by rw [fdR_f c_6]; exact lv_sub hl [2, 0, 3, 4, 5, 6, 7] rfl)
        · have c_6 := bl_t hw_4 c_6
          have c_6 : qF K E P F U X a w cl d (j + 1) = true := decide_eq_true c_6
          by_cases hb0 : fdR (qF K E P F U X a w cl d) (rvK K rk) j = 0
          · have hl : lv_has ls 9 [(8, .ref (ad (j + 1))), (6, .null), (7, .int (nI (j + 1))), (0, .ref (g 0)), (1, .int a), (2, .int w), (3, .int cl), (4, .long d)] := by rw [ob_0 hb0] at hl; exact hl
            refine lv_aloadN hx hb d_X_find_37 (lv_at hl 1 rfl) ?_
            refine lv_ifnullN (tgt := 65) hx hb d_X_find_39 (by decide) ?_
            refine lv_aload hx hb d_X_find_65 (lv_at hl 0 rfl) ?_
            refine lv_astore (lv' := [(6, .ref (ad (j + 1))), (8, .ref (ad (j + 1))), (7, .int (nI (j + 1))), (0, .ref (g 0)), (1, .int a), (2, .int w), (3, .int cl), (4, .long d)]) hx hb d_X_find_67 hl (by decide) rfl (fun ls hl => ?_)
            refine lv_iinc (v := nI (j + 2)) (lv' := [(7, .int (nI (j + 2))), (6, .ref (ad (j + 1))), (8, .ref (ad (j + 1))), (0, .ref (g 0)), (1, .int a), (2, .int w), (3, .int cl), (4, .long d)]) hx hb d_X_find_69 hl (k := 2) rfl (show nI (j + 1) + 1 = _ from nI_1 (j + 1)) (by decide) rfl (fun ls hl => ?_)
            refine lv_goto (tgt := 6) hx hb d_X_find_72 (by decide) ?_
            exact ih (j + 1) ls (by omega) (by rw [fdR_t c_6 (Or.inl hb0)]; rw [ob_s (by omega)]; exact lv_sub hl [1, 0, 3, 4, 5, 6, 7] rfl)
          · have hl : lv_has ls 9 [(8, .ref (ad (j + 1))), (6, .ref (ad (fdR (qF K E P F U X a w cl d) (rvK K rk) j))), (7, .int (nI (j + 1))), (0, .ref (g 0)), (1, .int a), (2, .int w), (3, .int cl), (4, .long d)] := by rw [ob_s hb0] at hl; exact hl
            have hbl := fdR_le (qF K E P F U X a w cl d) (rvK K rk) j
            refine lv_aload hx hb d_X_find_37 (lv_at hl 1 rfl) ?_
            refine lv_ifnull hx hb d_X_find_39 ?_
            refine lv_aload_n hx hb d_X_find_42 rfl (lv_at hl 3 rfl) ?_
            refine va_get (D := D) (ci := 3) (C := R_X) (T := F_X) (N := 8) (v := .ref (g 2)) hx hb ht i_X hown hK hP 0 rfl rfl 2 (by decide) (ht _ tk_21) (fun _ h9 => h9) rfl d_X_find_43 ?_
            refine lv_aload hx hb d_X_find_46 (lv_at hl 0 rfl) ?_
            refine va_getN (D := D) (ci := cx (K (j + 1))) (C := C_o (cx (K (j + 1)))) (T := F_O) (N := N_o (cx (K (j + 1)))) (v := .int (K (j + 1))) hx hb ht (i_o (cx_lt _)) hown hK hP (5 + (j + 1)) (cW_at (k := j + 1) (by omega) (by omega)) (cl_o (cx_lt _)) 0 (n_o (by decide)) (Nx_74 hN) (fun _ h9 => h9) rfl d_X_find_48 ?_
            refine va_iald (f := rk) hx hb hK hP 2 0 rfl rfl (hKr (j + 1) (by omega) (by omega)) d_X_find_51 ?_
            refine lv_aload_n hx hb d_X_find_52 rfl (lv_at hl 3 rfl) ?_
            refine va_get (D := D) (ci := 3) (C := R_X) (T := F_X) (N := 8) (v := .ref (g 2)) hx hb ht i_X hown hK hP 0 rfl rfl 2 (by decide) (ht _ tk_21) (fun _ h9 => h9) rfl d_X_find_53 ?_
            refine lv_aload hx hb d_X_find_56 (lv_at hl 1 rfl) ?_
            refine va_getN (D := D) (ci := cx (K (fdR (qF K E P F U X a w cl d) (rvK K rk) j))) (C := C_o (cx (K (fdR (qF K E P F U X a w cl d) (rvK K rk) j)))) (T := F_O) (N := N_o (cx (K (fdR (qF K E P F U X a w cl d) (rvK K rk) j)))) (v := .int (K (fdR (qF K E P F U X a w cl d) (rvK K rk) j))) hx hb ht (i_o (cx_lt _)) hown hK hP (5 + (fdR (qF K E P F U X a w cl d) (rvK K rk) j)) (cW_at (k := fdR (qF K E P F U X a w cl d) (rvK K rk) j) (by omega) (by omega)) (cl_o (cx_lt _)) 0 (n_o (by decide)) (Nx_74 hN) (fun _ h9 => h9) rfl d_X_find_58 ?_
            refine va_iald (f := rk) hx hb hK hP 2 0 rfl rfl (hKr (fdR (qF K E P F U X a w cl d) (rvK K rk) j) (by omega) (by omega)) d_X_find_61 ?_
            refine lv_icmp_lt (tgt := 69) hx hb d_X_find_62 (by decide) (fun c_9 => ?_) (fun c_9 => ?_)
            · refine lv_iinc (v := nI (j + 2)) (lv' := [(7, .int (nI (j + 2))), (8, .ref (ad (j + 1))), (6, .ref (ad (fdR (qF K E P F U X a w cl d) (rvK K rk) j))), (0, .ref (g 0)), (1, .int a), (2, .int w), (3, .int cl), (4, .long d)]) hx hb d_X_find_69 hl (k := 2) rfl (show nI (j + 1) + 1 = _ from nI_1 (j + 1)) (by decide) rfl (fun ls hl => ?_)
              refine lv_goto (tgt := 6) hx hb d_X_find_72 (by decide) ?_
              exact ih (j + 1) ls (by omega) (by rw [fdR_n hb0 c_9, ob_s hb0]; exact lv_sub hl [2, 0, 3, 4, 5, 6, 7] rfl)
            · refine lv_aload hx hb d_X_find_65 (lv_at hl 0 rfl) ?_
              refine lv_astore (lv' := [(6, .ref (ad (j + 1))), (8, .ref (ad (j + 1))), (7, .int (nI (j + 1))), (0, .ref (g 0)), (1, .int a), (2, .int w), (3, .int cl), (4, .long d)]) hx hb d_X_find_67 hl (by decide) rfl (fun ls hl => ?_)
              refine lv_iinc (v := nI (j + 2)) (lv' := [(7, .int (nI (j + 2))), (6, .ref (ad (j + 1))), (8, .ref (ad (j + 1))), (0, .ref (g 0)), (1, .int a), (2, .int w), (3, .int cl), (4, .long d)]) hx hb d_X_find_69 hl (k := 2) rfl (show nI (j + 1) + 1 = _ from nI_1 (j + 1)) (by decide) rfl (fun ls hl => ?_)
              refine lv_goto (tgt := 6) hx hb d_X_find_72 (by decide) ?_
              exact ih (j + 1) ls (by omega) (by rw [fdR_t c_6 (Or.inr c_9)]; rw [ob_s (by omega)]; exact lv_sub hl [1, 0, 3, 4, 5, 6, 7] rfl)
  exact loop n 0 ls (by omega) (lv_sub hl [1, 0, 2, 3, 4, 5, 6] rfl)
set_option maxHeartbeats 4000000 in
set_option maxRecDepth 100000 in
/-- told(sender, i) -/
theorem c_X_told (l : Launch) (sd : Int32) (i : Int32) (D : va_G) (g cs : Nat → Nat) (n : Nat) (now : Int64) (ad : Nat → Nat) (K E P T V : Nat → Int32) (F U M X : Nat → Int64) (rk wy ps rg : Nat → Int32) (rs : Int32) (hn : n ≤ 200) : Met l y_X_told (Cond.code y_X_told b_X_told 6 (some .int) :: wt) ({ frames := 2, cells := 0, slots := 0, locals := 40 }) (va_Pc [.ref (g 0), .int sd, .int i] (fun S0 => va_P D classes (cW g cs n now ad K E P T V F U M X rk wy ps rg rs) S0.heap ∧ KK D cs S0)) (vp_Si (fun r => ((sd.toInt64 < 0 ∨ ¬ sd.toInt64 ≤ 49) ∧ r = -101) ∨ (¬ (sd.toInt64 < 0 ∨ ¬ sd.toInt64 ≤ 49) ∧ TD (qT K P T V F U X now sd) n i r))) 0 0 (fun _ => False) := by
  refine Met.ofW (cc := b_X_told) (maxL := 6) (ret := (some .int)) (by decide) rfl ?_
  intro p e s m args below meth c s₁ B hml hv
  obtain ⟨rfl, hP, hK, hN⟩ := hv
  have hx := B.exec
  have hb := B.bytes
  have hr := B.returns
  have ht : ∀ w ∈ wt, w.before _ s = true := fun w h => atoms_spec (ws := _ :: wt) B.pre w (List.mem_cons_of_mem _ h)
  have hown : s.vm.findClass R_X = some m.cls := findClass_of_methodNamed B.named
  have hlocks := B.notSynchronized
  have hl := lv_entry ([.ref (g 0), .int sd, .int i]) (n := 6) (Nat.le_of_ble_eq_true rfl)
  rw [lg_entry_eq]
  generalize (lg_sl ([.ref (g 0), .int sd, .int i]) ++ List.replicate (6 - (lg_sl ([.ref (g 0), .int sd, .int i])).length) Slot.unset).toArray = ls at hl ⊢
  have hl : lv_has ls 6 [(0, .ref (g 0)), (1, .int sd), (2, .int i)] := hl
  refine W.nameQ (fun Q hQe => ?_)
  refine lv_iload_n hx hb d_X_told_0 rfl (lv_at hl 1 rfl) ?_
  refine lv_i2l (v := sd.toInt64) hx hb d_X_told_1 rfl ?_
  refine lv_lconst (v := 0) hx hb d_X_told_2 (by decide) ?_
  refine lv_ldc2 (v := 49) hx hb hown (ht _ tk_57) d_X_told_3 ?_
  refine vp_callSi (W.runS (As := [.long sd.toInt64, .long 0, .long 49]) (rest := []) ⟨hx, hb, hml, hown, ht⟩ (c_X_outside l sd.toInt64 0 49) (cS_ 3 ht tk_60 tk_58 tk_1 tk_59 hd_X_outside ⟨Nat.le_of_ble_eq_true rfl, Nat.le_of_ble_eq_true rfl⟩) ⟨fun _ _ _ _ q => q, fun _ _ _ => ⟨rfl, trivial⟩⟩ rfl rfl hl.1 rfl (lv_room (Nat.le_of_ble_eq_true rfl)) d_X_told_6 ⟨Nat.le_of_ble_eq_true rfl, Nat.le_of_ble_eq_true rfl⟩) (fun r_1 hw_2 => ?_)
  refine lv_if_eq (tgt := 15) hx hb d_X_told_9 (by decide) (fun c_3 => ?_) (fun c_3 => ?_)
  · have c_3 := bl_f hw_2 c_3
    refine lv_iload_n hx hb d_X_told_15 rfl (lv_at hl 2 rfl) ?_
    refine lv_istore_n (lv' := [(3, .int i), (0, .ref (g 0)), (1, .int sd), (2, .int i)]) hx hb d_X_told_16 rfl hl (by decide) rfl (fun ls hl => ?_)
    refine lv_iconst (v := 1) hx hb d_X_told_17 (by decide) ?_
    refine lv_istore (lv' := [(4, .int 1), (3, .int i), (0, .ref (g 0)), (1, .int sd), (2, .int i)]) hx hb d_X_told_18 hl (by decide) rfl (fun ls hl => ?_)
    have loop : ∀ (z : Nat) (j : Nat) (ls : Array Slot), (j + z = n) → (∀ j1, j1 < j → qT K P T V F U X now sd (j1 + 1) = true → ¬ nI (cnt (qT K P T V F U X now sd) j1) = i) → lv_has ls 6 [(3, .int (i - nI (cnt (qT K P T V F U X now sd) j))), (4, .int (nI (j + 1))), (0, .ref (g 0)), (1, .int sd), (2, .int i)] → W p l e ({ frames := 2, cells := 0, slots := 0, locals := 40 } : Room) s m ([.ref (g 0), .int sd, .int i] : List Value).toArray below meth c s.heap [] 0 0 Q (F0 m 20 ls []) := by
      intro z
      induction z with
      | zero =>
        intro j ls hj hno hl
        refine lv_iload hx hb d_X_told_20 (lv_at hl 1 rfl) ?_
        refine lv_aload_n hx hb d_X_told_22 rfl (lv_at hl 2 rfl) ?_
        refine va_get (D := D) (ci := 3) (C := R_X) (T := F_X) (N := 8) (v := .int (nI n)) hx hb ht i_X hown hK hP 0 rfl rfl 1 (by decide) (ht _ tk_20) (fun _ h9 => h9) rfl d_X_told_23 ?_
        refine lv_icmp_gt (tgt := 98) hx hb d_X_told_26 (by decide) (fun c_4 => ?_) (fun c_4 => ?_)
        · refine lv_iconst (v := 0) hx hb d_X_told_98 (by decide) ?_
          rw [hQe]
          exact W.iret (v := 0) hx hb hr (fun t9 ht9 _ => ⟨0, rfl, Or.inr ⟨c_3, Or.inr ⟨fun j1 h1 => hno j1 (by omega), rfl⟩⟩, ht9⟩) (fun _ h9 => absurd h9 List.not_mem_nil) d_X_told_99
        · exact absurd (nI_lt (by omega) (by omega)) c_4
      | succ z ih =>
        intro j ls hj hno hl
        refine lv_iload hx hb d_X_told_20 (lv_at hl 1 rfl) ?_
        refine lv_aload_n hx hb d_X_told_22 rfl (lv_at hl 2 rfl) ?_
        refine va_get (D := D) (ci := 3) (C := R_X) (T := F_X) (N := 8) (v := .int (nI n)) hx hb ht i_X hown hK hP 0 rfl rfl 1 (by decide) (ht _ tk_20) (fun _ h9 => h9) rfl d_X_told_23 ?_
        refine lv_icmp_gt (tgt := 98) hx hb d_X_told_26 (by decide) (fun c_5 => ?_) (fun c_5 => ?_)
        · exact absurd c_5 (nI_nlt (by omega) (by omega))
        · refine lv_iload_n hx hb d_X_told_29 rfl (lv_at hl 4 rfl) ?_
          refine lv_if_lt (tgt := 98) hx hb d_X_told_30 (by decide) (fun c_6 => ?_) (fun c_6 => ?_)
          · refine lv_iconst (v := 0) hx hb d_X_told_98 (by decide) ?_
            rw [hQe]
            exact W.iret (v := 0) hx hb hr (fun t9 ht9 _ => ⟨0, rfl, Or.inr ⟨c_3, Or.inr ⟨fun j1 h1 _ e1 => absurd (e1 ▸ c_6) (nI_pos (by have := cnt_le (qT K P T V F U X now sd) j1; omega)), rfl⟩⟩, ht9⟩) (fun _ h9 => absurd h9 List.not_mem_nil) d_X_told_99
          · refine lv_aload_n hx hb d_X_told_33 rfl (lv_at hl 2 rfl) ?_
            refine va_get (D := D) (ci := 3) (C := R_X) (T := F_X) (N := 8) (v := .ref (g 1)) hx hb ht i_X hown hK hP 0 rfl rfl 0 (by decide) (ht _ tk_19) (fun _ h9 => h9) rfl d_X_told_34 ?_
            refine lv_iload hx hb d_X_told_37 (lv_at hl 1 rfl) ?_
            refine x_ald hx hb hK hP (by omega) (by omega) hn d_X_told_39 ?_
            refine lv_astore (lv' := [(5, .ref (ad (j + 1))), (3, .int (i - nI (cnt (qT K P T V F U X now sd) j))), (4, .int (nI (j + 1))), (0, .ref (g 0)), (1, .int sd), (2, .int i)]) hx hb d_X_told_40 hl (by decide) rfl (fun ls hl => ?_)
            refine lv_aload hx hb d_X_told_42 (lv_at hl 0 rfl) ?_
            refine va_getN (D := D) (ci := cx (K (j + 1))) (C := C_o (cx (K (j + 1)))) (T := F_O) (N := N_o (cx (K (j + 1)))) (v := .int (P (j + 1))) hx hb ht (i_o (cx_lt _)) hown hK hP (5 + (j + 1)) (cW_at (k := j + 1) (by omega) (by omega)) (cl_o (cx_lt _)) 2 (n_o (by decide)) (Nx_77 hN) (fun _ h9 => h9) rfl d_X_told_44 ?_
            refine lv_iload_n hx hb d_X_told_47 rfl (lv_at hl 4 rfl) ?_
            refine lv_icmp_ne (tgt := 92) hx hb d_X_told_48 (by decide) (fun c_7 => ?_) (fun c_7 => ?_)
            · have hf : qT K P T V F U X now sd (j + 1) = false := decide_eq_false (fun h9 => c_7 h9.1)
              refine lv_iinc (v := nI (j + 2)) (lv' := [(4, .int (nI (j + 2))), (5, .ref (ad (j + 1))), (3, .int (i - nI (cnt (qT K P T V F U X now sd) j))), (0, .ref (g 0)), (1, .int sd), (2, .int i)]) hx hb d_X_told_92 hl (k := 2) rfl (show nI (j + 1) + 1 = _ from nI_1 (j + 1)) (by decide) rfl (fun ls hl => ?_)
              refine lv_goto (tgt := 20) hx hb d_X_told_95 (by decide) ?_
              refine ih (j + 1) ls (by omega) (fun j1 h1 e1 => ?_) (by rw [cnt_f hf]; exact lv_sub hl [2, 0, 3, 4, 5] rfl)
              rcases Nat.lt_or_ge j1 j with h2 | h2
              · exact hno j1 h2 e1
              · have h3 : j1 = j := by omega
                rw [h3, hf] at e1
                exact absurd e1 (by decide)
            · refine lv_aload hx hb d_X_told_51 (lv_at hl 0 rfl) ?_
              refine va_getN (D := D) (ci := cx (K (j + 1))) (C := C_o (cx (K (j + 1)))) (T := F_O) (N := N_o (cx (K (j + 1)))) (v := .int (V (j + 1))) hx hb ht (i_o (cx_lt _)) hown hK hP (5 + (j + 1)) (cW_at (k := j + 1) (by omega) (by omega)) (cl_o (cx_lt _)) 6 (n_o (by decide)) (Nx_84 hN) (fun _ h9 => h9) rfl d_X_told_53 ?_
              refine lv_if_eq (tgt := 92) hx hb d_X_told_56 (by decide) (fun c_8 => ?_) (fun c_8 => ?_)
              · have hf : qT K P T V F U X now sd (j + 1) = false := decide_eq_false (fun h9 => h9.2.1 c_8)
                refine lv_iinc (v := nI (j + 2)) (lv' := [(4, .int (nI (j + 2))), (5, .ref (ad (j + 1))), (3, .int (i - nI (cnt (qT K P T V F U X now sd) j))), (0, .ref (g 0)), (1, .int sd), (2, .int i)]) hx hb d_X_told_92 hl (k := 2) rfl (show nI (j + 1) + 1 = _ from nI_1 (j + 1)) (by decide) rfl (fun ls hl => ?_)
                refine lv_goto (tgt := 20) hx hb d_X_told_95 (by decide) ?_
                refine ih (j + 1) ls (by omega) (fun j1 h1 e1 => ?_) (by rw [cnt_f hf]; exact lv_sub hl [2, 0, 3, 4, 5] rfl)
                rcases Nat.lt_or_ge j1 j with h2 | h2
                · exact hno j1 h2 e1
                · have h3 : j1 = j := by omega
                  rw [h3, hf] at e1
                  exact absurd e1 (by decide)
              · refine lv_aload hx hb d_X_told_59 (lv_at hl 0 rfl) ?_
                have hPo_11 := hP.one (cW_at (k := j + 1) (by omega) (by omega))
                refine vp_callSi (va_runU (C := C_o (cx (K (j + 1)))) (As := []) (rest := []) ⟨hx, hb, hml, hown, ht⟩ (c_O_sendsOn l (K (j + 1)) (E (j + 1)) (P (j + 1)) (F (j + 1)) (U (j + 1)) (M (j + 1)) (V (j + 1)) (X (j + 1)) (T (j + 1))  (cx (K (j + 1))) (cx_lt _) D cs (ad (j + 1))) (cU_ 0 ht tk_216 tk_210 tk_3 tk_211 tk_212 (se_O_sendsOn (cx_lt _)) (va_Decl.of (ht _ tk_211) (ht _ tk_216)) hd_O_sendsOn.2.2 ⟨Nat.le_of_ble_eq_true rfl, Nat.le_of_ble_eq_true rfl⟩) ⟨fun _ _ _ _ q => ⟨q.1, q.2.1, KK.call q.2.2⟩, va_recv (q0 := (5 + (j + 1))) hK hP (cl_o (cx_lt _)) (cW_at (k := j + 1) (by omega) (by omega)), fun U hU hW => ⟨rfl, by rw [hU]; exact hPo_11, KK.warm hK hN hW⟩⟩ rfl rfl hl.1 rfl (lv_room (Nat.le_of_ble_eq_true rfl)) d_X_told_61 ⟨Nat.le_of_ble_eq_true rfl, Nat.le_of_ble_eq_true rfl⟩).run (fun r_9 hw_10 => ?_)
                refine lv_if_eq (tgt := 92) hx hb d_X_told_64 (by decide) (fun c_12 => ?_) (fun c_12 => ?_)
                · have c_12 := bl_f hw_10 c_12
                  have hf : qT K P T V F U X now sd (j + 1) = false := decide_eq_false (fun h9 => c_12 h9.2.2.1)
                  refine lv_iinc (v := nI (j + 2)) (lv' := [(4, .int (nI (j + 2))), (5, .ref (ad (j + 1))), (3, .int (i - nI (cnt (qT K P T V F U X now sd) j))), (0, .ref (g 0)), (1, .int sd), (2, .int i)]) hx hb d_X_told_92 hl (k := 2) rfl (show nI (j + 1) + 1 = _ from nI_1 (j + 1)) (by decide) rfl (fun ls hl => ?_)
                  refine lv_goto (tgt := 20) hx hb d_X_told_95 (by decide) ?_
                  refine ih (j + 1) ls (by omega) (fun j1 h1 e1 => ?_) (by rw [cnt_f hf]; exact lv_sub hl [2, 0, 3, 4, 5] rfl)
                  rcases Nat.lt_or_ge j1 j with h2 | h2
                  · exact hno j1 h2 e1
                  · have h3 : j1 = j := by omega
                    rw [h3, hf] at e1
                    exact absurd e1 (by decide)
                · have c_12 := bl_t hw_10 c_12
                  refine lv_aload hx hb d_X_told_67 (lv_at hl 0 rfl) ?_
                  refine lv_aload_n hx hb d_X_told_69 rfl (lv_at hl 3 rfl) ?_
                  refine va_get (D := D) (ci := 3) (C := R_X) (T := F_X) (N := 8) (v := .long now) hx hb ht i_X hown hK hP 0 rfl rfl 3 (by decide) (ht _ tk_22) (fun _ h9 => h9) rfl d_X_told_70 ?_
                  have hPo_15 := hP.one (cW_at (k := j + 1) (by omega) (by omega))
                  refine vp_callSi (va_runU (C := C_o (cx (K (j + 1)))) (As := [.long now]) (rest := []) ⟨hx, hb, hml, hown, ht⟩ (c_O_isIn l (K (j + 1)) (E (j + 1)) (P (j + 1)) (F (j + 1)) (U (j + 1)) (M (j + 1)) (V (j + 1)) (X (j + 1)) (T (j + 1)) now (cx (K (j + 1))) (cx_lt _) D cs (ad (j + 1))) (cU_ 1 ht tk_209 tk_254 tk_3 tk_204 tk_205 (se_O_isIn (cx_lt _)) (va_Decl.of (ht _ tk_204) (ht _ tk_209)) hd_O_isIn.2.2 ⟨Nat.le_of_ble_eq_true rfl, Nat.le_of_ble_eq_true rfl⟩) ⟨fun _ _ _ _ q => ⟨q.1, q.2.1, KK.call q.2.2⟩, va_recv (q0 := (5 + (j + 1))) hK hP (cl_o (cx_lt _)) (cW_at (k := j + 1) (by omega) (by omega)), fun U hU hW => ⟨rfl, by rw [hU]; exact hPo_15, KK.warm hK hN hW⟩⟩ rfl rfl hl.1 rfl (lv_room (Nat.le_of_ble_eq_true rfl)) d_X_told_73 ⟨Nat.le_of_ble_eq_true rfl, Nat.le_of_ble_eq_true rfl⟩).run (fun r_13 hw_14 => ?_)
                  refine lv_if_ne (tgt := 82) hx hb d_X_told_76 (by decide) (fun c_16 => ?_) (fun c_16 => ?_)
                  · have c_16 := bl_t hw_14 c_16
                    have hf : qT K P T V F U X now sd (j + 1) = true := decide_eq_true ⟨c_7, c_8, c_12, c_16⟩
                    refine lv_iload_n hx hb d_X_told_82 rfl (lv_at hl 1 rfl) ?_
                    refine lv_if_ne (tgt := 89) hx hb d_X_told_83 (by decide) (fun c_17 => ?_) (fun c_17 => ?_)
                    · refine lv_iinc (v := i - nI (cnt (qT K P T V F U X now sd) (j + 1))) (lv' := [(3, .int (i - nI (cnt (qT K P T V F U X now sd) (j + 1)))), (5, .ref (ad (j + 1))), (4, .int (nI (j + 1))), (0, .ref (g 0)), (1, .int sd), (2, .int i)]) hx hb d_X_told_89 hl (k := 1) rfl (by rw [cnt_t hf]; exact sub1) (by decide) rfl (fun ls hl => ?_)
                      refine lv_iinc (v := nI (j + 2)) (lv' := [(4, .int (nI (j + 2))), (3, .int (i - nI (cnt (qT K P T V F U X now sd) (j + 1)))), (5, .ref (ad (j + 1))), (0, .ref (g 0)), (1, .int sd), (2, .int i)]) hx hb d_X_told_92 hl (k := 2) rfl (show nI (j + 1) + 1 = _ from nI_1 (j + 1)) (by decide) rfl (fun ls hl => ?_)
                      refine lv_goto (tgt := 20) hx hb d_X_told_95 (by decide) ?_
                      refine ih (j + 1) ls (by omega) (fun j1 h1 e1 => ?_) (lv_sub hl [1, 0, 3, 4, 5] rfl)
                      rcases Nat.lt_or_ge j1 j with h2 | h2
                      · exact hno j1 h2 e1
                      · have h3 : j1 = j := by omega
                        rw [h3]
                        exact fun e2 => c_17 (sub0.mpr e2)
                    · refine lv_iload hx hb d_X_told_86 (lv_at hl 2 rfl) ?_
                      rw [hQe]
                      exact W.iret (v := nI (j + 1)) hx hb hr (fun t9 ht9 _ => ⟨nI (j + 1), rfl, Or.inr ⟨c_3, Or.inl ⟨j, by omega, hf, sub0.mp c_17, rfl⟩⟩, ht9⟩) (fun _ h9 => absurd h9 List.not_mem_nil) d_X_told_88
                  · have c_16 := bl_f hw_14 c_16
                    have hf : qT K P T V F U X now sd (j + 1) = false := decide_eq_false (fun h9 => c_16 h9.2.2.2)
                    refine lv_goto (tgt := 92) hx hb d_X_told_79 (by decide) ?_
                    refine lv_iinc (v := nI (j + 2)) (lv' := [(4, .int (nI (j + 2))), (5, .ref (ad (j + 1))), (3, .int (i - nI (cnt (qT K P T V F U X now sd) j))), (0, .ref (g 0)), (1, .int sd), (2, .int i)]) hx hb d_X_told_92 hl (k := 2) rfl (show nI (j + 1) + 1 = _ from nI_1 (j + 1)) (by decide) rfl (fun ls hl => ?_)
                    refine lv_goto (tgt := 20) hx hb d_X_told_95 (by decide) ?_
                    refine ih (j + 1) ls (by omega) (fun j1 h1 e1 => ?_) (by rw [cnt_f hf]; exact lv_sub hl [2, 0, 3, 4, 5] rfl)
                    rcases Nat.lt_or_ge j1 j with h2 | h2
                    · exact hno j1 h2 e1
                    · have h3 : j1 = j := by omega
                      rw [h3, hf] at e1
                      exact absurd e1 (by decide)
    exact loop n 0 ls (by omega) (fun j1 h1 => absurd h1 (by omega)) (by rw [show i - nI (cnt (qT K P T V F U X now sd) 0) = i from by rw [show cnt (qT K P T V F U X now sd) 0 = 0 from rfl, nI_0, Int32.sub_zero]]; exact lv_sub hl [1, 0, 2, 3, 4] rfl)
  · have c_3 := bl_t hw_2 c_3
    refine lv_bipush (v := (-101)) hx hb d_X_told_12 (by decide) ?_
    rw [hQe]
    exact W.iret (v := (-101)) hx hb hr (fun t9 ht9 _ => ⟨(-101), rfl, Or.inl ⟨c_3, rfl⟩, ht9⟩) (fun _ h9 => absurd h9 List.not_mem_nil) d_X_told_14
end
section
/-- the way through the orders, from an address on -/
def pth (fz : Int32 → Nat) (T : Nat → Int32) (en : Int32) : Nat → Int32
  | 0 => en
  | i + 1 => T (fz (pth fz T en i))
/-- the way goes on behind its place j, where it wasn't before -/
abbrev go1 (fz : Int32 → Nat) (K T : Nat → Int32) (en : Int32) (j : Nat) : Prop := ¬ fz (pth fz T en j) = 0 ∧ K (fz (pth fz T en j)) < 3 ∧ ∀ k, k < j → ¬ pth fz T en k = pth fz T en j
/-- where it ends, and what is answered -/
def EFF (fz : Int32 → Nat) (K T : Nat → Int32) (rg : Nat → Int32) (rs en r : Int32) (rg1 : Nat → Int32) (rs1 : Int32) : Prop := ∃ i, (∀ j, j < i → go1 fz K T en j) ∧
  (((∀ k, k < i → ¬ pth fz T en k = pth fz T en i) ∧ fz (pth fz T en i) = 0 ∧ r = pth fz T en i ∧ rs1 = rs ∧ rg1 = rg) ∨
   ((∀ k, k < i → ¬ pth fz T en k = pth fz T en i) ∧ ¬ fz (pth fz T en i) = 0 ∧ ¬ K (fz (pth fz T en i)) < 3 ∧ r = (if K (fz (pth fz T en i)) < 6 then 0 else -2) ∧ rs1 = rs ∧ rg1 = rg) ∨
   (∃ f, f < i ∧ pth fz T en f = pth fz T en i ∧ r = -1 ∧ rs1 = nI (i - f) ∧ i ≤ 99 ∧ ∀ j, j < i - f → rg1 j = pth fz T en (f + j)))
theorem pigeon : ∀ (N m : Nat) (f : Nat → Nat), (∀ j, j < m → f j < N) → (∀ j, j < m → ∀ k, k < j → f k ≠ f j) → m ≤ N
  | 0, m, f, h1, _ => by
    rcases Nat.eq_zero_or_pos m with h | h
    · omega
    · exact absurd (h1 0 h) (by omega)
  | N + 1, m, f, h1, h2 => by
    by_cases he : ∃ j0, j0 < m ∧ f j0 = N
    · obtain ⟨j0, hj0, e0⟩ := he
      have key := pigeon N (m - 1) (fun j => if j < j0 then f j else f (j + 1)) (fun j hj => ?_) (fun j hj k hk => ?_)
      · omega
      · show (if j < j0 then f j else f (j + 1)) < N
        split
        · next c =>
          have a := h1 j (by omega)
          have b := h2 j0 hj0 j c
          omega
        · next c =>
          have a := h1 (j + 1) (by omega)
          have b := h2 (j + 1) (by omega) j0 (by omega)
          omega
      · show (if k < j0 then f k else f (k + 1)) ≠ (if j < j0 then f j else f (j + 1))
        split
        · next c =>
          split
          · exact h2 j (by omega) k hk
          · exact h2 (j + 1) (by omega) k (by omega)
        · next c =>
          rw [if_neg (by omega)]
          exact h2 (j + 1) (by omega) (k + 1) (by omega)
    · have := pigeon N m f (fun j hj => by
        have a := h1 j hj
        have b : f j ≠ N := fun e => he ⟨j, hj, e⟩
        omega) h2
      omega
theorem pth_le {p : Nat → Int32} {m : Nat} (h1 : ∀ j, j < m → ∃ x, 1 ≤ x ∧ x ≤ 99 ∧ p j = nI x) (h2 : ∀ j, j < m → ∀ k, k < j → ¬ p k = p j) : m ≤ 99 := by
  refine pigeon 99 m (fun j => (p j).toNatClampNeg - 1) (fun j hj => ?_) (fun j hj k hk e => ?_)
  · obtain ⟨x, a, b, c⟩ := h1 j hj
    show (p j).toNatClampNeg - 1 < 99
    rw [c, nI_clamp (by omega)]
    omega
  · obtain ⟨x, a, b, c⟩ := h1 j hj
    obtain ⟨y, a', b', c'⟩ := h1 k (by omega)
    have e : (p k).toNatClampNeg - 1 = (p j).toNatClampNeg - 1 := e
    rw [c, c', nI_clamp (by omega), nI_clamp (by omega)] at e
    refine h2 j hj k hk ?_
    rw [c, c', show x = y by omega]
theorem adr_of {v : Int32} (h : ¬ v ≤ 0 ∧ ¬ 99 < v) : ∃ x, 1 ≤ x ∧ x ≤ 99 ∧ v = nI x := ordk_of (n := 99) h
/-- what is passed is none -/
def zf (ps : Nat → Int32) (j : Nat) : Nat → Int32 := fun a => if a < j then 0 else ps a
theorem zf_0 (ps : Nat → Int32) : zf ps 0 = ps := by
  funext a
  exact if_neg (by omega)
theorem zf_s (ps : Nat → Int32) (j : Nat) : upd (zf ps j) j (vp_nar .boolean 0) = zf ps (j + 1) := by
  funext a
  by_cases h : a = j
  · subst h
    rw [pk_us]
    exact (if_pos (by omega)).symm
  · rw [pk_un h]
    unfold zf
    by_cases c : a < j
    · rw [if_pos c, if_pos (by omega)]
    · rw [if_neg c, if_neg (by omega)]
theorem gt_send {K T : Nat → Int32} {b : Nat} (hT : K b < 3 → ∃ x, 1 ≤ x ∧ x ≤ 99 ∧ T b = nI x) : (¬ gt (cx (K b)) (T b) ≤ 0 ↔ K b < 3) ∧ (K b < 3 → gt (cx (K b)) (T b) = T b) ∧ (¬ K b < 3 → gt (cx (K b)) (T b) = (if K b < 6 then 0 else -2)) := by
  unfold cx
  by_cases c : K b < 3
  · rw [if_pos c]
    obtain ⟨x, h1, h2, h3⟩ := hT c
    refine ⟨⟨fun _ => c, fun _ => ?_⟩, fun _ => rfl, fun h => absurd c h⟩
    show ¬ T b ≤ 0
    rw [h3]
    exact nI_nle (by omega) (by omega)
  · rw [if_neg c]
    by_cases c6 : K b < 6
    · rw [if_pos c6]
      refine ⟨⟨fun h => absurd (show gt 1 (T b) ≤ 0 from (by decide : (0 : Int32) ≤ 0)) h, fun h => absurd h c⟩, fun h => absurd h c, fun _ => ?_⟩
      rw [if_pos c6]
      rfl
    · rw [if_neg c6]
      refine ⟨⟨fun h => absurd (show gt 2 (T b) ≤ 0 from (by decide : (-2 : Int32) ≤ 0)) h, fun h => absurd h c⟩, fun h => absurd h c, fun _ => ?_⟩
      rw [if_neg c6]
      rfl
set_option maxHeartbeats 4000000 in
set_option maxRecDepth 100000 in
/-- tellRing(address, size) -/
theorem c_X_tellRing (l : Launch) (a : Int32) (q : Nat) (D : va_G) (g cs : Nat → Nat) (n : Nat) (now : Int64) (ad : Nat → Nat) (K E P T V : Nat → Int32) (F U M X : Nat → Int64) (rk wy ps rg : Nat → Int32) (rs : Int32) (hq : q ≤ 100) (hex : ∃ j, j < q ∧ wy j = a) (sz : Nat) : Met l y_X_tellRing (Cond.code y_X_tellRing b_X_tellRing 4 (some .int) :: wt) ({ frames := 1, cells := 0, slots := 0, locals := 18 }) (va_Pc [.ref (g 0), .int a, .int (nI q)] (fun S0 => S0.heap.size = sz ∧ va_P D classes (cW g cs n now ad K E P T V F U M X rk wy ps rg rs) S0.heap ∧ KK D cs S0 ∧ va_D (fun _ => True) (cW g cs n now ad K E P T V F U M X rk wy ps rg rs))) (va_Qi (fun (r : Int32) (u : Int32 × (Nat → Int32)) => ∃ f, f < q ∧ wy f = a ∧ r = -1 ∧ u = (nI (q - f), va_cpy wy rg f 0 (q - f))) (fun (u : Int32 × (Nat → Int32)) S1 => va_P D classes (cW g cs n now ad K E P T V F U M X rk wy ps u.2 u.1) S1.heap ∧ va_D (va_A (cW g cs n now ad K E P T V F U M X rk wy ps rg rs) sz) (cW g cs n now ad K E P T V F U M X rk wy ps u.2 u.1)) (va_A (cW g cs n now ad K E P T V F U M X rk wy ps rg rs) sz)) 0 0 (va_A (cW g cs n now ad K E P T V F U M X rk wy ps rg rs) sz) := by
  refine Met.ofW (cc := b_X_tellRing) (maxL := 4) (ret := (some .int)) (by decide) rfl ?_
  intro p e s m args below meth c s₁ B hml hv
  obtain ⟨rfl, hsz, hP, ⟨hK, hN⟩, hD0⟩ := hv
  have hx := B.exec
  have hb := B.bytes
  have hr := B.returns
  have ht : ∀ w ∈ wt, w.before _ s = true := fun w h => atoms_spec (ws := _ :: wt) B.pre w (List.mem_cons_of_mem _ h)
  have hown : s.vm.findClass R_X = some m.cls := findClass_of_methodNamed B.named
  have hlocks := B.notSynchronized
  subst hsz
  have hD := hD0.self (sz := s.heap.size)
  generalize hAe : va_A (cW g cs n now ad K E P T V F U M X rk wy ps rg rs) s.heap.size = A at hD ⊢
  have hA : ∀ q : Nat, s.heap.size ≤ q → A q := fun q h => by rw [← hAe]; exact Or.inr h
  have hS : va_S A s.heap s.heap [] := va_S.rf
  have hl := lv_entry ([.ref (g 0), .int a, .int (nI q)]) (n := 4) (Nat.le_of_ble_eq_true rfl)
  rw [lg_entry_eq]
  generalize (lg_sl ([.ref (g 0), .int a, .int (nI q)]) ++ List.replicate (4 - (lg_sl ([.ref (g 0), .int a, .int (nI q)])).length) Slot.unset).toArray = ls at hl ⊢
  have hl : lv_has ls 4 [(0, .ref (g 0)), (1, .int a), (2, .int (nI q))] := hl
  refine W.nameQ (fun Q hQe => ?_)
  refine lv_iconst (v := 0) hx hb d_X_tellRing_0 (by decide) ?_
  refine lv_istore_n (lv' := [(3, .int 0), (0, .ref (g 0)), (1, .int a), (2, .int (nI q))]) hx hb d_X_tellRing_1 rfl hl (by decide) rfl (fun ls hl => ?_)
  have loop : ∀ (z : Nat) (f : Nat) (ls : Array Slot), (f + z = q) → (∀ j, j < f → ¬ wy j = a) → lv_has ls 4 [(3, .int (nI f)), (0, .ref (g 0)), (1, .int a), (2, .int (nI q))] → W p l e ({ frames := 1, cells := 0, slots := 0, locals := 18 } : Room) s m ([.ref (g 0), .int a, .int (nI q)] : List Value).toArray below meth c s.heap [] 0 0 Q (F0 m 2 ls []) := by
    intro z
    induction z with
    | zero =>
      intro f ls hf hno hl
      obtain ⟨j, h1, h2⟩ := hex
      exact absurd h2 (hno j (by omega))
    | succ z ih =>
      intro f ls hf hno hl
      refine lv_aload_n hx hb d_X_tellRing_2 rfl (lv_at hl 1 rfl) ?_
      refine va_get (D := D) (ci := 3) (C := R_X) (T := F_X) (N := 8) (v := .ref (g 3)) hx hb ht i_X hown hK hP 0 rfl rfl 4 (by decide) (ht _ tk_23) (fun _ h9 => h9) rfl d_X_tellRing_3 ?_
      refine lv_iload_n hx hb d_X_tellRing_6 rfl (lv_at hl 0 rfl) ?_
      refine vi_iald (k := f) (f := wy) hx hb hK hP 3 0 rfl rfl (by omega) (by omega) d_X_tellRing_7 ?_
      refine lv_iload_n hx hb d_X_tellRing_8 rfl (lv_at hl 2 rfl) ?_
      refine lv_icmp_eq (tgt := 18) hx hb d_X_tellRing_9 (by decide) (fun c_1 => ?_) (fun c_1 => ?_)
      · refine lv_aload_n hx hb d_X_tellRing_18 rfl (lv_at hl 1 rfl) ?_
        refine lv_iload_n hx hb d_X_tellRing_19 rfl (lv_at hl 3 rfl) ?_
        refine lv_iload_n hx hb d_X_tellRing_20 rfl (lv_at hl 0 rfl) ?_
        refine lv_isub hx hb d_X_tellRing_21 ?_
        rw [pk_sub (show f ≤ q by omega)]
        refine va_put (D := D) (ci := 3) (C := R_X) (T := F_X) (N := 8) (v := .int (nI (q - f))) (ty := .int) hx hb ht i_X t_X t_X_ok n_X hown hK hP hD hS 0 rfl rfl 7 (by decide) (ht _ tk_26) (fun _ h9 => h9) rfl (by decide +kernel) rfl rfl (Nat.le_of_ble_eq_true rfl) d_X_tellRing_22 (fun H locs hP hD hS => ?_)
        have hP : va_P D classes (cW g cs n now ad K E P T V F U M X rk wy ps rg (nI (q - f))) H := hP
        have hD : va_D A (cW g cs n now ad K E P T V F U M X rk wy ps rg (nI (q - f))) := hD
        refine lv_aload_n hx hb d_X_tellRing_25 rfl (lv_at hl 1 rfl) ?_
        refine va_get (D := D) (ci := 3) (C := R_X) (T := F_X) (N := 8) (v := .ref (g 3)) hx hb ht i_X hown hK hP 0 rfl rfl 4 (by decide) (ht _ tk_23) (fun _ h9 => h9) rfl d_X_tellRing_26 ?_
        refine lv_iload_n hx hb d_X_tellRing_29 rfl (lv_at hl 0 rfl) ?_
        refine lv_aload_n hx hb d_X_tellRing_30 rfl (lv_at hl 1 rfl) ?_
        refine va_get (D := D) (ci := 3) (C := R_X) (T := F_X) (N := 8) (v := .ref (g 5)) hx hb ht i_X hown hK hP 0 rfl rfl 6 (by decide) (ht _ tk_25) (fun _ h9 => h9) rfl d_X_tellRing_31 ?_
        refine lv_iconst (v := 0) hx hb d_X_tellRing_34 (by decide) ?_
        refine lv_aload_n hx hb d_X_tellRing_35 rfl (lv_at hl 1 rfl) ?_
        refine va_get (D := D) (ci := 3) (C := R_X) (T := F_X) (N := 8) (v := .int (nI (q - f))) hx hb ht i_X hown hK hP 0 rfl rfl 7 (by decide) (ht _ tk_26) (fun _ h9 => h9) rfl d_X_tellRing_36 ?_
        refine va_copyi (ty := .int) (c0 := cs 0) (c1 := cs 0) (n0 := 100) (n1 := 100) (f := wy) (g := rg) hx hb (hml.trans hl.1.symm) hown (ht _ tk_234) (ht _ tk_236) (ht _ tk_235) (ht _ tk_8) hK hP hD hS 3 5 0 0 rfl rfl rfl rfl rfl (nI_pos (by omega)) (by decide) (nI_pos (by omega)) (by rw [nI_clamp (by omega), nI_clamp (by omega)]; omega) (by rw [sb_cl0, nI_clamp (by omega)]; omega) (fun _ _ => rfl) (Nat.le_of_ble_eq_true rfl) (Nat.le_of_ble_eq_true rfl) d_X_tellRing_39 (fun H locs hP hD hS => ?_)
        rw [nI_clamp (by omega), sb_cl0, nI_clamp (by omega)] at hP hD
        have hP : va_P D classes (cW g cs n now ad K E P T V F U M X rk wy ps (va_cpy wy rg f 0 (q - f)) (nI (q - f))) H := hP
        have hD : va_D A (cW g cs n now ad K E P T V F U M X rk wy ps (va_cpy wy rg f 0 (q - f)) (nI (q - f))) := hD
        refine lv_iconst (v := (-1)) hx hb d_X_tellRing_42 (by decide) ?_
        rw [hQe]
        exact W.iret (v := (-1)) hx hb hr (fun t9 ht9 hW => ⟨⟨(-1), (nI (q - f), va_cpy wy rg f 0 (q - f)), rfl, ⟨f, by omega, c_1, rfl, rfl⟩, by rw [ht9]; exact hP, hD⟩, hS.F ht9⟩) hS.2.2 d_X_tellRing_43
      · refine lv_iinc (v := nI (f + 1)) (lv' := [(3, .int (nI (f + 1))), (0, .ref (g 0)), (1, .int a), (2, .int (nI q))]) hx hb d_X_tellRing_12 hl (k := 0) rfl (show nI (f) + 1 = _ from nI_1 (f)) (by decide) rfl (fun ls hl => ?_)
        refine lv_goto (tgt := 2) hx hb d_X_tellRing_15 (by decide) ?_
        refine ih (f + 1) ls (by omega) (fun j hj => ?_) (lv_sub hl [0, 1, 2, 3] rfl)
        rcases Nat.lt_or_ge j f with h | h
        · exact hno j h
        · rw [show j = f by omega]; exact c_1
  exact loop q 0 ls (by omega) (fun j hj => absurd hj (by omega)) (lv_sub hl [0, 1, 2, 3] rfl)
/-- the class: the order that counts for an address -/
def fzC (n : Nat) (K E P : Nat → Int32) (F U X : Nat → Int64) (rk : Nat → Int32) (wh kd : Int32) (dy : Int64) (a : Int32) : Nat := fdR (qF K E P F U X a wh kd dy) (rvK K rk) n
theorem fzC_le {n : Nat} {K E P : Nat → Int32} {F U X : Nat → Int64} {rk : Nat → Int32} {wh kd : Int32} {dy : Int64} {a : Int32} : fzC n K E P F U X rk wh kd dy a ≤ n := fdR_le _ _ _
/-- what is asked may not be: unknown, outside -/
abbrev unkE (en wh : Int32) : Prop := ¬ (¬ en ≤ 0 ∧ ¬ 99 < en) ∨ wh.toInt64 < 0 ∨ ¬ wh.toInt64 ≤ 49
abbrev outE (kd : Int32) (dy : Int64) : Prop := (kd.toInt64 < 0 ∨ ¬ kd.toInt64 ≤ 2) ∨ badD 0 dy
abbrev QeffC (n : Nat) (K E P T : Nat → Int32) (F U X : Nat → Int64) (rk rg : Nat → Int32) (rs en wh kd : Int32) (dy : Int64) (r : Int32) (rg1 : Nat → Int32) (rs1 : Int32) : Prop :=
  (unkE en wh ∧ r = -101 ∧ rg1 = rg ∧ rs1 = rs) ∨ (¬ unkE en wh ∧ outE kd dy ∧ r = -102 ∧ rg1 = rg ∧ rs1 = rs) ∨ (¬ unkE en wh ∧ ¬ outE kd dy ∧ EFF (fzC n K E P F U X rk wh kd dy) K T rg rs en r rg1 rs1)
set_option maxHeartbeats 4000000 in
set_option maxRecDepth 100000 in
/-- effective(entry, who, class, day) -/
theorem c_X_effective (l : Launch) (en : Int32) (wh : Int32) (kd : Int32) (dy : Int64) (D : va_G) (g cs : Nat → Nat) (n : Nat) (now : Int64) (ad : Nat → Nat) (K E P T V : Nat → Int32) (F U M X : Nat → Int64) (rk wy ps rg : Nat → Int32) (rs : Int32) (hn : n ≤ 200) (hKr : ∀ k, 1 ≤ k → k ≤ n → vp_in (K k) 9) (hT : ∀ k, 1 ≤ k → k ≤ n → K k < 3 → ∃ x, 1 ≤ x ∧ x ≤ 99 ∧ T k = nI x) (sz : Nat) : Met l y_X_effective (Cond.code y_X_effective b_X_effective 9 (some .int) :: wt) ({ frames := 3, cells := 0, slots := 0, locals := 75 }) (va_Pc [.ref (g 0), .int en, .int wh, .int kd, .long dy] (fun S0 => S0.heap.size = sz ∧ va_P D classes (cW g cs n now ad K E P T V F U M X rk wy ps rg rs) S0.heap ∧ KK D cs S0 ∧ va_D (fun _ => True) (cW g cs n now ad K E P T V F U M X rk wy ps rg rs))) (va_Qi (fun r u => QeffC n K E P T F U X rk rg rs en wh kd dy r u.2.2.1 u.2.2.2) (fun (u : (Nat → Int32) × (Nat → Int32) × (Nat → Int32) × Int32) S1 => va_P D classes (cW g cs n now ad K E P T V F U M X rk u.1 u.2.1 u.2.2.1 u.2.2.2) S1.heap ∧ va_D (va_A (cW g cs n now ad K E P T V F U M X rk wy ps rg rs) sz) (cW g cs n now ad K E P T V F U M X rk u.1 u.2.1 u.2.2.1 u.2.2.2)) (va_A (cW g cs n now ad K E P T V F U M X rk wy ps rg rs) sz)) 0 0 (va_A (cW g cs n now ad K E P T V F U M X rk wy ps rg rs) sz) := by
  refine Met.ofW (cc := b_X_effective) (maxL := 9) (ret := (some .int)) (by decide) rfl ?_
  intro p e s m args below meth c s₁ B hml hv
  obtain ⟨rfl, hsz, hP, ⟨hK, hN⟩, hD0⟩ := hv
  have hx := B.exec
  have hb := B.bytes
  have hr := B.returns
  have ht : ∀ w ∈ wt, w.before _ s = true := fun w h => atoms_spec (ws := _ :: wt) B.pre w (List.mem_cons_of_mem _ h)
  have hown : s.vm.findClass R_X = some m.cls := findClass_of_methodNamed B.named
  have hlocks := B.notSynchronized
  subst hsz
  have hD := hD0.self (sz := s.heap.size)
  generalize hAe : va_A (cW g cs n now ad K E P T V F U M X rk wy ps rg rs) s.heap.size = A at hD ⊢
  have hA : ∀ q : Nat, s.heap.size ≤ q → A q := fun q h => by rw [← hAe]; exact Or.inr h
  have hS : va_S A s.heap s.heap [] := va_S.rf
  have hl := lv_entry ([.ref (g 0), .int en, .int wh, .int kd, .long dy]) (n := 9) (Nat.le_of_ble_eq_true rfl)
  rw [lg_entry_eq]
  generalize (lg_sl ([.ref (g 0), .int en, .int wh, .int kd, .long dy]) ++ List.replicate (9 - (lg_sl ([.ref (g 0), .int en, .int wh, .int kd, .long dy])).length) Slot.unset).toArray = ls at hl ⊢
  have hl : lv_has ls 9 [(0, .ref (g 0)), (1, .int en), (2, .int wh), (3, .int kd), (4, .long dy)] := hl
  refine W.nameQ (fun Q hQe => ?_)
  refine lv_iload_n hx hb d_X_effective_0 rfl (lv_at hl 1 rfl) ?_
  refine vp_callSi (W.runS (As := [.int en]) (rest := []) ⟨hx, hb, hml, hown, ht⟩ (c_X_isAddress l en) (cS_ 1 ht tk_55 tk_53 tk_1 tk_54 hd_X_isAddress ⟨Nat.le_of_ble_eq_true rfl, Nat.le_of_ble_eq_true rfl⟩) ⟨fun _ _ _ _ q => q, fun _ _ _ => ⟨rfl, trivial⟩⟩ rfl rfl hl.1 rfl (lv_room (Nat.le_of_ble_eq_true rfl)) d_X_effective_1 ⟨Nat.le_of_ble_eq_true rfl, Nat.le_of_ble_eq_true rfl⟩) (fun r_1 hw_2 => ?_)
  refine lv_if_eq (tgt := 19) hx hb d_X_effective_4 (by decide) (fun c_3 => ?_) (fun c_3 => ?_)
  · have c_3 := bl_f hw_2 c_3
    refine lv_bipush (v := (-101)) hx hb d_X_effective_19 (by decide) ?_
    rw [hQe]
    exact W.iret (v := (-101)) hx hb hr (fun t9 ht9 hW => ⟨⟨(-101), (wy, ps, rg, rs), rfl, Or.inl ⟨Or.inl c_3, rfl, rfl, rfl⟩, by rw [ht9]; exact hP, hD⟩, hS.F ht9⟩) hS.2.2 d_X_effective_21
  · have c_3 := bl_t hw_2 c_3
    refine lv_iload_n hx hb d_X_effective_7 rfl (lv_at hl 2 rfl) ?_
    refine lv_i2l (v := wh.toInt64) hx hb d_X_effective_8 rfl ?_
    refine lv_lconst (v := 0) hx hb d_X_effective_9 (by decide) ?_
    refine lv_ldc2 (v := 49) hx hb hown (ht _ tk_57) d_X_effective_10 ?_
    refine vp_callSi (W.runS (As := [.long wh.toInt64, .long 0, .long 49]) (rest := []) ⟨hx, hb, hml, hown, ht⟩ (c_X_outside l wh.toInt64 0 49) (cS_ 3 ht tk_60 tk_58 tk_1 tk_59 hd_X_outside ⟨Nat.le_of_ble_eq_true rfl, Nat.le_of_ble_eq_true rfl⟩) ⟨fun _ _ _ _ q => q, fun _ _ _ => ⟨rfl, trivial⟩⟩ rfl rfl hl.1 rfl (lv_room (Nat.le_of_ble_eq_true rfl)) d_X_effective_13 ⟨Nat.le_of_ble_eq_true rfl, Nat.le_of_ble_eq_true rfl⟩) (fun r_4 hw_5 => ?_)
    refine lv_if_eq (tgt := 22) hx hb d_X_effective_16 (by decide) (fun c_6 => ?_) (fun c_6 => ?_)
    · have c_6 := bl_f hw_5 c_6
      refine lv_iload_n hx hb d_X_effective_22 rfl (lv_at hl 3 rfl) ?_
      refine lv_i2l (v := kd.toInt64) hx hb d_X_effective_23 rfl ?_
      refine lv_lconst (v := 0) hx hb d_X_effective_24 (by decide) ?_
      refine lv_ldc2 (v := 2) hx hb hown (ht _ tk_191) d_X_effective_25 ?_
      refine vp_callSi (W.runS (As := [.long kd.toInt64, .long 0, .long 2]) (rest := []) ⟨hx, hb, hml, hown, ht⟩ (c_X_outside l kd.toInt64 0 2) (cS_ 3 ht tk_60 tk_58 tk_1 tk_59 hd_X_outside ⟨Nat.le_of_ble_eq_true rfl, Nat.le_of_ble_eq_true rfl⟩) ⟨fun _ _ _ _ q => q, fun _ _ _ => ⟨rfl, trivial⟩⟩ rfl rfl hl.1 rfl (lv_room (Nat.le_of_ble_eq_true rfl)) d_X_effective_28 ⟨Nat.le_of_ble_eq_true rfl, Nat.le_of_ble_eq_true rfl⟩) (fun r_7 hw_8 => ?_)
      refine lv_if_ne (tgt := 46) hx hb d_X_effective_31 (by decide) (fun c_9 => ?_) (fun c_9 => ?_)
      · have c_9 := bl_t hw_8 c_9
        refine lv_bipush (v := (-102)) hx hb d_X_effective_46 (by decide) ?_
        rw [hQe]
        exact W.iret (v := (-102)) hx hb hr (fun t9 ht9 hW => ⟨⟨(-102), (wy, ps, rg, rs), rfl, Or.inr (Or.inl ⟨(fun h9 => h9.elim (fun h8 => h8 c_3) (fun h8 => c_6 h8)), Or.inl c_9, rfl, rfl, rfl⟩), by rw [ht9]; exact hP, hD⟩, hS.F ht9⟩) hS.2.2 d_X_effective_48
      · have c_9 := bl_f hw_8 c_9
        refine lv_lload hx hb d_X_effective_34 (lv_at hl 4 rfl) ?_
        refine lv_lconst (v := 0) hx hb d_X_effective_36 (by decide) ?_
        refine lv_ldc2 (v := 20000) hx hb hown (ht _ tk_61) d_X_effective_37 ?_
        refine vp_callSi (W.runS (As := [.long dy, .long 0, .long 20000]) (rest := []) ⟨hx, hb, hml, hown, ht⟩ (c_X_outside l dy 0 20000) (cS_ 3 ht tk_60 tk_58 tk_1 tk_59 hd_X_outside ⟨Nat.le_of_ble_eq_true rfl, Nat.le_of_ble_eq_true rfl⟩) ⟨fun _ _ _ _ q => q, fun _ _ _ => ⟨rfl, trivial⟩⟩ rfl rfl hl.1 rfl (lv_room (Nat.le_of_ble_eq_true rfl)) d_X_effective_40 ⟨Nat.le_of_ble_eq_true rfl, Nat.le_of_ble_eq_true rfl⟩) (fun r_10 hw_11 => ?_)
        refine lv_if_eq (tgt := 49) hx hb d_X_effective_43 (by decide) (fun c_12 => ?_) (fun c_12 => ?_)
        · have c_12 := bl_f hw_11 c_12
          have hnu : ¬ unkE en wh := fun h9 => h9.elim (fun h8 => h8 c_3) (fun h8 => c_6 h8)
          have hno : ¬ outE kd dy := fun h9 => h9.elim (fun h8 => c_9 h8) (fun h8 => c_12 h8)
          have hen := adr_of c_3
          have loop2 : ∀ (z : Nat) (i : Nat) (wy ps : Nat → Int32) (H : Heap) (locs : List Loc) (ls : Array Slot), (i + z = 100) → (∀ j, j < i → go1 (fzC n K E P F U X rk wh kd dy) K T en j) → (∀ x, 1 ≤ x → x ≤ 99 → (ps x = 0 ↔ ∀ j, j < i → ¬ pth (fzC n K E P F U X rk wh kd dy) T en j = nI x)) → (∀ j, j < i → wy j = pth (fzC n K E P F U X rk wh kd dy) T en j) → (∀ j, j ≤ i → ∃ x, 1 ≤ x ∧ x ≤ 99 ∧ pth (fzC n K E P F U X rk wh kd dy) T en j = nI x) → va_P D classes (cW g cs n now ad K E P T V F U M X rk wy ps rg rs) H → va_D A (cW g cs n now ad K E P T V F U M X rk wy ps rg rs) → va_S A s.heap H locs → lv_has ls 9 [(6, .int (pth (fzC n K E P F U X rk wh kd dy) T en i)), (7, .int (nI i)), (0, .ref (g 0)), (2, .int wh), (3, .int kd), (4, .long dy)] → W p l e ({ frames := 3, cells := 0, slots := 0, locals := 75 } : Room) s m ([.ref (g 0), .int en, .int wh, .int kd, .long dy] : List Value).toArray below meth c H locs 0 0 Q (F0 m 79 ls []) := by
            intro z
            induction z with
            | zero =>
              intro i wy ps H locs ls hi hgo hps hwy hrg hP hD hS hl
              have hi99 : i ≤ 99 := pth_le (fun j hj => hrg j (by omega)) (fun j hj => (hgo j hj).2.2)
              omega
            | succ z ih =>
              intro i wy ps H locs ls hi hgo hps hwy hrg hP hD hS hl
              have hi99 : i ≤ 99 := pth_le (fun j hj => hrg j (by omega)) (fun j hj => (hgo j hj).2.2)
              obtain ⟨x, hx1, hx2, hpx⟩ := hrg i (Nat.le_refl i)
              rw [hpx] at hl
              refine lv_aload_n hx hb d_X_effective_79 rfl (lv_at hl 2 rfl) ?_
              refine va_get (D := D) (ci := 3) (C := R_X) (T := F_X) (N := 8) (v := .ref (g 4)) hx hb ht i_X hown hK hP 0 rfl rfl 5 (by decide) (ht _ tk_24) (fun _ h9 => h9) rfl d_X_effective_80 ?_
              refine lv_iload hx hb d_X_effective_83 (lv_at hl 0 rfl) ?_
              refine vi_zald (k := x) (f := ps) hx hb hK hP 4 1 rfl rfl (by omega) (by omega) d_X_effective_85 ?_
              refine lv_if_ne (tgt := 153) hx hb d_X_effective_86 (by decide) (fun c_13 => ?_) (fun c_13 => ?_)
              · have hex : ∃ j, j < i ∧ wy j = nI x := by
                  apply Classical.byContradiction
                  intro h9
                  refine c_13 ((hps x hx1 hx2).mpr (fun j hj e9 => h9 ⟨j, hj, ?_⟩))
                  rw [hwy j hj, e9]
                refine lv_aload_n hx hb d_X_effective_153 rfl (lv_at hl 2 rfl) ?_
                refine lv_iload hx hb d_X_effective_154 (lv_at hl 0 rfl) ?_
                refine lv_iload hx hb d_X_effective_156 (lv_at hl 1 rfl) ?_
                have hFc := freeW hD hS hA
                refine va_calli (va_runV (C := R_X) (As := [.int (nI x), .int (nI i)]) (rest := []) ⟨hx, hb, hml, hown, ht⟩ (c_X_tellRing l (nI x) i D g cs n now ad K E P T V F U M X rk wy ps rg rs (by omega) hex _) (cV_ 2 ht tk_233 tk_230 tk_1 tk_232 ts_X_tellRing hd_X_tellRing ⟨Nat.le_of_ble_eq_true rfl, Nat.le_of_ble_eq_true rfl⟩) ⟨fun _ _ _ _ q => ⟨q.1, q.2.1, q.2.2.1, KK.call q.2.2.2.1, q.2.2.2.2⟩, va_recv (ci := 3) (q0 := 0) hK hP rfl rfl, fun U hU hW => ⟨rfl, by rw [hU], by rw [hU]; exact hP, KK.warm hK hN hW, hD.weaken (fun _ _ _ _ => trivial)⟩⟩ rfl rfl hl.1 rfl (lv_room (Nat.le_of_ble_eq_true rfl)) d_X_effective_158 ⟨Nat.le_of_ble_eq_true rfl, Nat.le_of_ble_eq_true rfl⟩) hS (fun q _ h => hFc q h) hFc (fun r_14 u_16 t1 H locs ht1 hvm hw_15 hB hz1 hkp hS => ?_)
                obtain ⟨hP, hD⟩ := hB
                rw [ht1] at hP
                have hD := hD.weaken (fun k q _ h => hFc q.1 h)
                obtain ⟨f, hf1, hf2, hf3, hf4⟩ := hw_15
                subst hf3
                rw [hQe]
                exact W.iret (v := (-1)) hx hb hr (fun t9 ht9 hW => ⟨⟨(-1), (wy, ps, u_16.2, u_16.1), rfl, Or.inr (Or.inr ⟨hnu, hno, i, hgo, Or.inr (Or.inr ⟨f, hf1, by rw [hpx, ← hf2, hwy f hf1], rfl, by rw [hf4], hi99, fun j hj => by rw [hf4]; show va_cpy wy rg f 0 (i - f) j = _; rw [pk_cpy_in (by omega) (by omega), Nat.sub_zero, hwy _ (by omega)]⟩)⟩), by rw [ht9]; exact hP, hD⟩, hS.F ht9⟩) hS.2.2 d_X_effective_161
              · have hdis : ∀ k, k < i → ¬ pth (fzC n K E P F U X rk wh kd dy) T en k = nI x := (hps x hx1 hx2).mp c_13
                refine lv_aload_n hx hb d_X_effective_89 rfl (lv_at hl 2 rfl) ?_
                refine lv_iload hx hb d_X_effective_90 (lv_at hl 0 rfl) ?_
                refine lv_iload_n hx hb d_X_effective_92 rfl (lv_at hl 3 rfl) ?_
                refine lv_iload_n hx hb d_X_effective_93 rfl (lv_at hl 4 rfl) ?_
                refine lv_lload hx hb d_X_effective_94 (lv_at hl 5 rfl) ?_
                refine va_csq (W.runV (C := R_X) (As := [.int (nI x), .int wh, .int kd, .long dy]) (rest := []) ⟨hx, hb, hml, hown, ht⟩ (c_X_find l (nI x) wh kd dy D g cs n now ad K E P T V F U M X rk wy ps rg rs hn hKr) (cV_ 4 ht tk_195 tk_192 tk_1 tk_194 ts_X_find hd_X_find ⟨Nat.le_of_ble_eq_true rfl, Nat.le_of_ble_eq_true rfl⟩) ⟨fun _ _ _ _ q => ⟨q.1, q.2.1, KK.call q.2.2⟩, va_recv (ci := 3) (q0 := 0) hK hP rfl rfl, fun U hU hW => ⟨rfl, by rw [hU]; exact hP, KK.warm hK hN hW⟩⟩ rfl rfl hl.1 rfl (lv_room (Nat.le_of_ble_eq_true rfl)) d_X_effective_96 ⟨Nat.le_of_ble_eq_true rfl, Nat.le_of_ble_eq_true rfl⟩) (fun r_17 hw_18 => ?_)
                subst hw_18
                show W p l e _ s m _ below meth c H locs 0 0 Q (F0 m 99 ls [va_rf (ob ad (fzC n K E P F U X rk wh kd dy (nI x)))])
                by_cases hb0 : fzC n K E P F U X rk wh kd dy (nI x) = 0
                · rw [ob_0 hb0]
                  refine lv_astoreN (lv' := [(8, .null), (6, .int (nI x)), (7, .int (nI i)), (0, .ref (g 0)), (2, .int wh), (3, .int kd), (4, .long dy)]) hx hb d_X_effective_99 hl (by decide) rfl (fun ls hl => ?_)
                  refine lv_aloadN hx hb d_X_effective_101 (lv_at hl 0 rfl) ?_
                  refine lv_ifnonnullN hx hb d_X_effective_103 ?_
                  refine lv_iload hx hb d_X_effective_106 (lv_at hl 1 rfl) ?_
                  rw [hQe]
                  exact W.iret (v := nI x) hx hb hr (fun t9 ht9 hW => ⟨⟨nI x, (wy, ps, rg, rs), rfl, Or.inr (Or.inr ⟨hnu, hno, i, hgo, Or.inl ⟨by rw [hpx]; exact hdis, by rw [hpx]; exact hb0, hpx.symm, rfl, rfl⟩⟩), by rw [ht9]; exact hP, hD⟩, hS.F ht9⟩) hS.2.2 d_X_effective_108
                · rw [ob_s hb0]
                  have hbn : fzC n K E P F U X rk wh kd dy (nI x) ≤ n := fzC_le
                  obtain ⟨b, hbe⟩ : ∃ b, b = fzC n K E P F U X rk wh kd dy (nI x) := ⟨_, rfl⟩
                  rw [← hbe] at hb0 hbn ⊢
                  obtain ⟨hg1, hg2, hg3⟩ := gt_send (hT b (by omega) hbn)
                  refine lv_astore (lv' := [(8, .ref (ad b)), (6, .int (nI x)), (7, .int (nI i)), (0, .ref (g 0)), (2, .int wh), (3, .int kd), (4, .long dy)]) hx hb d_X_effective_99 hl (by decide) rfl (fun ls hl => ?_)
                  refine lv_aload hx hb d_X_effective_101 (lv_at hl 0 rfl) ?_
                  refine lv_ifnonnull (tgt := 109) hx hb d_X_effective_103 (by decide) ?_
                  refine lv_aload hx hb d_X_effective_109 (lv_at hl 0 rfl) ?_
                  have hPo_23 := hP.one (cW_at (k := b) (by omega) hbn)
                  refine vp_callSi (va_runU (C := C_o (cx (K b))) (As := []) (rest := []) ⟨hx, hb, hml, hown, ht⟩ (c_O_sendsOn l (K b) (E b) (P b) (F b) (U b) (M b) (V b) (X b) (T b)  (cx (K b)) (cx_lt _) D cs (ad b)) (cU_ 0 ht tk_216 tk_210 tk_3 tk_211 tk_212 (se_O_sendsOn (cx_lt _)) (va_Decl.of (ht _ tk_211) (ht _ tk_216)) hd_O_sendsOn.2.2 ⟨Nat.le_of_ble_eq_true rfl, Nat.le_of_ble_eq_true rfl⟩) ⟨fun _ _ _ _ q => ⟨q.1, q.2.1, KK.call q.2.2⟩, va_recv (q0 := (5 + b)) hK hP (cl_o (cx_lt _)) (cW_at (k := b) (by omega) hbn), fun U hU hW => ⟨rfl, by rw [hU]; exact hPo_23, KK.warm hK hN hW⟩⟩ rfl rfl hl.1 rfl (lv_room (Nat.le_of_ble_eq_true rfl)) d_X_effective_111 ⟨Nat.le_of_ble_eq_true rfl, Nat.le_of_ble_eq_true rfl⟩).run (fun r_21 hw_22 => ?_)
                  refine lv_if_ne (tgt := 123) hx hb d_X_effective_114 (by decide) (fun c_24 => ?_) (fun c_24 => ?_)
                  · have c_24 := bl_t hw_22 c_24
                    have hk3 : K b < 3 := hg1.mp c_24
                    refine lv_aload_n hx hb d_X_effective_123 rfl (lv_at hl 3 rfl) ?_
                    refine va_get (D := D) (ci := 3) (C := R_X) (T := F_X) (N := 8) (v := .ref (g 4)) hx hb ht i_X hown hK hP 0 rfl rfl 5 (by decide) (ht _ tk_24) (fun _ h9 => h9) rfl d_X_effective_124 ?_
                    refine lv_iload hx hb d_X_effective_127 (lv_at hl 1 rfl) ?_
                    refine lv_iconst (v := 1) hx hb d_X_effective_129 (by decide) ?_
                    refine vi_zast (k := x) (f := ps) (x := 1) hx hb hK hP hD hS 4 1 rfl rfl (by omega) (by omega) d_X_effective_130 (fun H locs hP hD hS => ?_)
                    have hP : va_P D classes (cW g cs n now ad K E P T V F U M X rk wy (upd ps x (vp_nar .boolean 1)) rg rs) H := hP
                    have hD : va_D A (cW g cs n now ad K E P T V F U M X rk wy (upd ps x (vp_nar .boolean 1)) rg rs) := hD
                    refine lv_aload_n hx hb d_X_effective_131 rfl (lv_at hl 3 rfl) ?_
                    refine va_get (D := D) (ci := 3) (C := R_X) (T := F_X) (N := 8) (v := .ref (g 3)) hx hb ht i_X hown hK hP 0 rfl rfl 4 (by decide) (ht _ tk_23) (fun _ h9 => h9) rfl d_X_effective_132 ?_
                    refine lv_iload hx hb d_X_effective_135 (lv_at hl 2 rfl) ?_
                    refine lv_iload hx hb d_X_effective_137 (lv_at hl 1 rfl) ?_
                    refine vi_iast (k := i) (f := wy) (x := nI x) hx hb hK hP hD hS 3 0 rfl rfl (by omega) (by omega) d_X_effective_139 (fun H locs hP hD hS => ?_)
                    have hP : va_P D classes (cW g cs n now ad K E P T V F U M X rk (upd wy i (nI x)) (upd ps x (vp_nar .boolean 1)) rg rs) H := hP
                    have hD : va_D A (cW g cs n now ad K E P T V F U M X rk (upd wy i (nI x)) (upd ps x (vp_nar .boolean 1)) rg rs) := hD
                    refine lv_iinc (v := nI (i + 1)) (lv' := [(7, .int (nI (i + 1))), (8, .ref (ad b)), (6, .int (nI x)), (0, .ref (g 0)), (2, .int wh), (3, .int kd), (4, .long dy)]) hx hb d_X_effective_140 hl (k := 2) rfl (show nI (i) + 1 = _ from nI_1 (i)) (by decide) rfl (fun ls hl => ?_)
                    refine lv_aload hx hb d_X_effective_143 (lv_at hl 1 rfl) ?_
                    refine w_goesTo (i := (5 + b)) (D := D) (cs := cs) hx hb (hml.trans hl.1.symm) hown ht hK hN hP (cW_at (k := b) (by omega) hbn) (cx_lt _) tk_229 ⟨Nat.le_of_ble_eq_true rfl, Nat.le_of_ble_eq_true rfl⟩ (lv_room (Nat.le_of_ble_eq_true rfl)) d_X_effective_145 ⟨Nat.le_of_ble_eq_true rfl, Nat.le_of_ble_eq_true rfl⟩ ?_
                    rw [hg2 hk3]
                    refine lv_istore (lv' := [(6, .int (T b)), (7, .int (nI (i + 1))), (8, .ref (ad b)), (0, .ref (g 0)), (2, .int wh), (3, .int kd), (4, .long dy)]) hx hb d_X_effective_148 hl (by decide) rfl (fun ls hl => ?_)
                    refine lv_goto (tgt := 79) hx hb d_X_effective_150 (by decide) ?_
                    have hnx : pth (fzC n K E P F U X rk wh kd dy) T en (i + 1) = T b := by show T ((fzC n K E P F U X rk wh kd dy) (pth (fzC n K E P F U X rk wh kd dy) T en i)) = T b; rw [hpx]; exact hbe ▸ rfl
                    refine ih (i + 1) _ _ H locs ls (by omega) (fun j hj => ?_) (fun y hy1 hy2 => ?_) (fun j hj => ?_) (fun j hj => ?_) hP hD hS (by rw [hnx]; exact lv_sub hl [0, 1, 3, 4, 5, 6] rfl)
                    · rcases Nat.lt_or_ge j i with h | h
                      · exact hgo j h
                      · rw [show j = i by omega]
                        refine ⟨?_, ?_, ?_⟩
                        · rw [hpx]; exact hbe ▸ hb0
                        · rw [hpx]; exact hbe ▸ hk3
                        · rw [hpx]; exact hdis
                    · by_cases hy : y = x
                      · subst hy
                        rw [pk_us]
                        exact ⟨fun h => absurd h (by decide), fun h => absurd hpx (h i (by omega))⟩
                      · rw [pk_un hy, hps y hy1 hy2]
                        refine ⟨fun h j hj => ?_, fun h j hj => h j (by omega)⟩
                        rcases Nat.lt_or_ge j i with h8 | h8
                        · exact h j h8
                        · rw [show j = i by omega, hpx]
                          exact fun e9 => hy ((nI_eq (by omega) (by omega)).mp e9).symm
                    · rcases Nat.lt_or_ge j i with h | h
                      · rw [pk_un (by omega)]; exact hwy j h
                      · rw [show j = i by omega, pk_us, hpx]
                    · rcases Nat.lt_or_ge j (i + 1) with h | h
                      · exact hrg j (by omega)
                      · rw [show j = i + 1 by omega, hnx]
                        exact hT b (by omega) hbn hk3
                  · have c_24 := bl_f hw_22 c_24
                    refine lv_aload hx hb d_X_effective_117 (lv_at hl 0 rfl) ?_
                    refine w_goesTo (i := (5 + b)) (D := D) (cs := cs) hx hb (hml.trans hl.1.symm) hown ht hK hN hP (cW_at (k := b) (by omega) hbn) (cx_lt _) tk_229 ⟨Nat.le_of_ble_eq_true rfl, Nat.le_of_ble_eq_true rfl⟩ (lv_room (Nat.le_of_ble_eq_true rfl)) d_X_effective_119 ⟨Nat.le_of_ble_eq_true rfl, Nat.le_of_ble_eq_true rfl⟩ ?_
                    have hk3 : ¬ K b < 3 := fun h9 => c_24 (hg1.mpr h9)
                    rw [hQe]
                    exact W.iret (v := gt (cx (K b)) (T b)) hx hb hr (fun t9 ht9 hW => ⟨⟨gt (cx (K b)) (T b), (wy, ps, rg, rs), rfl, Or.inr (Or.inr ⟨hnu, hno, i, hgo, Or.inr (Or.inl ⟨by rw [hpx]; exact hdis, by rw [hpx]; exact hbe ▸ hb0, by rw [hpx]; exact hbe ▸ hk3, by rw [hpx]; exact hbe ▸ hg3 hk3, rfl, rfl⟩)⟩), by rw [ht9]; exact hP, hD⟩, hS.F ht9⟩) hS.2.2 d_X_effective_122
          have loop1 : ∀ (z : Nat) (j : Nat) (H : Heap) (locs : List Loc) (ls : Array Slot), (j + z = 100) → va_P D classes (cW g cs n now ad K E P T V F U M X rk wy (zf ps j) rg rs) H → va_D A (cW g cs n now ad K E P T V F U M X rk wy (zf ps j) rg rs) → va_S A s.heap H locs → lv_has ls 9 [(6, .int (nI j)), (0, .ref (g 0)), (1, .int en), (2, .int wh), (3, .int kd), (4, .long dy)] → W p l e ({ frames := 3, cells := 0, slots := 0, locals := 75 } : Room) s m ([.ref (g 0), .int en, .int wh, .int kd, .long dy] : List Value).toArray below meth c H locs 0 0 Q (F0 m 52 ls []) := by
            intro z
            induction z with
            | zero =>
              intro j H locs ls hj hP hD hS hl
              refine lv_iload hx hb d_X_effective_52 (lv_at hl 0 rfl) ?_
              refine lv_bipush (v := 99) hx hb d_X_effective_54 (by decide) ?_
              refine lv_icmp_gt (tgt := 73) hx hb d_X_effective_56 (by decide) (fun c_25 => ?_) (fun c_25 => ?_)
              · refine lv_iload_n hx hb d_X_effective_73 rfl (lv_at hl 2 rfl) ?_
                refine lv_istore (lv' := [(6, .int en), (0, .ref (g 0)), (1, .int en), (2, .int wh), (3, .int kd), (4, .long dy)]) hx hb d_X_effective_74 hl (by decide) rfl (fun ls hl => ?_)
                refine lv_iconst (v := 0) hx hb d_X_effective_76 (by decide) ?_
                refine lv_istore (lv' := [(7, .int 0), (6, .int en), (0, .ref (g 0)), (1, .int en), (2, .int wh), (3, .int kd), (4, .long dy)]) hx hb d_X_effective_77 hl (by decide) rfl (fun ls hl => ?_)
                have hj1 : j = 100 := by omega
                obtain ⟨x0, hx1, hx2, hx3⟩ := hen
                refine loop2 100 0 wy (zf ps j) H locs ls (by omega) (fun j1 h1 => absurd h1 (by omega)) (fun y h1 h2 => ⟨fun _ j1 h3 => absurd h3 (by omega), fun _ => if_pos (by omega)⟩) (fun j1 h1 => absurd h1 (by omega)) (fun j1 h1 => ?_) hP hD hS (lv_sub hl [1, 0, 2, 4, 5, 6] rfl)
                rw [show j1 = 0 by omega]
                exact ⟨x0, hx1, hx2, hx3⟩
              · exact absurd (show (99 : Int32) < nI j from nI_lt (a := 99) (by omega) (by omega)) c_25
            | succ z ih =>
              intro j H locs ls hj hP hD hS hl
              refine lv_iload hx hb d_X_effective_52 (lv_at hl 0 rfl) ?_
              refine lv_bipush (v := 99) hx hb d_X_effective_54 (by decide) ?_
              refine lv_icmp_gt (tgt := 73) hx hb d_X_effective_56 (by decide) (fun c_26 => ?_) (fun c_26 => ?_)
              · exact absurd c_26 (show ¬ (99 : Int32) < nI j from nI_nlt (a := 99) (by omega) (by omega))
              · refine lv_aload_n hx hb d_X_effective_59 rfl (lv_at hl 1 rfl) ?_
                refine va_get (D := D) (ci := 3) (C := R_X) (T := F_X) (N := 8) (v := .ref (g 4)) hx hb ht i_X hown hK hP 0 rfl rfl 5 (by decide) (ht _ tk_24) (fun _ h9 => h9) rfl d_X_effective_60 ?_
                refine lv_iload hx hb d_X_effective_63 (lv_at hl 0 rfl) ?_
                refine lv_iconst (v := 0) hx hb d_X_effective_65 (by decide) ?_
                refine vi_zast (k := j) (f := zf ps j) (x := 0) hx hb hK hP hD hS 4 1 rfl rfl (by omega) (by omega) d_X_effective_66 (fun H locs hP hD hS => ?_)
                have hP : va_P D classes (cW g cs n now ad K E P T V F U M X rk wy (upd (zf ps j) j (vp_nar .boolean 0)) rg rs) H := hP
                have hD : va_D A (cW g cs n now ad K E P T V F U M X rk wy (upd (zf ps j) j (vp_nar .boolean 0)) rg rs) := hD
                rw [zf_s] at hP hD
                refine lv_iinc (v := nI (j + 1)) (lv' := [(6, .int (nI (j + 1))), (0, .ref (g 0)), (1, .int en), (2, .int wh), (3, .int kd), (4, .long dy)]) hx hb d_X_effective_67 hl (k := 0) rfl (show nI (j) + 1 = _ from nI_1 (j)) (by decide) rfl (fun ls hl => ?_)
                refine lv_goto (tgt := 52) hx hb d_X_effective_70 (by decide) ?_
                exact ih (j + 1) H locs ls (by omega) hP hD hS (lv_sub hl [0, 1, 2, 3, 4, 5] rfl)
          refine lv_iconst (v := 0) hx hb d_X_effective_49 (by decide) ?_
          refine lv_istore (lv' := [(6, .int 0), (0, .ref (g 0)), (1, .int en), (2, .int wh), (3, .int kd), (4, .long dy)]) hx hb d_X_effective_50 hl (by decide) rfl (fun ls hl => ?_)
          exact loop1 100 0 s.heap [] ls (by omega) (by rw [zf_0]; exact hP) (by rw [zf_0]; exact hD) hS (lv_sub hl [0, 1, 2, 3, 4, 5] rfl)
        · have c_12 := bl_t hw_11 c_12
          refine lv_bipush (v := (-102)) hx hb d_X_effective_46 (by decide) ?_
          rw [hQe]
          exact W.iret (v := (-102)) hx hb hr (fun t9 ht9 hW => ⟨⟨(-102), (wy, ps, rg, rs), rfl, Or.inr (Or.inl ⟨(fun h9 => h9.elim (fun h8 => h8 c_3) (fun h8 => c_6 h8)), Or.inr c_12, rfl, rfl, rfl⟩), by rw [ht9]; exact hP, hD⟩, hS.F ht9⟩) hS.2.2 d_X_effective_48
    · have c_6 := bl_t hw_5 c_6
      refine lv_bipush (v := (-101)) hx hb d_X_effective_19 (by decide) ?_
      rw [hQe]
      exact W.iret (v := (-101)) hx hb hr (fun t9 ht9 hW => ⟨⟨(-101), (wy, ps, rg, rs), rfl, Or.inl ⟨Or.inr c_6, rfl, rfl, rfl⟩, by rw [ht9]; exact hP, hD⟩, hS.F ht9⟩) hS.2.2 d_X_effective_21
end
section
theorem at_last {α : Type} (ws : List α) (x : α) : (ws ++ [x])[ws.length]? = some x := by simp
theorem set_last {α : Type} (ws : List α) (x y : α) : (ws ++ [x]).set ws.length y = ws ++ [y] := by simp
theorem og_push {n : Nat} {ad : Nat → Nat} {q : Nat} : va_up (og n ad) (n + 1) (some q) = og (n + 1) (va_up ad (n + 1) q) := by
  funext k
  by_cases h : k = n + 1
  · subst h
    rw [va_up_self]
    unfold og
    rw [if_pos ⟨by omega, by omega⟩, va_up_self]
  · rw [va_up_ne _ _ h]
    unfold og
    rw [va_up_ne _ _ h]
    by_cases c : 1 ≤ k ∧ k ≤ n
    · rw [if_pos c, if_pos ⟨c.1, by omega⟩]
    · rw [if_neg c, if_neg (fun d => c ⟨d.1, by omega⟩)]
theorem cL_push {n : Nat} {ad : Nat → Nat} {K E P T V : Nat → Int32} {F U M X : Nat → Int64} {q : Nat} {k e w t v : Int32} {f u m x : Int64} : cL n ad K E P T V F U M X ++ [(q, .inr (cx k, oF (cx k) k e w f u m v x t))] = cL (n + 1) (va_up ad (n + 1) q) (upd K (n + 1) k) (upd E (n + 1) e) (upd P (n + 1) w) (upd T (n + 1) t) (upd V (n + 1) v) (vp_updL F (n + 1) f) (vp_updL U (n + 1) u) (vp_updL M (n + 1) m) (vp_updL X (n + 1) x) := by
  unfold cL
  rw [List.range_succ, List.map_append]
  congr 1
  · apply List.map_congr_left
    intro j hj
    have hj : j + 1 ≠ n + 1 := by
      have := List.mem_range.mp hj
      omega
    simp only [oe, va_up_ne _ _ hj, pk_un hj, pk_uLn hj]
  · simp only [List.map_cons, List.map_nil, oe, va_up_self, pk_us, pk_uLs]
/-- an order may not be made: unknown, outside -/
abbrev sndO (kd : Int32) : Prop := (¬ kd < 0 ∧ ¬ 9 ≤ kd) ∧ ¬ 3 ≤ kd
abbrev adrO (a : Int32) : Prop := ¬ a ≤ 0 ∧ ¬ 99 < a
abbrev unkO (kd en wh to : Int32) : Prop := ¬ adrO en ∨ (wh.toInt64 < -1 ∨ ¬ wh.toInt64 ≤ 49) ∨ (sndO kd ∧ ¬ adrO to)
abbrev outO (kd en to : Int32) (fm un : Int64) : Prop := ¬ (¬ kd < 0 ∧ ¬ 9 ≤ kd) ∨ (fm < 0 ∨ ¬ fm ≤ un) ∨ 20000 < un ∨ (sndO kd ∧ to = en)
abbrev SO : Type := Nat × (Nat → Nat) × (Nat → Int32) × (Nat → Int32) × (Nat → Int32) × (Nat → Int32) × (Nat → Int32) × (Nat → Int64) × (Nat → Int64) × (Nat → Int64) × (Nat → Int64)
abbrev QordC (n : Nat) (now : Int64) (ad : Nat → Nat) (K E P T V : Nat → Int32) (F U M X : Nat → Int64) (kd en wh to : Int32) (fm un : Int64) (r : Int32) (u : SO) : Prop :=
  (unkO kd en wh to ∧ r = -101 ∧ u = (n, ad, K, E, P, T, V, F, U, M, X)) ∨ (¬ unkO kd en wh to ∧ outO kd en to fm un ∧ r = -102 ∧ u = (n, ad, K, E, P, T, V, F, U, M, X)) ∨
  (¬ unkO kd en wh to ∧ ¬ outO kd en to fm un ∧ nI n = 200 ∧ r = -104 ∧ u = (n, ad, K, E, P, T, V, F, U, M, X)) ∨
  (¬ unkO kd en wh to ∧ ¬ outO kd en to fm un ∧ ¬ nI n = 200 ∧ r = nI (n + 1) ∧ ∃ q, u = (n + 1, va_up ad (n + 1) q, upd K (n + 1) kd, upd E (n + 1) en, upd P (n + 1) wh, upd T (n + 1) (if kd < 3 then to else 0), upd V (n + 1) 0, vp_updL F (n + 1) fm, vp_updL U (n + 1) un, vp_updL M (n + 1) now, vp_updL X (n + 1) 1000000))
theorem cast_o {ci : Nat} {s : State} (h : ci < 3) (hN : Nx s) : ∀ comp c0 : ClassId, s.vm.findClass R_O = some comp → s.vm.findClass (C_o ci) = some c0 → s.vm.assignable c0 comp = true := by
  intro comp c0 h1 h2
  match ci, h, h2 with
  | 0, _, h2 =>
    obtain ⟨a, b, e1, e2, e3⟩ := Cond.castable_spec (Nx_382 (A := #[]) hN)
    cases (show some c0 = some a from h2.symm.trans e1)
    cases (show some comp = some b from h1.symm.trans e2)
    exact e3
  | 1, _, h2 =>
    obtain ⟨a, b, e1, e2, e3⟩ := Cond.castable_spec (Nx_383 (A := #[]) hN)
    cases (show some c0 = some a from h2.symm.trans e1)
    cases (show some comp = some b from h1.symm.trans e2)
    exact e3
  | 2, _, h2 =>
    obtain ⟨a, b, e1, e2, e3⟩ := Cond.castable_spec (Nx_384 (A := #[]) hN)
    cases (show some c0 = some a from h2.symm.trans e1)
    cases (show some comp = some b from h1.symm.trans e2)
    exact e3
theorem cx_nI (k : Nat) (h : k < 9) : cx (nI k) = k / 3 ∧ nI k / 3 = nI (k / 3) ∧ (nI k < 3 ↔ k < 3) := by
  have : ∀ k, k < 9 → (cx (nI k) = k / 3 ∧ nI k / 3 = nI (k / 3) ∧ (nI k < 3 ↔ k < 3)) := by decide +kernel
  exact this k h
set_option maxHeartbeats 4000000 in
set_option maxRecDepth 100000 in
/-- order(kind, entry, who, to, from, until) -/
theorem c_X_order (l : Launch) (kd : Int32) (en : Int32) (wh : Int32) (to : Int32) (fm : Int64) (un : Int64) (D : va_G) (g cs : Nat → Nat) (n : Nat) (now : Int64) (ad : Nat → Nat) (K E P T V : Nat → Int32) (F U M X : Nat → Int64) (rk wy ps rg : Nat → Int32) (rs : Int32) (hn : n ≤ 200) (sz : Nat) : Met l y_X_order (Cond.code y_X_order b_X_order 10 (some .int) :: wt) ({ frames := 3, cells := 1, slots := 9, locals := 73 }) (va_Pc [.ref (g 0), .int kd, .int en, .int wh, .int to, .long fm, .long un] (fun S0 => S0.heap.size = sz ∧ va_P D classes (cW g cs n now ad K E P T V F U M X rk wy ps rg rs) S0.heap ∧ KK D cs S0 ∧ va_D (fun _ => True) (cW g cs n now ad K E P T V F U M X rk wy ps rg rs))) (va_Qi (fun r u => QordC n now ad K E P T V F U M X kd en wh to fm un r u) (fun (u : SO) S1 => va_P D classes (cW g cs u.1 now u.2.1 u.2.2.1 u.2.2.2.1 u.2.2.2.2.1 u.2.2.2.2.2.1 u.2.2.2.2.2.2.1 u.2.2.2.2.2.2.2.1 u.2.2.2.2.2.2.2.2.1 u.2.2.2.2.2.2.2.2.2.1 u.2.2.2.2.2.2.2.2.2.2 rk wy ps rg rs) S1.heap ∧ va_D (va_A (cW g cs n now ad K E P T V F U M X rk wy ps rg rs) sz) (cW g cs u.1 now u.2.1 u.2.2.1 u.2.2.2.1 u.2.2.2.2.1 u.2.2.2.2.2.1 u.2.2.2.2.2.2.1 u.2.2.2.2.2.2.2.1 u.2.2.2.2.2.2.2.2.1 u.2.2.2.2.2.2.2.2.2.1 u.2.2.2.2.2.2.2.2.2.2 rk wy ps rg rs)) (va_A (cW g cs n now ad K E P T V F U M X rk wy ps rg rs) sz)) 1 9 (va_A (cW g cs n now ad K E P T V F U M X rk wy ps rg rs) sz) := by
  refine Met.ofW (cc := b_X_order) (maxL := 10) (ret := (some .int)) (by decide) rfl ?_
  intro p e s m args below meth c s₁ B hml hv
  obtain ⟨rfl, hsz, hP, ⟨hK, hN⟩, hD0⟩ := hv
  have hx := B.exec
  have hb := B.bytes
  have hr := B.returns
  have ht : ∀ w ∈ wt, w.before _ s = true := fun w h => atoms_spec (ws := _ :: wt) B.pre w (List.mem_cons_of_mem _ h)
  have hown : s.vm.findClass R_X = some m.cls := findClass_of_methodNamed B.named
  have hlocks := B.notSynchronized
  subst hsz
  have hD := hD0.self (sz := s.heap.size)
  generalize hAe : va_A (cW g cs n now ad K E P T V F U M X rk wy ps rg rs) s.heap.size = A at hD ⊢
  have hA : ∀ q : Nat, s.heap.size ≤ q → A q := fun q h => by rw [← hAe]; exact Or.inr h
  have hS : va_S A s.heap s.heap [] := va_S.rf
  have hl := lv_entry ([.ref (g 0), .int kd, .int en, .int wh, .int to, .long fm, .long un]) (n := 10) (Nat.le_of_ble_eq_true rfl)
  rw [lg_entry_eq]
  generalize (lg_sl ([.ref (g 0), .int kd, .int en, .int wh, .int to, .long fm, .long un]) ++ List.replicate (10 - (lg_sl ([.ref (g 0), .int kd, .int en, .int wh, .int to, .long fm, .long un])).length) Slot.unset).toArray = ls at hl ⊢
  have hl : lv_has ls 10 [(0, .ref (g 0)), (1, .int kd), (2, .int en), (3, .int wh), (4, .int to), (5, .long fm), (7, .long un)] := hl
  refine W.nameQ (fun Q hQe => ?_)
  have J97 : ∀ (ls : Array Slot), ¬ unkO kd en wh to → ¬ outO kd en to fm un → lv_has ls 10 [(0, .ref (g 0)), (1, .int kd), (2, .int en), (3, .int wh), (4, .int to), (5, .long fm), (7, .long un)] → W p l e ({ frames := 3, cells := 1, slots := 9, locals := 73 } : Room) s m ([.ref (g 0), .int kd, .int en, .int wh, .int to, .long fm, .long un] : List Value).toArray below meth c s.heap [] 0 0 Q (F0 m 97 ls []) := by
    intro ls hnu hno hl
    refine lv_aload_n hx hb d_X_order_97 rfl (lv_at hl 0 rfl) ?_
    refine va_get (D := D) (ci := 3) (C := R_X) (T := F_X) (N := 8) (v := .int (nI n)) hx hb ht i_X hown hK hP 0 rfl rfl 1 (by decide) (ht _ tk_20) (fun _ h9 => h9) rfl d_X_order_98 ?_
    refine lv_sipush (v := 200) hx hb d_X_order_101 (by decide) ?_
    refine lv_icmp_ne (tgt := 110) hx hb d_X_order_104 (by decide) (fun c_1 => ?_) (fun c_1 => ?_)
    · have hn1 : n < 200 := by
        rcases Nat.lt_or_ge n 200 with h9 | h9
        · exact h9
        · exact absurd (show nI n = 200 by rw [show n = 200 by omega]; rfl) c_1
      obtain ⟨k, hk9, rfl⟩ : ∃ k, k < 9 ∧ kd = nI k := kind_of (Classical.byContradiction (fun h9 => hno (Or.inl h9)))
      obtain ⟨hcx, hdv, hlt⟩ := cx_nI k hk9
      refine lv_aload_n hx hb d_X_order_110 rfl (lv_at hl 0 rfl) ?_
      refine lv_dup hx hb d_X_order_111 rfl ?_
      refine va_get (D := D) (ci := 3) (C := R_X) (T := F_X) (N := 8) (v := .int (nI n)) hx hb ht i_X hown hK hP 0 rfl rfl 1 (by decide) (ht _ tk_20) (fun _ h9 => h9) rfl d_X_order_112 ?_
      refine lv_iconst (v := 1) hx hb d_X_order_115 (by decide) ?_
      refine lv_iadd hx hb d_X_order_116 ?_
      rw [nI_1]
      refine va_put (D := D) (ci := 3) (C := R_X) (T := F_X) (N := 8) (v := .int (nI (n + 1))) (ty := .int) hx hb ht i_X t_X t_X_ok n_X hown hK hP hD hS 0 rfl rfl 1 (by decide) (ht _ tk_20) (fun _ h9 => h9) rfl (by decide +kernel) rfl rfl (Nat.le_of_ble_eq_true rfl) d_X_order_117 (fun H locs hP hD hS => ?_)
      have hP : va_P D classes (cF g cs (n + 1) now (og n ad) rk wy ps rg rs ++ cL n ad K E P T V F U M X) H := hP
      have hD : va_D A (cF g cs (n + 1) now (og n ad) rk wy ps rg rs ++ cL n ad K E P T V F U M X) := hD
      refine lv_iload_n hx hb d_X_order_120 rfl (lv_at hl 1 rfl) ?_
      refine lv_iconst (v := 3) hx hb d_X_order_121 (by decide) ?_
      refine lv_idiv hx hb d_X_order_122 (by decide) ?_
      rw [hdv]
      obtain hk | hk | hk : k / 3 = 0 ∨ k / 3 = 1 ∨ k / 3 = 2 := by omega
      · rw [hk] at hcx ⊢
        refine lv_lookup (off := 25) (tgt := 148) hx hb d_X_order_123 rfl (by decide) (by decide) ?_
        refine lv_aload_n hx hb d_X_order_148 rfl (lv_at hl 0 rfl) ?_
        refine va_get (D := D) (ci := 3) (C := R_X) (T := F_X) (N := 8) (v := .ref (g 1)) hx hb ht i_X hown hK hP 0 rfl rfl 0 (by decide) (ht _ tk_19) (fun _ h9 => h9) rfl d_X_order_149 ?_
        refine lv_aload_n hx hb d_X_order_152 rfl (lv_at hl 0 rfl) ?_
        refine va_get (D := D) (ci := 3) (C := R_X) (T := F_X) (N := 8) (v := .int (nI (n + 1))) hx hb ht i_X hown hK hP 0 rfl rfl 1 (by decide) (ht _ tk_20) (fun _ h9 => h9) rfl d_X_order_153 ?_
        refine va_new (ci := 0) (fs := oF 0 0 0 0 0 0 0 0 0 0) (C := R_F) (T := F_O) (N := 9) hx hb ht i_F t_O (fun k h => t_O_ok k (by omega)) hown (ht _ tk_62) (ht _ tk_63) (ht _ tk_4) hK hP hD hS hA rfl (fun j hj => by rcases (show j = 0 ∨ j = 1 ∨ j = 2 ∨ j = 3 ∨ j = 4 ∨ j = 5 ∨ j = 6 ∨ j = 7 ∨ j = 8 by omega) with rfl | rfl | rfl | rfl | rfl | rfl | rfl | rfl | rfl <;> rfl) (Nat.le_of_ble_eq_true rfl) (Nat.le_of_ble_eq_true rfl) d_X_order_156 (fun q H hP hD hS => ?_)
        refine W.widen (k := 1) (n := 9) (by omega) (by omega) ?_
        have hP : va_P D classes ((cF g cs (n + 1) now (og n ad) rk wy ps rg rs ++ cL n ad K E P T V F U M X) ++ [(q, .inr (0, oF 0 0 0 0 0 0 0 0 0 0))]) H := hP
        have hD : va_D A ((cF g cs (n + 1) now (og n ad) rk wy ps rg rs ++ cL n ad K E P T V F U M X) ++ [(q, .inr (0, oF 0 0 0 0 0 0 0 0 0 0))]) := hD
        refine lv_dup hx hb d_X_order_159 rfl ?_
        refine lv_iload_n hx hb d_X_order_160 rfl (lv_at hl 1 rfl) ?_
        refine lv_iload_n hx hb d_X_order_161 rfl (lv_at hl 2 rfl) ?_
        refine lv_iload_n hx hb d_X_order_162 rfl (lv_at hl 3 rfl) ?_
        refine lv_iload hx hb d_X_order_163 (lv_at hl 4 rfl) ?_
        refine lv_lload hx hb d_X_order_165 (lv_at hl 5 rfl) ?_
        refine lv_lload hx hb d_X_order_167 (lv_at hl 6 rfl) ?_
        refine lv_aload_n hx hb d_X_order_169 rfl (lv_at hl 0 rfl) ?_
        refine va_get (D := D) (ci := 3) (C := R_X) (T := F_X) (N := 8) (v := .long now) hx hb ht i_X hown hK hP 0 rfl rfl 3 (by decide) (ht _ tk_22) (fun _ h9 => h9) rfl d_X_order_170 ?_
        have hPo := hP.one (at_last (cF g cs (n + 1) now (og n ad) rk wy ps rg rs ++ cL n ad K E P T V F U M X) _)
        have hFc := free1 hD hS hA (at_last (cF g cs (n + 1) now (og n ad) rk wy ps rg rs ++ cL n ad K E P T V F U M X) _)
        refine va_callv (va_runI (As := [.int (nI k), .int en, .int wh, .int to, .long fm, .long un, .long now]) (rest := [.ref q, .int (nI (n + 1)), .ref (g 1)]) ⟨hx, hb, hml, hown, ht⟩ (c_F_init l 0 0 0 0 0 0 0 0 0 (nI k) en wh to fm un now D cs q _) (cI_ 7 ht tk_66 tk_64 tk_4 tk_65 rfl hd_F_init ⟨Nat.le_of_ble_eq_true rfl, Nat.le_of_ble_eq_true rfl⟩) ⟨fun _ _ _ _ q => ⟨q.1, q.2.1, q.2.2.1, KK.call q.2.2.2.1, q.2.2.2.2⟩, fun U0 hU hW => ⟨rfl, by rw [hU], by rw [hU]; exact hPo, KK.warm hK hN hW, va_D.one trivial⟩⟩ rfl rfl hl.1 rfl (lv_room (Nat.le_of_ble_eq_true rfl)) d_X_order_173 ⟨Nat.le_of_ble_eq_true rfl, Nat.le_of_ble_eq_true rfl⟩) hS (fun q _ h => hFc q h) hFc (fun u0 t1 H locs ht1 hvm hw0 hB hz1 hkp hS => ?_)
        obtain ⟨hP1, hD1⟩ := hB
        rw [ht1] at hP1
        obtain ⟨hP, hD⟩ := jn1 hP hD (at_last (cF g cs (n + 1) now (og n ad) rk wy ps rg rs ++ cL n ad K E P T V F U M X) _) hkp hP1
        rw [set_last] at hP hD
        have hP : va_P D classes ((cF g cs (n + 1) now (og n ad) rk wy ps rg rs ++ cL n ad K E P T V F U M X) ++ [(q, .inr (0, oF 0 (nI k) en wh fm un now 0 1000000 to))]) H := hP
        have hD : va_D A ((cF g cs (n + 1) now (og n ad) rk wy ps rg rs ++ cL n ad K E P T V F U M X) ++ [(q, .inr (0, oF 0 (nI k) en wh fm un now 0 1000000 to))]) := hD
        refine va_astqM (E := R_O) (cA := cs 3) (n := 201) (f := og n ad) hx hb hK hP hD hS 1 3 rfl rfl (va_rAny (ci := 0) (q0 := (cF g cs (n + 1) now (og n ad) rk wy ps rg rs ++ cL n ad K E P T V F U M X).length) hK hP (at_last (cF g cs (n + 1) now (og n ad) rk wy ps rg rs ++ cL n ad K E P T V F U M X) _) rfl (cast_o (ci := 0) (by decide) hN)) (vp_in_nI (by omega) (by omega)) d_X_order_176 (fun H locs hP hD hS => ?_)
        rw [nI_clamp (by omega), og_push] at hP hD
        have hci : cx (nI k) = 0 := hcx
        have htv : (if nI k < 3 then to else 0) = to := if_pos (hlt.mpr (by omega))
        have hP : va_P D classes (cW g cs (n + 1) now (va_up ad (n + 1) q) (upd K (n + 1) (nI k)) (upd E (n + 1) en) (upd P (n + 1) wh) (upd T (n + 1) (if nI k < 3 then to else 0)) (upd V (n + 1) 0) (vp_updL F (n + 1) fm) (vp_updL U (n + 1) un) (vp_updL M (n + 1) now) (vp_updL X (n + 1) 1000000) rk wy ps rg rs) H := by
          unfold cW
          rw [← cL_push (v := 0), ← List.append_assoc, hci, htv]
          exact hP
        have hD : va_D A (cW g cs (n + 1) now (va_up ad (n + 1) q) (upd K (n + 1) (nI k)) (upd E (n + 1) en) (upd P (n + 1) wh) (upd T (n + 1) (if nI k < 3 then to else 0)) (upd V (n + 1) 0) (vp_updL F (n + 1) fm) (vp_updL U (n + 1) un) (vp_updL M (n + 1) now) (vp_updL X (n + 1) 1000000) rk wy ps rg rs) := by
          unfold cW
          rw [← cL_push (v := 0), ← List.append_assoc, hci, htv]
          exact hD
        refine lv_goto (tgt := 237) hx hb d_X_order_177 (by decide) ?_
        refine lv_aload_n hx hb d_X_order_237 rfl (lv_at hl 0 rfl) ?_
        refine va_get (D := D) (ci := 3) (C := R_X) (T := F_X) (N := 8) (v := .int (nI (n + 1))) hx hb ht i_X hown hK hP 0 rfl rfl 1 (by decide) (ht _ tk_20) (fun _ h9 => h9) rfl d_X_order_238 ?_
        rw [hQe]
        exact W.iret (v := nI (n + 1)) hx hb hr (fun t9 ht9 hW => ⟨⟨nI (n + 1), (n + 1, va_up ad (n + 1) q, upd K (n + 1) (nI k), upd E (n + 1) en, upd P (n + 1) wh, upd T (n + 1) (if nI k < 3 then to else 0), upd V (n + 1) 0, vp_updL F (n + 1) fm, vp_updL U (n + 1) un, vp_updL M (n + 1) now, vp_updL X (n + 1) 1000000), rfl, Or.inr (Or.inr (Or.inr ⟨hnu, hno, c_1, rfl, q, rfl⟩)), by rw [ht9]; exact hP, hD⟩, hS.F ht9⟩) hS.2.2 d_X_order_241
      · rw [hk] at hcx ⊢
        refine lv_lookup (off := 57) (tgt := 180) hx hb d_X_order_123 rfl (by decide) (by decide) ?_
        refine lv_aload_n hx hb d_X_order_180 rfl (lv_at hl 0 rfl) ?_
        refine va_get (D := D) (ci := 3) (C := R_X) (T := F_X) (N := 8) (v := .ref (g 1)) hx hb ht i_X hown hK hP 0 rfl rfl 0 (by decide) (ht _ tk_19) (fun _ h9 => h9) rfl d_X_order_181 ?_
        refine lv_aload_n hx hb d_X_order_184 rfl (lv_at hl 0 rfl) ?_
        refine va_get (D := D) (ci := 3) (C := R_X) (T := F_X) (N := 8) (v := .int (nI (n + 1))) hx hb ht i_X hown hK hP 0 rfl rfl 1 (by decide) (ht _ tk_20) (fun _ h9 => h9) rfl d_X_order_185 ?_
        refine va_new (ci := 1) (fs := oF 1 0 0 0 0 0 0 0 0 0) (C := R_H) (T := F_O) (N := 8) hx hb ht i_H t_O (fun k h => t_O_ok k (by omega)) hown (ht _ tk_106) (ht _ tk_107) (ht _ tk_5) hK hP hD hS hA rfl (fun j hj => by rcases (show j = 0 ∨ j = 1 ∨ j = 2 ∨ j = 3 ∨ j = 4 ∨ j = 5 ∨ j = 6 ∨ j = 7 by omega) with rfl | rfl | rfl | rfl | rfl | rfl | rfl | rfl <;> rfl) (Nat.le_of_ble_eq_true rfl) (Nat.le_of_ble_eq_true rfl) d_X_order_188 (fun q H hP hD hS => ?_)
        refine W.widen (k := 1) (n := 9) (by omega) (by omega) ?_
        have hP : va_P D classes ((cF g cs (n + 1) now (og n ad) rk wy ps rg rs ++ cL n ad K E P T V F U M X) ++ [(q, .inr (1, oF 1 0 0 0 0 0 0 0 0 0))]) H := hP
        have hD : va_D A ((cF g cs (n + 1) now (og n ad) rk wy ps rg rs ++ cL n ad K E P T V F U M X) ++ [(q, .inr (1, oF 1 0 0 0 0 0 0 0 0 0))]) := hD
        refine lv_dup hx hb d_X_order_191 rfl ?_
        refine lv_iload_n hx hb d_X_order_192 rfl (lv_at hl 1 rfl) ?_
        refine lv_iload_n hx hb d_X_order_193 rfl (lv_at hl 2 rfl) ?_
        refine lv_iload_n hx hb d_X_order_194 rfl (lv_at hl 3 rfl) ?_
        refine lv_lload hx hb d_X_order_195 (lv_at hl 5 rfl) ?_
        refine lv_lload hx hb d_X_order_197 (lv_at hl 6 rfl) ?_
        refine lv_aload_n hx hb d_X_order_199 rfl (lv_at hl 0 rfl) ?_
        refine va_get (D := D) (ci := 3) (C := R_X) (T := F_X) (N := 8) (v := .long now) hx hb ht i_X hown hK hP 0 rfl rfl 3 (by decide) (ht _ tk_22) (fun _ h9 => h9) rfl d_X_order_200 ?_
        have hPo := hP.one (at_last (cF g cs (n + 1) now (og n ad) rk wy ps rg rs ++ cL n ad K E P T V F U M X) _)
        have hFc := free1 hD hS hA (at_last (cF g cs (n + 1) now (og n ad) rk wy ps rg rs ++ cL n ad K E P T V F U M X) _)
        refine va_callv (va_runI (As := [.int (nI k), .int en, .int wh, .long fm, .long un, .long now]) (rest := [.ref q, .int (nI (n + 1)), .ref (g 1)]) ⟨hx, hb, hml, hown, ht⟩ (c_H_init l 0 0 0 0 0 0 0 0 0 (nI k) en wh fm un now D cs q _) (cI_ 6 ht tk_110 tk_108 tk_5 tk_109 rfl hd_H_init ⟨Nat.le_of_ble_eq_true rfl, Nat.le_of_ble_eq_true rfl⟩) ⟨fun _ _ _ _ q => ⟨q.1, q.2.1, q.2.2.1, KK.call q.2.2.2.1, q.2.2.2.2⟩, fun U0 hU hW => ⟨rfl, by rw [hU], by rw [hU]; exact hPo, KK.warm hK hN hW, va_D.one trivial⟩⟩ rfl rfl hl.1 rfl (lv_room (Nat.le_of_ble_eq_true rfl)) d_X_order_203 ⟨Nat.le_of_ble_eq_true rfl, Nat.le_of_ble_eq_true rfl⟩) hS (fun q _ h => hFc q h) hFc (fun u0 t1 H locs ht1 hvm hw0 hB hz1 hkp hS => ?_)
        obtain ⟨hP1, hD1⟩ := hB
        rw [ht1] at hP1
        obtain ⟨hP, hD⟩ := jn1 hP hD (at_last (cF g cs (n + 1) now (og n ad) rk wy ps rg rs ++ cL n ad K E P T V F U M X) _) hkp hP1
        rw [set_last] at hP hD
        have hP : va_P D classes ((cF g cs (n + 1) now (og n ad) rk wy ps rg rs ++ cL n ad K E P T V F U M X) ++ [(q, .inr (1, oF 1 (nI k) en wh fm un now 0 1000000 0))]) H := hP
        have hD : va_D A ((cF g cs (n + 1) now (og n ad) rk wy ps rg rs ++ cL n ad K E P T V F U M X) ++ [(q, .inr (1, oF 1 (nI k) en wh fm un now 0 1000000 0))]) := hD
        refine va_astqM (E := R_O) (cA := cs 3) (n := 201) (f := og n ad) hx hb hK hP hD hS 1 3 rfl rfl (va_rAny (ci := 1) (q0 := (cF g cs (n + 1) now (og n ad) rk wy ps rg rs ++ cL n ad K E P T V F U M X).length) hK hP (at_last (cF g cs (n + 1) now (og n ad) rk wy ps rg rs ++ cL n ad K E P T V F U M X) _) rfl (cast_o (ci := 1) (by decide) hN)) (vp_in_nI (by omega) (by omega)) d_X_order_206 (fun H locs hP hD hS => ?_)
        rw [nI_clamp (by omega), og_push] at hP hD
        have hci : cx (nI k) = 1 := hcx
        have htv : (if nI k < 3 then to else 0) = 0 := if_neg (fun h9 => by have := hlt.mp h9; omega)
        have hP : va_P D classes (cW g cs (n + 1) now (va_up ad (n + 1) q) (upd K (n + 1) (nI k)) (upd E (n + 1) en) (upd P (n + 1) wh) (upd T (n + 1) (if nI k < 3 then to else 0)) (upd V (n + 1) 0) (vp_updL F (n + 1) fm) (vp_updL U (n + 1) un) (vp_updL M (n + 1) now) (vp_updL X (n + 1) 1000000) rk wy ps rg rs) H := by
          unfold cW
          rw [← cL_push (v := 0), ← List.append_assoc, hci, htv]
          exact hP
        have hD : va_D A (cW g cs (n + 1) now (va_up ad (n + 1) q) (upd K (n + 1) (nI k)) (upd E (n + 1) en) (upd P (n + 1) wh) (upd T (n + 1) (if nI k < 3 then to else 0)) (upd V (n + 1) 0) (vp_updL F (n + 1) fm) (vp_updL U (n + 1) un) (vp_updL M (n + 1) now) (vp_updL X (n + 1) 1000000) rk wy ps rg rs) := by
          unfold cW
          rw [← cL_push (v := 0), ← List.append_assoc, hci, htv]
          exact hD
        refine lv_goto (tgt := 237) hx hb d_X_order_207 (by decide) ?_
        refine lv_aload_n hx hb d_X_order_237 rfl (lv_at hl 0 rfl) ?_
        refine va_get (D := D) (ci := 3) (C := R_X) (T := F_X) (N := 8) (v := .int (nI (n + 1))) hx hb ht i_X hown hK hP 0 rfl rfl 1 (by decide) (ht _ tk_20) (fun _ h9 => h9) rfl d_X_order_238 ?_
        rw [hQe]
        exact W.iret (v := nI (n + 1)) hx hb hr (fun t9 ht9 hW => ⟨⟨nI (n + 1), (n + 1, va_up ad (n + 1) q, upd K (n + 1) (nI k), upd E (n + 1) en, upd P (n + 1) wh, upd T (n + 1) (if nI k < 3 then to else 0), upd V (n + 1) 0, vp_updL F (n + 1) fm, vp_updL U (n + 1) un, vp_updL M (n + 1) now, vp_updL X (n + 1) 1000000), rfl, Or.inr (Or.inr (Or.inr ⟨hnu, hno, c_1, rfl, q, rfl⟩)), by rw [ht9]; exact hP, hD⟩, hS.F ht9⟩) hS.2.2 d_X_order_241
      · rw [hk] at hcx ⊢
        refine lv_lookup (off := 87) (tgt := 210) hx hb d_X_order_123 rfl (by decide) (by decide) ?_
        refine lv_aload_n hx hb d_X_order_210 rfl (lv_at hl 0 rfl) ?_
        refine va_get (D := D) (ci := 3) (C := R_X) (T := F_X) (N := 8) (v := .ref (g 1)) hx hb ht i_X hown hK hP 0 rfl rfl 0 (by decide) (ht _ tk_19) (fun _ h9 => h9) rfl d_X_order_211 ?_
        refine lv_aload_n hx hb d_X_order_214 rfl (lv_at hl 0 rfl) ?_
        refine va_get (D := D) (ci := 3) (C := R_X) (T := F_X) (N := 8) (v := .int (nI (n + 1))) hx hb ht i_X hown hK hP 0 rfl rfl 1 (by decide) (ht _ tk_20) (fun _ h9 => h9) rfl d_X_order_215 ?_
        refine va_new (ci := 2) (fs := oF 2 0 0 0 0 0 0 0 0 0) (C := R_R) (T := F_O) (N := 8) hx hb ht i_R t_O (fun k h => t_O_ok k (by omega)) hown (ht _ tk_121) (ht _ tk_122) (ht _ tk_6) hK hP hD hS hA rfl (fun j hj => by rcases (show j = 0 ∨ j = 1 ∨ j = 2 ∨ j = 3 ∨ j = 4 ∨ j = 5 ∨ j = 6 ∨ j = 7 by omega) with rfl | rfl | rfl | rfl | rfl | rfl | rfl | rfl <;> rfl) (Nat.le_of_ble_eq_true rfl) (Nat.le_of_ble_eq_true rfl) d_X_order_218 (fun q H hP hD hS => ?_)
        refine W.widen (k := 1) (n := 9) (by omega) (by omega) ?_
        have hP : va_P D classes ((cF g cs (n + 1) now (og n ad) rk wy ps rg rs ++ cL n ad K E P T V F U M X) ++ [(q, .inr (2, oF 2 0 0 0 0 0 0 0 0 0))]) H := hP
        have hD : va_D A ((cF g cs (n + 1) now (og n ad) rk wy ps rg rs ++ cL n ad K E P T V F U M X) ++ [(q, .inr (2, oF 2 0 0 0 0 0 0 0 0 0))]) := hD
        refine lv_dup hx hb d_X_order_221 rfl ?_
        refine lv_iload_n hx hb d_X_order_222 rfl (lv_at hl 1 rfl) ?_
        refine lv_iload_n hx hb d_X_order_223 rfl (lv_at hl 2 rfl) ?_
        refine lv_iload_n hx hb d_X_order_224 rfl (lv_at hl 3 rfl) ?_
        refine lv_lload hx hb d_X_order_225 (lv_at hl 5 rfl) ?_
        refine lv_lload hx hb d_X_order_227 (lv_at hl 6 rfl) ?_
        refine lv_aload_n hx hb d_X_order_229 rfl (lv_at hl 0 rfl) ?_
        refine va_get (D := D) (ci := 3) (C := R_X) (T := F_X) (N := 8) (v := .long now) hx hb ht i_X hown hK hP 0 rfl rfl 3 (by decide) (ht _ tk_22) (fun _ h9 => h9) rfl d_X_order_230 ?_
        have hPo := hP.one (at_last (cF g cs (n + 1) now (og n ad) rk wy ps rg rs ++ cL n ad K E P T V F U M X) _)
        have hFc := free1 hD hS hA (at_last (cF g cs (n + 1) now (og n ad) rk wy ps rg rs ++ cL n ad K E P T V F U M X) _)
        refine va_callv (va_runI (As := [.int (nI k), .int en, .int wh, .long fm, .long un, .long now]) (rest := [.ref q, .int (nI (n + 1)), .ref (g 1)]) ⟨hx, hb, hml, hown, ht⟩ (c_R_init l 0 0 0 0 0 0 0 0 0 (nI k) en wh fm un now D cs q _) (cI_ 6 ht tk_125 tk_123 tk_6 tk_124 rfl hd_R_init ⟨Nat.le_of_ble_eq_true rfl, Nat.le_of_ble_eq_true rfl⟩) ⟨fun _ _ _ _ q => ⟨q.1, q.2.1, q.2.2.1, KK.call q.2.2.2.1, q.2.2.2.2⟩, fun U0 hU hW => ⟨rfl, by rw [hU], by rw [hU]; exact hPo, KK.warm hK hN hW, va_D.one trivial⟩⟩ rfl rfl hl.1 rfl (lv_room (Nat.le_of_ble_eq_true rfl)) d_X_order_233 ⟨Nat.le_of_ble_eq_true rfl, Nat.le_of_ble_eq_true rfl⟩) hS (fun q _ h => hFc q h) hFc (fun u0 t1 H locs ht1 hvm hw0 hB hz1 hkp hS => ?_)
        obtain ⟨hP1, hD1⟩ := hB
        rw [ht1] at hP1
        obtain ⟨hP, hD⟩ := jn1 hP hD (at_last (cF g cs (n + 1) now (og n ad) rk wy ps rg rs ++ cL n ad K E P T V F U M X) _) hkp hP1
        rw [set_last] at hP hD
        have hP : va_P D classes ((cF g cs (n + 1) now (og n ad) rk wy ps rg rs ++ cL n ad K E P T V F U M X) ++ [(q, .inr (2, oF 2 (nI k) en wh fm un now 0 1000000 0))]) H := hP
        have hD : va_D A ((cF g cs (n + 1) now (og n ad) rk wy ps rg rs ++ cL n ad K E P T V F U M X) ++ [(q, .inr (2, oF 2 (nI k) en wh fm un now 0 1000000 0))]) := hD
        refine va_astqM (E := R_O) (cA := cs 3) (n := 201) (f := og n ad) hx hb hK hP hD hS 1 3 rfl rfl (va_rAny (ci := 2) (q0 := (cF g cs (n + 1) now (og n ad) rk wy ps rg rs ++ cL n ad K E P T V F U M X).length) hK hP (at_last (cF g cs (n + 1) now (og n ad) rk wy ps rg rs ++ cL n ad K E P T V F U M X) _) rfl (cast_o (ci := 2) (by decide) hN)) (vp_in_nI (by omega) (by omega)) d_X_order_236 (fun H locs hP hD hS => ?_)
        rw [nI_clamp (by omega), og_push] at hP hD
        have hci : cx (nI k) = 2 := hcx
        have htv : (if nI k < 3 then to else 0) = 0 := if_neg (fun h9 => by have := hlt.mp h9; omega)
        have hP : va_P D classes (cW g cs (n + 1) now (va_up ad (n + 1) q) (upd K (n + 1) (nI k)) (upd E (n + 1) en) (upd P (n + 1) wh) (upd T (n + 1) (if nI k < 3 then to else 0)) (upd V (n + 1) 0) (vp_updL F (n + 1) fm) (vp_updL U (n + 1) un) (vp_updL M (n + 1) now) (vp_updL X (n + 1) 1000000) rk wy ps rg rs) H := by
          unfold cW
          rw [← cL_push (v := 0), ← List.append_assoc, hci, htv]
          exact hP
        have hD : va_D A (cW g cs (n + 1) now (va_up ad (n + 1) q) (upd K (n + 1) (nI k)) (upd E (n + 1) en) (upd P (n + 1) wh) (upd T (n + 1) (if nI k < 3 then to else 0)) (upd V (n + 1) 0) (vp_updL F (n + 1) fm) (vp_updL U (n + 1) un) (vp_updL M (n + 1) now) (vp_updL X (n + 1) 1000000) rk wy ps rg rs) := by
          unfold cW
          rw [← cL_push (v := 0), ← List.append_assoc, hci, htv]
          exact hD
        refine lv_aload_n hx hb d_X_order_237 rfl (lv_at hl 0 rfl) ?_
        refine va_get (D := D) (ci := 3) (C := R_X) (T := F_X) (N := 8) (v := .int (nI (n + 1))) hx hb ht i_X hown hK hP 0 rfl rfl 1 (by decide) (ht _ tk_20) (fun _ h9 => h9) rfl d_X_order_238 ?_
        rw [hQe]
        exact W.iret (v := nI (n + 1)) hx hb hr (fun t9 ht9 hW => ⟨⟨nI (n + 1), (n + 1, va_up ad (n + 1) q, upd K (n + 1) (nI k), upd E (n + 1) en, upd P (n + 1) wh, upd T (n + 1) (if nI k < 3 then to else 0), upd V (n + 1) 0, vp_updL F (n + 1) fm, vp_updL U (n + 1) un, vp_updL M (n + 1) now, vp_updL X (n + 1) 1000000), rfl, Or.inr (Or.inr (Or.inr ⟨hnu, hno, c_1, rfl, q, rfl⟩)), by rw [ht9]; exact hP, hD⟩, hS.F ht9⟩) hS.2.2 d_X_order_241
    · refine lv_bipush (v := (-104)) hx hb d_X_order_107 (by decide) ?_
      refine W.widen (k := 1) (n := 9) (by omega) (by omega) ?_
      rw [hQe]
      exact W.iret (v := (-104)) hx hb hr (fun t9 ht9 hW => ⟨⟨(-104), (n, ad, K, E, P, T, V, F, U, M, X), rfl, Or.inr (Or.inr (Or.inl ⟨hnu, hno, c_1, rfl, rfl⟩)), by rw [ht9]; exact hP, hD⟩, hS.F ht9⟩) hS.2.2 d_X_order_109
  refine lv_iload_n hx hb d_X_order_0 rfl (lv_at hl 1 rfl) ?_
  refine vp_callSi (W.runS (As := [.int kd]) (rest := []) ⟨hx, hb, hml, hown, ht⟩ (c_X_isKind l kd) (cS_ 1 ht tk_52 tk_50 tk_1 tk_51 hd_X_isKind ⟨Nat.le_of_ble_eq_true rfl, Nat.le_of_ble_eq_true rfl⟩) ⟨fun _ _ _ _ q => q, fun _ _ _ => ⟨rfl, trivial⟩⟩ rfl rfl hl.1 rfl (lv_room (Nat.le_of_ble_eq_true rfl)) d_X_order_1 ⟨Nat.le_of_ble_eq_true rfl, Nat.le_of_ble_eq_true rfl⟩) (fun r_2 hw_3 => ?_)
  refine lv_if_eq (tgt := 16) hx hb d_X_order_4 (by decide) (fun c_4 => ?_) (fun c_4 => ?_)
  · have c_4 := bl_f hw_3 c_4
    refine lv_iconst (v := 0) hx hb d_X_order_16 (by decide) ?_
    refine lv_istore (lv' := [(9, .int 0), (0, .ref (g 0)), (1, .int kd), (2, .int en), (3, .int wh), (4, .int to), (5, .long fm), (7, .long un)]) hx hb d_X_order_17 hl (by decide) rfl (fun ls hl => ?_)
    refine lv_iload_n hx hb d_X_order_19 rfl (lv_at hl 3 rfl) ?_
    refine vp_callSi (W.runS (As := [.int en]) (rest := []) ⟨hx, hb, hml, hown, ht⟩ (c_X_isAddress l en) (cS_ 1 ht tk_55 tk_53 tk_1 tk_54 hd_X_isAddress ⟨Nat.le_of_ble_eq_true rfl, Nat.le_of_ble_eq_true rfl⟩) ⟨fun _ _ _ _ q => q, fun _ _ _ => ⟨rfl, trivial⟩⟩ rfl rfl hl.1 rfl (lv_room (Nat.le_of_ble_eq_true rfl)) d_X_order_20 ⟨Nat.le_of_ble_eq_true rfl, Nat.le_of_ble_eq_true rfl⟩) (fun r_5 hw_6 => ?_)
    refine lv_if_eq (tgt := 53) hx hb d_X_order_23 (by decide) (fun c_7 => ?_) (fun c_7 => ?_)
    · have c_7 := bl_f hw_6 c_7
      refine lv_bipush (v := (-101)) hx hb d_X_order_53 (by decide) ?_
      refine W.widen (k := 1) (n := 9) (by omega) (by omega) ?_
      rw [hQe]
      exact W.iret (v := (-101)) hx hb hr (fun t9 ht9 hW => ⟨⟨(-101), (n, ad, K, E, P, T, V, F, U, M, X), rfl, Or.inl ⟨by first | (simp [unkO, sndO, adrO, c_4, c_7]; done) | grind, rfl, rfl⟩, by rw [ht9]; exact hP, hD⟩, hS.F ht9⟩) hS.2.2 d_X_order_55
    · have c_7 := bl_t hw_6 c_7
      refine lv_iload_n hx hb d_X_order_26 rfl (lv_at hl 4 rfl) ?_
      refine lv_i2l (v := wh.toInt64) hx hb d_X_order_27 rfl ?_
      refine lv_ldc2 (v := (-1)) hx hb hown (ht _ tk_56) d_X_order_28 ?_
      refine lv_ldc2 (v := 49) hx hb hown (ht _ tk_57) d_X_order_31 ?_
      refine vp_callSi (W.runS (As := [.long wh.toInt64, .long (-1), .long 49]) (rest := []) ⟨hx, hb, hml, hown, ht⟩ (c_X_outside l wh.toInt64 (-1) 49) (cS_ 3 ht tk_60 tk_58 tk_1 tk_59 hd_X_outside ⟨Nat.le_of_ble_eq_true rfl, Nat.le_of_ble_eq_true rfl⟩) ⟨fun _ _ _ _ q => q, fun _ _ _ => ⟨rfl, trivial⟩⟩ rfl rfl hl.1 rfl (lv_room (Nat.le_of_ble_eq_true rfl)) d_X_order_34 ⟨Nat.le_of_ble_eq_true rfl, Nat.le_of_ble_eq_true rfl⟩) (fun r_8 hw_9 => ?_)
      refine lv_if_ne (tgt := 53) hx hb d_X_order_37 (by decide) (fun c_10 => ?_) (fun c_10 => ?_)
      · have c_10 := bl_t hw_9 c_10
        refine lv_bipush (v := (-101)) hx hb d_X_order_53 (by decide) ?_
        refine W.widen (k := 1) (n := 9) (by omega) (by omega) ?_
        rw [hQe]
        exact W.iret (v := (-101)) hx hb hr (fun t9 ht9 hW => ⟨⟨(-101), (n, ad, K, E, P, T, V, F, U, M, X), rfl, Or.inl ⟨by first | (simp [unkO, sndO, adrO, c_4, c_7, c_10]; done) | grind, rfl, rfl⟩, by rw [ht9]; exact hP, hD⟩, hS.F ht9⟩) hS.2.2 d_X_order_55
      · have c_10 := bl_f hw_9 c_10
        refine lv_iload hx hb d_X_order_40 (lv_at hl 0 rfl) ?_
        refine lv_if_eq (tgt := 56) hx hb d_X_order_42 (by decide) (fun _ => ?_) (fun h9 => absurd (by decide) h9)
        refine lv_iload_n hx hb d_X_order_56 rfl (lv_at hl 2 rfl) ?_
        refine vp_callSi (W.runS (As := [.int kd]) (rest := []) ⟨hx, hb, hml, hown, ht⟩ (c_X_isKind l kd) (cS_ 1 ht tk_52 tk_50 tk_1 tk_51 hd_X_isKind ⟨Nat.le_of_ble_eq_true rfl, Nat.le_of_ble_eq_true rfl⟩) ⟨fun _ _ _ _ q => q, fun _ _ _ => ⟨rfl, trivial⟩⟩ rfl rfl hl.1 rfl (lv_room (Nat.le_of_ble_eq_true rfl)) d_X_order_57 ⟨Nat.le_of_ble_eq_true rfl, Nat.le_of_ble_eq_true rfl⟩) (fun r_12 hw_13 => ?_)
        refine lv_if_eq (tgt := 94) hx hb d_X_order_60 (by decide) (fun c_14 => ?_) (fun c_14 => ?_)
        · have c_14 := bl_f hw_13 c_14
          refine lv_bipush (v := (-102)) hx hb d_X_order_94 (by decide) ?_
          refine W.widen (k := 1) (n := 9) (by omega) (by omega) ?_
          rw [hQe]
          exact W.iret (v := (-102)) hx hb hr (fun t9 ht9 hW => ⟨⟨(-102), (n, ad, K, E, P, T, V, F, U, M, X), rfl, Or.inr (Or.inl ⟨by first | (simp [unkO, sndO, adrO, c_4, c_7, c_10, c_14]; done) | grind, by first | (simp [outO, sndO, c_4, c_7, c_10, c_14]; done) | grind, rfl, rfl⟩), by rw [ht9]; exact hP, hD⟩, hS.F ht9⟩) hS.2.2 d_X_order_96
        · have c_14 := bl_t hw_13 c_14
          refine lv_lload hx hb d_X_order_63 (lv_at hl 6 rfl) ?_
          refine lv_lconst (v := 0) hx hb d_X_order_65 (by decide) ?_
          refine lv_lload hx hb d_X_order_66 (lv_at hl 7 rfl) ?_
          refine vp_callSi (W.runS (As := [.long fm, .long 0, .long un]) (rest := []) ⟨hx, hb, hml, hown, ht⟩ (c_X_outside l fm 0 un) (cS_ 3 ht tk_60 tk_58 tk_1 tk_59 hd_X_outside ⟨Nat.le_of_ble_eq_true rfl, Nat.le_of_ble_eq_true rfl⟩) ⟨fun _ _ _ _ q => q, fun _ _ _ => ⟨rfl, trivial⟩⟩ rfl rfl hl.1 rfl (lv_room (Nat.le_of_ble_eq_true rfl)) d_X_order_68 ⟨Nat.le_of_ble_eq_true rfl, Nat.le_of_ble_eq_true rfl⟩) (fun r_15 hw_16 => ?_)
          refine lv_if_ne (tgt := 94) hx hb d_X_order_71 (by decide) (fun c_17 => ?_) (fun c_17 => ?_)
          · have c_17 := bl_t hw_16 c_17
            refine lv_bipush (v := (-102)) hx hb d_X_order_94 (by decide) ?_
            refine W.widen (k := 1) (n := 9) (by omega) (by omega) ?_
            rw [hQe]
            exact W.iret (v := (-102)) hx hb hr (fun t9 ht9 hW => ⟨⟨(-102), (n, ad, K, E, P, T, V, F, U, M, X), rfl, Or.inr (Or.inl ⟨by first | (simp [unkO, sndO, adrO, c_4, c_7, c_10, c_14, c_17]; done) | grind, by first | (simp [outO, sndO, c_4, c_7, c_10, c_14, c_17]; done) | grind, rfl, rfl⟩), by rw [ht9]; exact hP, hD⟩, hS.F ht9⟩) hS.2.2 d_X_order_96
          · have c_17 := bl_f hw_16 c_17
            refine lv_lload hx hb d_X_order_74 (lv_at hl 7 rfl) ?_
            refine lv_ldc2 (v := 20000) hx hb hown (ht _ tk_61) d_X_order_76 ?_
            refine lc_gt (tgt := 94) hx hb d_X_order_79 d_X_order_80 (by decide) (fun c_18 => ?_) (fun c_18 => ?_)
            · refine lv_bipush (v := (-102)) hx hb d_X_order_94 (by decide) ?_
              refine W.widen (k := 1) (n := 9) (by omega) (by omega) ?_
              rw [hQe]
              exact W.iret (v := (-102)) hx hb hr (fun t9 ht9 hW => ⟨⟨(-102), (n, ad, K, E, P, T, V, F, U, M, X), rfl, Or.inr (Or.inl ⟨by first | (simp [unkO, sndO, adrO, c_4, c_7, c_10, c_14, c_17, c_18]; done) | grind, by first | (simp [outO, sndO, c_4, c_7, c_10, c_14, c_17, c_18]; done) | grind, rfl, rfl⟩), by rw [ht9]; exact hP, hD⟩, hS.F ht9⟩) hS.2.2 d_X_order_96
            · refine lv_iload hx hb d_X_order_83 (lv_at hl 0 rfl) ?_
              refine lv_if_eq (tgt := 97) hx hb d_X_order_85 (by decide) (fun _ => ?_) (fun h9 => absurd (by decide) h9)
              have hnu : ¬ unkO kd en wh to := by first | (simp [unkO, sndO, adrO, c_4, c_7, c_10, c_14, c_17, c_18]; done) | grind
              have hno : ¬ outO kd en to fm un := by first | (simp [outO, sndO, c_4, c_7, c_10, c_14, c_17, c_18]; done) | grind
              exact J97 ls hnu hno (lv_sub hl [1, 2, 3, 4, 5, 6, 7] rfl)
  · have c_4 := bl_t hw_3 c_4
    refine lv_iload_n hx hb d_X_order_7 rfl (lv_at hl 1 rfl) ?_
    refine lv_iconst (v := 3) hx hb d_X_order_8 (by decide) ?_
    refine lv_icmp_ge (tgt := 16) hx hb d_X_order_9 (by decide) (fun c_20 => ?_) (fun c_20 => ?_)
    · refine lv_iconst (v := 0) hx hb d_X_order_16 (by decide) ?_
      refine lv_istore (lv' := [(9, .int 0), (0, .ref (g 0)), (1, .int kd), (2, .int en), (3, .int wh), (4, .int to), (5, .long fm), (7, .long un)]) hx hb d_X_order_17 hl (by decide) rfl (fun ls hl => ?_)
      refine lv_iload_n hx hb d_X_order_19 rfl (lv_at hl 3 rfl) ?_
      refine vp_callSi (W.runS (As := [.int en]) (rest := []) ⟨hx, hb, hml, hown, ht⟩ (c_X_isAddress l en) (cS_ 1 ht tk_55 tk_53 tk_1 tk_54 hd_X_isAddress ⟨Nat.le_of_ble_eq_true rfl, Nat.le_of_ble_eq_true rfl⟩) ⟨fun _ _ _ _ q => q, fun _ _ _ => ⟨rfl, trivial⟩⟩ rfl rfl hl.1 rfl (lv_room (Nat.le_of_ble_eq_true rfl)) d_X_order_20 ⟨Nat.le_of_ble_eq_true rfl, Nat.le_of_ble_eq_true rfl⟩) (fun r_21 hw_22 => ?_)
      refine lv_if_eq (tgt := 53) hx hb d_X_order_23 (by decide) (fun c_23 => ?_) (fun c_23 => ?_)
      · have c_23 := bl_f hw_22 c_23
        refine lv_bipush (v := (-101)) hx hb d_X_order_53 (by decide) ?_
        refine W.widen (k := 1) (n := 9) (by omega) (by omega) ?_
        rw [hQe]
        exact W.iret (v := (-101)) hx hb hr (fun t9 ht9 hW => ⟨⟨(-101), (n, ad, K, E, P, T, V, F, U, M, X), rfl, Or.inl ⟨by first | (simp [unkO, sndO, adrO, c_4, c_20, c_23]; done) | grind, rfl, rfl⟩, by rw [ht9]; exact hP, hD⟩, hS.F ht9⟩) hS.2.2 d_X_order_55
      · have c_23 := bl_t hw_22 c_23
        refine lv_iload_n hx hb d_X_order_26 rfl (lv_at hl 4 rfl) ?_
        refine lv_i2l (v := wh.toInt64) hx hb d_X_order_27 rfl ?_
        refine lv_ldc2 (v := (-1)) hx hb hown (ht _ tk_56) d_X_order_28 ?_
        refine lv_ldc2 (v := 49) hx hb hown (ht _ tk_57) d_X_order_31 ?_
        refine vp_callSi (W.runS (As := [.long wh.toInt64, .long (-1), .long 49]) (rest := []) ⟨hx, hb, hml, hown, ht⟩ (c_X_outside l wh.toInt64 (-1) 49) (cS_ 3 ht tk_60 tk_58 tk_1 tk_59 hd_X_outside ⟨Nat.le_of_ble_eq_true rfl, Nat.le_of_ble_eq_true rfl⟩) ⟨fun _ _ _ _ q => q, fun _ _ _ => ⟨rfl, trivial⟩⟩ rfl rfl hl.1 rfl (lv_room (Nat.le_of_ble_eq_true rfl)) d_X_order_34 ⟨Nat.le_of_ble_eq_true rfl, Nat.le_of_ble_eq_true rfl⟩) (fun r_24 hw_25 => ?_)
        refine lv_if_ne (tgt := 53) hx hb d_X_order_37 (by decide) (fun c_26 => ?_) (fun c_26 => ?_)
        · have c_26 := bl_t hw_25 c_26
          refine lv_bipush (v := (-101)) hx hb d_X_order_53 (by decide) ?_
          refine W.widen (k := 1) (n := 9) (by omega) (by omega) ?_
          rw [hQe]
          exact W.iret (v := (-101)) hx hb hr (fun t9 ht9 hW => ⟨⟨(-101), (n, ad, K, E, P, T, V, F, U, M, X), rfl, Or.inl ⟨by first | (simp [unkO, sndO, adrO, c_4, c_20, c_23, c_26]; done) | grind, rfl, rfl⟩, by rw [ht9]; exact hP, hD⟩, hS.F ht9⟩) hS.2.2 d_X_order_55
        · have c_26 := bl_f hw_25 c_26
          refine lv_iload hx hb d_X_order_40 (lv_at hl 0 rfl) ?_
          refine lv_if_eq (tgt := 56) hx hb d_X_order_42 (by decide) (fun _ => ?_) (fun h9 => absurd (by decide) h9)
          refine lv_iload_n hx hb d_X_order_56 rfl (lv_at hl 2 rfl) ?_
          refine vp_callSi (W.runS (As := [.int kd]) (rest := []) ⟨hx, hb, hml, hown, ht⟩ (c_X_isKind l kd) (cS_ 1 ht tk_52 tk_50 tk_1 tk_51 hd_X_isKind ⟨Nat.le_of_ble_eq_true rfl, Nat.le_of_ble_eq_true rfl⟩) ⟨fun _ _ _ _ q => q, fun _ _ _ => ⟨rfl, trivial⟩⟩ rfl rfl hl.1 rfl (lv_room (Nat.le_of_ble_eq_true rfl)) d_X_order_57 ⟨Nat.le_of_ble_eq_true rfl, Nat.le_of_ble_eq_true rfl⟩) (fun r_28 hw_29 => ?_)
          refine lv_if_eq (tgt := 94) hx hb d_X_order_60 (by decide) (fun c_30 => ?_) (fun c_30 => ?_)
          · have c_30 := bl_f hw_29 c_30
            refine lv_bipush (v := (-102)) hx hb d_X_order_94 (by decide) ?_
            refine W.widen (k := 1) (n := 9) (by omega) (by omega) ?_
            rw [hQe]
            exact W.iret (v := (-102)) hx hb hr (fun t9 ht9 hW => ⟨⟨(-102), (n, ad, K, E, P, T, V, F, U, M, X), rfl, Or.inr (Or.inl ⟨by first | (simp [unkO, sndO, adrO, c_4, c_20, c_23, c_26, c_30]; done) | grind, by first | (simp [outO, sndO, c_4, c_20, c_23, c_26, c_30]; done) | grind, rfl, rfl⟩), by rw [ht9]; exact hP, hD⟩, hS.F ht9⟩) hS.2.2 d_X_order_96
          · have c_30 := bl_t hw_29 c_30
            refine lv_lload hx hb d_X_order_63 (lv_at hl 6 rfl) ?_
            refine lv_lconst (v := 0) hx hb d_X_order_65 (by decide) ?_
            refine lv_lload hx hb d_X_order_66 (lv_at hl 7 rfl) ?_
            refine vp_callSi (W.runS (As := [.long fm, .long 0, .long un]) (rest := []) ⟨hx, hb, hml, hown, ht⟩ (c_X_outside l fm 0 un) (cS_ 3 ht tk_60 tk_58 tk_1 tk_59 hd_X_outside ⟨Nat.le_of_ble_eq_true rfl, Nat.le_of_ble_eq_true rfl⟩) ⟨fun _ _ _ _ q => q, fun _ _ _ => ⟨rfl, trivial⟩⟩ rfl rfl hl.1 rfl (lv_room (Nat.le_of_ble_eq_true rfl)) d_X_order_68 ⟨Nat.le_of_ble_eq_true rfl, Nat.le_of_ble_eq_true rfl⟩) (fun r_31 hw_32 => ?_)
            refine lv_if_ne (tgt := 94) hx hb d_X_order_71 (by decide) (fun c_33 => ?_) (fun c_33 => ?_)
            · have c_33 := bl_t hw_32 c_33
              refine lv_bipush (v := (-102)) hx hb d_X_order_94 (by decide) ?_
              refine W.widen (k := 1) (n := 9) (by omega) (by omega) ?_
              rw [hQe]
              exact W.iret (v := (-102)) hx hb hr (fun t9 ht9 hW => ⟨⟨(-102), (n, ad, K, E, P, T, V, F, U, M, X), rfl, Or.inr (Or.inl ⟨by first | (simp [unkO, sndO, adrO, c_4, c_20, c_23, c_26, c_30, c_33]; done) | grind, by first | (simp [outO, sndO, c_4, c_20, c_23, c_26, c_30, c_33]; done) | grind, rfl, rfl⟩), by rw [ht9]; exact hP, hD⟩, hS.F ht9⟩) hS.2.2 d_X_order_96
            · have c_33 := bl_f hw_32 c_33
              refine lv_lload hx hb d_X_order_74 (lv_at hl 7 rfl) ?_
              refine lv_ldc2 (v := 20000) hx hb hown (ht _ tk_61) d_X_order_76 ?_
              refine lc_gt (tgt := 94) hx hb d_X_order_79 d_X_order_80 (by decide) (fun c_34 => ?_) (fun c_34 => ?_)
              · refine lv_bipush (v := (-102)) hx hb d_X_order_94 (by decide) ?_
                refine W.widen (k := 1) (n := 9) (by omega) (by omega) ?_
                rw [hQe]
                exact W.iret (v := (-102)) hx hb hr (fun t9 ht9 hW => ⟨⟨(-102), (n, ad, K, E, P, T, V, F, U, M, X), rfl, Or.inr (Or.inl ⟨by first | (simp [unkO, sndO, adrO, c_4, c_20, c_23, c_26, c_30, c_33, c_34]; done) | grind, by first | (simp [outO, sndO, c_4, c_20, c_23, c_26, c_30, c_33, c_34]; done) | grind, rfl, rfl⟩), by rw [ht9]; exact hP, hD⟩, hS.F ht9⟩) hS.2.2 d_X_order_96
              · refine lv_iload hx hb d_X_order_83 (lv_at hl 0 rfl) ?_
                refine lv_if_eq (tgt := 97) hx hb d_X_order_85 (by decide) (fun _ => ?_) (fun h9 => absurd (by decide) h9)
                have hnu : ¬ unkO kd en wh to := by first | (simp [unkO, sndO, adrO, c_4, c_20, c_23, c_26, c_30, c_33, c_34]; done) | grind
                have hno : ¬ outO kd en to fm un := by first | (simp [outO, sndO, c_4, c_20, c_23, c_26, c_30, c_33, c_34]; done) | grind
                exact J97 ls hnu hno (lv_sub hl [1, 2, 3, 4, 5, 6, 7] rfl)
    · refine lv_iconst (v := 1) hx hb d_X_order_12 (by decide) ?_
      refine lv_goto (tgt := 17) hx hb d_X_order_13 (by decide) ?_
      refine lv_istore (lv' := [(9, .int 1), (0, .ref (g 0)), (1, .int kd), (2, .int en), (3, .int wh), (4, .int to), (5, .long fm), (7, .long un)]) hx hb d_X_order_17 hl (by decide) rfl (fun ls hl => ?_)
      refine lv_iload_n hx hb d_X_order_19 rfl (lv_at hl 3 rfl) ?_
      refine vp_callSi (W.runS (As := [.int en]) (rest := []) ⟨hx, hb, hml, hown, ht⟩ (c_X_isAddress l en) (cS_ 1 ht tk_55 tk_53 tk_1 tk_54 hd_X_isAddress ⟨Nat.le_of_ble_eq_true rfl, Nat.le_of_ble_eq_true rfl⟩) ⟨fun _ _ _ _ q => q, fun _ _ _ => ⟨rfl, trivial⟩⟩ rfl rfl hl.1 rfl (lv_room (Nat.le_of_ble_eq_true rfl)) d_X_order_20 ⟨Nat.le_of_ble_eq_true rfl, Nat.le_of_ble_eq_true rfl⟩) (fun r_36 hw_37 => ?_)
      refine lv_if_eq (tgt := 53) hx hb d_X_order_23 (by decide) (fun c_38 => ?_) (fun c_38 => ?_)
      · have c_38 := bl_f hw_37 c_38
        refine lv_bipush (v := (-101)) hx hb d_X_order_53 (by decide) ?_
        refine W.widen (k := 1) (n := 9) (by omega) (by omega) ?_
        rw [hQe]
        exact W.iret (v := (-101)) hx hb hr (fun t9 ht9 hW => ⟨⟨(-101), (n, ad, K, E, P, T, V, F, U, M, X), rfl, Or.inl ⟨by first | (simp [unkO, sndO, adrO, c_4, c_20, c_38]; done) | grind, rfl, rfl⟩, by rw [ht9]; exact hP, hD⟩, hS.F ht9⟩) hS.2.2 d_X_order_55
      · have c_38 := bl_t hw_37 c_38
        refine lv_iload_n hx hb d_X_order_26 rfl (lv_at hl 4 rfl) ?_
        refine lv_i2l (v := wh.toInt64) hx hb d_X_order_27 rfl ?_
        refine lv_ldc2 (v := (-1)) hx hb hown (ht _ tk_56) d_X_order_28 ?_
        refine lv_ldc2 (v := 49) hx hb hown (ht _ tk_57) d_X_order_31 ?_
        refine vp_callSi (W.runS (As := [.long wh.toInt64, .long (-1), .long 49]) (rest := []) ⟨hx, hb, hml, hown, ht⟩ (c_X_outside l wh.toInt64 (-1) 49) (cS_ 3 ht tk_60 tk_58 tk_1 tk_59 hd_X_outside ⟨Nat.le_of_ble_eq_true rfl, Nat.le_of_ble_eq_true rfl⟩) ⟨fun _ _ _ _ q => q, fun _ _ _ => ⟨rfl, trivial⟩⟩ rfl rfl hl.1 rfl (lv_room (Nat.le_of_ble_eq_true rfl)) d_X_order_34 ⟨Nat.le_of_ble_eq_true rfl, Nat.le_of_ble_eq_true rfl⟩) (fun r_39 hw_40 => ?_)
        refine lv_if_ne (tgt := 53) hx hb d_X_order_37 (by decide) (fun c_41 => ?_) (fun c_41 => ?_)
        · have c_41 := bl_t hw_40 c_41
          refine lv_bipush (v := (-101)) hx hb d_X_order_53 (by decide) ?_
          refine W.widen (k := 1) (n := 9) (by omega) (by omega) ?_
          rw [hQe]
          exact W.iret (v := (-101)) hx hb hr (fun t9 ht9 hW => ⟨⟨(-101), (n, ad, K, E, P, T, V, F, U, M, X), rfl, Or.inl ⟨by first | (simp [unkO, sndO, adrO, c_4, c_20, c_38, c_41]; done) | grind, rfl, rfl⟩, by rw [ht9]; exact hP, hD⟩, hS.F ht9⟩) hS.2.2 d_X_order_55
        · have c_41 := bl_f hw_40 c_41
          refine lv_iload hx hb d_X_order_40 (lv_at hl 0 rfl) ?_
          refine lv_if_eq (tgt := 56) hx hb d_X_order_42 (by decide) (fun h9 => absurd h9 (by decide)) (fun _ => ?_)
          refine lv_iload hx hb d_X_order_45 (lv_at hl 5 rfl) ?_
          refine vp_callSi (W.runS (As := [.int to]) (rest := []) ⟨hx, hb, hml, hown, ht⟩ (c_X_isAddress l to) (cS_ 1 ht tk_55 tk_53 tk_1 tk_54 hd_X_isAddress ⟨Nat.le_of_ble_eq_true rfl, Nat.le_of_ble_eq_true rfl⟩) ⟨fun _ _ _ _ q => q, fun _ _ _ => ⟨rfl, trivial⟩⟩ rfl rfl hl.1 rfl (lv_room (Nat.le_of_ble_eq_true rfl)) d_X_order_47 ⟨Nat.le_of_ble_eq_true rfl, Nat.le_of_ble_eq_true rfl⟩) (fun r_43 hw_44 => ?_)
          refine lv_if_ne (tgt := 56) hx hb d_X_order_50 (by decide) (fun c_45 => ?_) (fun c_45 => ?_)
          · have c_45 := bl_t hw_44 c_45
            refine lv_iload_n hx hb d_X_order_56 rfl (lv_at hl 2 rfl) ?_
            refine vp_callSi (W.runS (As := [.int kd]) (rest := []) ⟨hx, hb, hml, hown, ht⟩ (c_X_isKind l kd) (cS_ 1 ht tk_52 tk_50 tk_1 tk_51 hd_X_isKind ⟨Nat.le_of_ble_eq_true rfl, Nat.le_of_ble_eq_true rfl⟩) ⟨fun _ _ _ _ q => q, fun _ _ _ => ⟨rfl, trivial⟩⟩ rfl rfl hl.1 rfl (lv_room (Nat.le_of_ble_eq_true rfl)) d_X_order_57 ⟨Nat.le_of_ble_eq_true rfl, Nat.le_of_ble_eq_true rfl⟩) (fun r_46 hw_47 => ?_)
            refine lv_if_eq (tgt := 94) hx hb d_X_order_60 (by decide) (fun c_48 => ?_) (fun c_48 => ?_)
            · have c_48 := bl_f hw_47 c_48
              refine lv_bipush (v := (-102)) hx hb d_X_order_94 (by decide) ?_
              refine W.widen (k := 1) (n := 9) (by omega) (by omega) ?_
              rw [hQe]
              exact W.iret (v := (-102)) hx hb hr (fun t9 ht9 hW => ⟨⟨(-102), (n, ad, K, E, P, T, V, F, U, M, X), rfl, Or.inr (Or.inl ⟨by first | (simp [unkO, sndO, adrO, c_4, c_20, c_38, c_41, c_45, c_48]; done) | grind, by first | (simp [outO, sndO, c_4, c_20, c_38, c_41, c_45, c_48]; done) | grind, rfl, rfl⟩), by rw [ht9]; exact hP, hD⟩, hS.F ht9⟩) hS.2.2 d_X_order_96
            · have c_48 := bl_t hw_47 c_48
              refine lv_lload hx hb d_X_order_63 (lv_at hl 6 rfl) ?_
              refine lv_lconst (v := 0) hx hb d_X_order_65 (by decide) ?_
              refine lv_lload hx hb d_X_order_66 (lv_at hl 7 rfl) ?_
              refine vp_callSi (W.runS (As := [.long fm, .long 0, .long un]) (rest := []) ⟨hx, hb, hml, hown, ht⟩ (c_X_outside l fm 0 un) (cS_ 3 ht tk_60 tk_58 tk_1 tk_59 hd_X_outside ⟨Nat.le_of_ble_eq_true rfl, Nat.le_of_ble_eq_true rfl⟩) ⟨fun _ _ _ _ q => q, fun _ _ _ => ⟨rfl, trivial⟩⟩ rfl rfl hl.1 rfl (lv_room (Nat.le_of_ble_eq_true rfl)) d_X_order_68 ⟨Nat.le_of_ble_eq_true rfl, Nat.le_of_ble_eq_true rfl⟩) (fun r_49 hw_50 => ?_)
              refine lv_if_ne (tgt := 94) hx hb d_X_order_71 (by decide) (fun c_51 => ?_) (fun c_51 => ?_)
              · have c_51 := bl_t hw_50 c_51
                refine lv_bipush (v := (-102)) hx hb d_X_order_94 (by decide) ?_
                refine W.widen (k := 1) (n := 9) (by omega) (by omega) ?_
                rw [hQe]
                exact W.iret (v := (-102)) hx hb hr (fun t9 ht9 hW => ⟨⟨(-102), (n, ad, K, E, P, T, V, F, U, M, X), rfl, Or.inr (Or.inl ⟨by first | (simp [unkO, sndO, adrO, c_4, c_20, c_38, c_41, c_45, c_48, c_51]; done) | grind, by first | (simp [outO, sndO, c_4, c_20, c_38, c_41, c_45, c_48, c_51]; done) | grind, rfl, rfl⟩), by rw [ht9]; exact hP, hD⟩, hS.F ht9⟩) hS.2.2 d_X_order_96
              · have c_51 := bl_f hw_50 c_51
                refine lv_lload hx hb d_X_order_74 (lv_at hl 7 rfl) ?_
                refine lv_ldc2 (v := 20000) hx hb hown (ht _ tk_61) d_X_order_76 ?_
                refine lc_gt (tgt := 94) hx hb d_X_order_79 d_X_order_80 (by decide) (fun c_52 => ?_) (fun c_52 => ?_)
                · refine lv_bipush (v := (-102)) hx hb d_X_order_94 (by decide) ?_
                  refine W.widen (k := 1) (n := 9) (by omega) (by omega) ?_
                  rw [hQe]
                  exact W.iret (v := (-102)) hx hb hr (fun t9 ht9 hW => ⟨⟨(-102), (n, ad, K, E, P, T, V, F, U, M, X), rfl, Or.inr (Or.inl ⟨by first | (simp [unkO, sndO, adrO, c_4, c_20, c_38, c_41, c_45, c_48, c_51, c_52]; done) | grind, by first | (simp [outO, sndO, c_4, c_20, c_38, c_41, c_45, c_48, c_51, c_52]; done) | grind, rfl, rfl⟩), by rw [ht9]; exact hP, hD⟩, hS.F ht9⟩) hS.2.2 d_X_order_96
                · refine lv_iload hx hb d_X_order_83 (lv_at hl 0 rfl) ?_
                  refine lv_if_eq (tgt := 97) hx hb d_X_order_85 (by decide) (fun h9 => absurd h9 (by decide)) (fun _ => ?_)
                  refine lv_iload hx hb d_X_order_88 (lv_at hl 5 rfl) ?_
                  refine lv_iload_n hx hb d_X_order_90 rfl (lv_at hl 3 rfl) ?_
                  refine lv_icmp_ne (tgt := 97) hx hb d_X_order_91 (by decide) (fun c_54 => ?_) (fun c_54 => ?_)
                  · have hnu : ¬ unkO kd en wh to := by first | (simp [unkO, sndO, adrO, c_4, c_20, c_38, c_41, c_45, c_48, c_51, c_52, c_54]; done) | grind
                    have hno : ¬ outO kd en to fm un := by first | (simp [outO, sndO, c_4, c_20, c_38, c_41, c_45, c_48, c_51, c_52, c_54]; done) | grind
                    exact J97 ls hnu hno (lv_sub hl [1, 2, 3, 4, 5, 6, 7] rfl)
                  · refine lv_bipush (v := (-102)) hx hb d_X_order_94 (by decide) ?_
                    refine W.widen (k := 1) (n := 9) (by omega) (by omega) ?_
                    rw [hQe]
                    exact W.iret (v := (-102)) hx hb hr (fun t9 ht9 hW => ⟨⟨(-102), (n, ad, K, E, P, T, V, F, U, M, X), rfl, Or.inr (Or.inl ⟨by first | (simp [unkO, sndO, adrO, c_4, c_20, c_38, c_41, c_45, c_48, c_51, c_52, c_54]; done) | grind, by first | (simp [outO, sndO, c_4, c_20, c_38, c_41, c_45, c_48, c_51, c_52, c_54]; done) | grind, rfl, rfl⟩), by rw [ht9]; exact hP, hD⟩, hS.F ht9⟩) hS.2.2 d_X_order_96
          · have c_45 := bl_f hw_44 c_45
            refine lv_bipush (v := (-101)) hx hb d_X_order_53 (by decide) ?_
            refine W.widen (k := 1) (n := 9) (by omega) (by omega) ?_
            rw [hQe]
            exact W.iret (v := (-101)) hx hb hr (fun t9 ht9 hW => ⟨⟨(-101), (n, ad, K, E, P, T, V, F, U, M, X), rfl, Or.inl ⟨by first | (simp [unkO, sndO, adrO, c_4, c_20, c_38, c_41, c_45]; done) | grind, rfl, rfl⟩, by rw [ht9]; exact hP, hD⟩, hS.F ht9⟩) hS.2.2 d_X_order_55
end
section
def g6 (a b c d e f : Nat) : Nat → Nat := fun i => match i with
  | 0 => a
  | 1 => b
  | 2 => c
  | 3 => d
  | 4 => e
  | _ => f
def g13 (a b c d e f g h i j k l m : Nat) : Nat → Nat := fun x => match x with
  | 0 => a
  | 1 => b
  | 2 => c
  | 3 => d
  | 4 => e
  | 5 => f
  | 6 => g
  | 7 => h
  | 8 => i
  | 9 => j
  | 10 => k
  | 11 => l
  | _ => m
theorem og_0 {ad : Nat → Nat} : og 0 ad = fun _ => none := by
  funext k
  exact if_neg (fun h => by omega)
set_option maxHeartbeats 4000000 in
set_option maxRecDepth 100000 in
/-- OrderRows2() -/
theorem c_X_init (l : Launch) (D : va_G) (cs : Nat → Nat) (h0 : Nat) (ad : Nat → Nat) (K E P T V : Nat → Int32) (F U M X : Nat → Int64) (sz : Nat) : Met l y_X_init (Cond.code y_X_init b_X_init 1 none :: wt) ({ frames := 1, cells := 5, slots := 510, locals := 12 }) (va_Pc [.ref h0] (fun S0 => S0.heap.size = sz ∧ va_P D classes [(h0, .inr (3, [.null, .int 0, .null, .long 0, .null, .null, .null, .int 0]))] S0.heap ∧ KK D cs S0 ∧ va_D (fun _ => True) [(h0, .inr (3, [.null, .int 0, .null, .long 0, .null, .null, .null, .int 0]))])) (va_Qv (fun g : Nat → Nat => g 0 = h0) (fun (g : Nat → Nat) S1 => va_P D classes (cW g cs 0 0 ad K E P T V F U M X (fun _ => 0) (fun _ => 0) (fun _ => 0) (fun _ => 0) 0) S1.heap ∧ va_D (va_A [(h0, .inr (3, [.null, .int 0, .null, .long 0, .null, .null, .null, .int 0]))] sz) (cW g cs 0 0 ad K E P T V F U M X (fun _ => 0) (fun _ => 0) (fun _ => 0) (fun _ => 0) 0)) (va_A [(h0, .inr (3, [.null, .int 0, .null, .long 0, .null, .null, .null, .int 0]))] sz)) 5 510 (va_A [(h0, .inr (3, [.null, .int 0, .null, .long 0, .null, .null, .null, .int 0]))] sz) := by
  refine Met.ofW (cc := b_X_init) (maxL := 1) (ret := none) (by decide) rfl ?_
  intro p e s m args below meth c s₁ B hml hv
  obtain ⟨rfl, hsz, hP, ⟨hK, hN⟩, hD0⟩ := hv
  have hx := B.exec
  have hb := B.bytes
  have hr := B.returns
  have ht : ∀ w ∈ wt, w.before _ s = true := fun w h => atoms_spec (ws := _ :: wt) B.pre w (List.mem_cons_of_mem _ h)
  have hown : s.vm.findClass R_X = some m.cls := findClass_of_methodNamed B.named
  have hlocks := B.notSynchronized
  have hin : meth.name = "<init>" := (name_of_methodNamed B.named B.method).1
  subst hsz
  have hD := hD0.self (sz := s.heap.size)
  generalize hAe : va_A [(h0, .inr (3, [.null, .int 0, .null, .long 0, .null, .null, .null, .int 0]))] s.heap.size = A at hD ⊢
  have hA : ∀ q : Nat, s.heap.size ≤ q → A q := fun q h => by rw [← hAe]; exact Or.inr h
  have hS : va_S A s.heap s.heap [] := va_S.rf
  have hl := lv_entry ([.ref h0]) (n := 1) (Nat.le_of_ble_eq_true rfl)
  rw [lg_entry_eq]
  generalize (lg_sl ([.ref h0]) ++ List.replicate (1 - (lg_sl ([.ref h0])).length) Slot.unset).toArray = ls at hl ⊢
  have hl : lv_has ls 1 [(0, .ref h0)] := hl
  refine lv_aload_n hx hb d_X_init_0 rfl (lv_at hl 0 rfl) ?_
  refine W.objInit hx hb hown (ht _ tk_14) (ht _ tk_15) (ht _ tk_16) rfl (by rw [hml]; exact hl.1) rfl d_X_init_1 (Nat.le_of_ble_eq_true rfl) (Nat.le_of_ble_eq_true rfl) ?_
  refine W.eq (g2 := F0 m 4 ls []) rfl ?_
  refine lv_aload_n hx hb d_X_init_4 rfl (lv_at hl 0 rfl) ?_
  refine lv_sipush (v := 201) hx hb d_X_init_5 (by decide) ?_
  refine vi_newq (cA := cs 3) (N' := 201) (C := R_O) hx hb hown (ht _ tk_17) (Nx_ao hN) hK hP hD hS hA 3 rfl (by decide) (by decide) (Nat.le_of_ble_eq_true rfl) (Nat.le_of_ble_eq_true rfl) (Nat.le_of_ble_eq_true rfl) d_X_init_8 (fun q_1 H hP hD hS => ?_)
  have hP : va_P D classes [(h0, .inr (3, [.null, .int 0, .null, .long 0, .null, .null, .null, .int 0])), (q_1, .inl (cs 3, 201, .inr (.inr (.inr (.inr (fun _ => none))))))] H := hP
  have hD : va_D A [(h0, .inr (3, [.null, .int 0, .null, .long 0, .null, .null, .null, .int 0])), (q_1, .inl (cs 3, 201, .inr (.inr (.inr (.inr (fun _ => none))))))] := hD
  refine va_putF (D := D) (ci := 3) (C := R_X) (T := F_X) (N := 8) (v := .ref q_1) (ty := (.array (.object "OrderRows2$Order"))) hx hb ht i_X t_X t_X_ok n_X hown hK hP hD hS 0 rfl rfl 0 (by decide) (ht _ tk_19) (fun _ h9 => h9) rfl hin rfl (by decide +kernel) rfl rfl (Nat.le_of_ble_eq_true rfl) d_X_init_11 (fun H locs hP hD hS => ?_)
  have hP : va_P D classes [(h0, .inr (3, [.ref q_1, .int 0, .null, .long 0, .null, .null, .null, .int 0])), (q_1, .inl (cs 3, 201, .inr (.inr (.inr (.inr (fun _ => none))))))] H := hP
  have hD : va_D A [(h0, .inr (3, [.ref q_1, .int 0, .null, .long 0, .null, .null, .null, .int 0])), (q_1, .inl (cs 3, 201, .inr (.inr (.inr (.inr (fun _ => none))))))] := hD
  refine lv_aload_n hx hb d_X_init_14 rfl (lv_at hl 0 rfl) ?_
  refine lv_bipush (v := 9) hx hb d_X_init_15 (by decide) ?_
  refine vi_newa (atype := .int) (cA := cs 0) (N' := 9) (ty := .int) (a0 := (9, .inl (fun _ => 0))) hx hb (ht _ tk_44) rfl hK hP hD hS hA 0 rfl (fun _ h9 => h9) (fun _ => rfl) (by decide) (by decide) (Nat.le_of_ble_eq_true rfl) (Nat.le_of_ble_eq_true rfl) (Nat.le_of_ble_eq_true rfl) d_X_init_17 (fun q_2 H hP hD hS => ?_)
  have hP : va_P D classes [(h0, .inr (3, [.ref q_1, .int 0, .null, .long 0, .null, .null, .null, .int 0])), (q_1, .inl (cs 3, 201, .inr (.inr (.inr (.inr (fun _ => none)))))), (q_2, .inl (cs 0, 9, .inl (fun _ => 0)))] H := hP
  have hD : va_D A [(h0, .inr (3, [.ref q_1, .int 0, .null, .long 0, .null, .null, .null, .int 0])), (q_1, .inl (cs 3, 201, .inr (.inr (.inr (.inr (fun _ => none)))))), (q_2, .inl (cs 0, 9, .inl (fun _ => 0)))] := hD
  refine va_putF (D := D) (ci := 3) (C := R_X) (T := F_X) (N := 8) (v := .ref q_2) (ty := (.array .int)) hx hb ht i_X t_X t_X_ok n_X hown hK hP hD hS 0 rfl rfl 2 (by decide) (ht _ tk_21) (fun _ h9 => h9) rfl hin rfl (by decide +kernel) rfl rfl (Nat.le_of_ble_eq_true rfl) d_X_init_19 (fun H locs hP hD hS => ?_)
  have hP : va_P D classes [(h0, .inr (3, [.ref q_1, .int 0, .ref q_2, .long 0, .null, .null, .null, .int 0])), (q_1, .inl (cs 3, 201, .inr (.inr (.inr (.inr (fun _ => none)))))), (q_2, .inl (cs 0, 9, .inl (fun _ => 0)))] H := hP
  have hD : va_D A [(h0, .inr (3, [.ref q_1, .int 0, .ref q_2, .long 0, .null, .null, .null, .int 0])), (q_1, .inl (cs 3, 201, .inr (.inr (.inr (.inr (fun _ => none)))))), (q_2, .inl (cs 0, 9, .inl (fun _ => 0)))] := hD
  refine lv_aload_n hx hb d_X_init_22 rfl (lv_at hl 0 rfl) ?_
  refine lv_bipush (v := 100) hx hb d_X_init_23 (by decide) ?_
  refine vi_newa (atype := .int) (cA := cs 0) (N' := 100) (ty := .int) (a0 := (100, .inl (fun _ => 0))) hx hb (ht _ tk_44) rfl hK hP hD hS hA 0 rfl (fun _ h9 => h9) (fun _ => rfl) (by decide) (by decide) (Nat.le_of_ble_eq_true rfl) (Nat.le_of_ble_eq_true rfl) (Nat.le_of_ble_eq_true rfl) d_X_init_25 (fun q_3 H hP hD hS => ?_)
  have hP : va_P D classes [(h0, .inr (3, [.ref q_1, .int 0, .ref q_2, .long 0, .null, .null, .null, .int 0])), (q_1, .inl (cs 3, 201, .inr (.inr (.inr (.inr (fun _ => none)))))), (q_2, .inl (cs 0, 9, .inl (fun _ => 0))), (q_3, .inl (cs 0, 100, .inl (fun _ => 0)))] H := hP
  have hD : va_D A [(h0, .inr (3, [.ref q_1, .int 0, .ref q_2, .long 0, .null, .null, .null, .int 0])), (q_1, .inl (cs 3, 201, .inr (.inr (.inr (.inr (fun _ => none)))))), (q_2, .inl (cs 0, 9, .inl (fun _ => 0))), (q_3, .inl (cs 0, 100, .inl (fun _ => 0)))] := hD
  refine va_putF (D := D) (ci := 3) (C := R_X) (T := F_X) (N := 8) (v := .ref q_3) (ty := (.array .int)) hx hb ht i_X t_X t_X_ok n_X hown hK hP hD hS 0 rfl rfl 4 (by decide) (ht _ tk_23) (fun _ h9 => h9) rfl hin rfl (by decide +kernel) rfl rfl (Nat.le_of_ble_eq_true rfl) d_X_init_27 (fun H locs hP hD hS => ?_)
  have hP : va_P D classes [(h0, .inr (3, [.ref q_1, .int 0, .ref q_2, .long 0, .ref q_3, .null, .null, .int 0])), (q_1, .inl (cs 3, 201, .inr (.inr (.inr (.inr (fun _ => none)))))), (q_2, .inl (cs 0, 9, .inl (fun _ => 0))), (q_3, .inl (cs 0, 100, .inl (fun _ => 0)))] H := hP
  have hD : va_D A [(h0, .inr (3, [.ref q_1, .int 0, .ref q_2, .long 0, .ref q_3, .null, .null, .int 0])), (q_1, .inl (cs 3, 201, .inr (.inr (.inr (.inr (fun _ => none)))))), (q_2, .inl (cs 0, 9, .inl (fun _ => 0))), (q_3, .inl (cs 0, 100, .inl (fun _ => 0)))] := hD
  refine lv_aload_n hx hb d_X_init_30 rfl (lv_at hl 0 rfl) ?_
  refine lv_bipush (v := 100) hx hb d_X_init_31 (by decide) ?_
  refine vi_newa (atype := .boolean) (cA := cs 1) (N' := 100) (ty := .boolean) (a0 := (100, .inl (fun _ => 0))) hx hb (ht _ tk_45) rfl hK hP hD hS hA 1 rfl (fun _ h9 => h9) (fun _ => rfl) (by decide) (by decide) (Nat.le_of_ble_eq_true rfl) (Nat.le_of_ble_eq_true rfl) (Nat.le_of_ble_eq_true rfl) d_X_init_33 (fun q_4 H hP hD hS => ?_)
  have hP : va_P D classes [(h0, .inr (3, [.ref q_1, .int 0, .ref q_2, .long 0, .ref q_3, .null, .null, .int 0])), (q_1, .inl (cs 3, 201, .inr (.inr (.inr (.inr (fun _ => none)))))), (q_2, .inl (cs 0, 9, .inl (fun _ => 0))), (q_3, .inl (cs 0, 100, .inl (fun _ => 0))), (q_4, .inl (cs 1, 100, .inl (fun _ => 0)))] H := hP
  have hD : va_D A [(h0, .inr (3, [.ref q_1, .int 0, .ref q_2, .long 0, .ref q_3, .null, .null, .int 0])), (q_1, .inl (cs 3, 201, .inr (.inr (.inr (.inr (fun _ => none)))))), (q_2, .inl (cs 0, 9, .inl (fun _ => 0))), (q_3, .inl (cs 0, 100, .inl (fun _ => 0))), (q_4, .inl (cs 1, 100, .inl (fun _ => 0)))] := hD
  refine va_putF (D := D) (ci := 3) (C := R_X) (T := F_X) (N := 8) (v := .ref q_4) (ty := (.array .boolean)) hx hb ht i_X t_X t_X_ok n_X hown hK hP hD hS 0 rfl rfl 5 (by decide) (ht _ tk_24) (fun _ h9 => h9) rfl hin rfl (by decide +kernel) rfl rfl (Nat.le_of_ble_eq_true rfl) d_X_init_35 (fun H locs hP hD hS => ?_)
  have hP : va_P D classes [(h0, .inr (3, [.ref q_1, .int 0, .ref q_2, .long 0, .ref q_3, .ref q_4, .null, .int 0])), (q_1, .inl (cs 3, 201, .inr (.inr (.inr (.inr (fun _ => none)))))), (q_2, .inl (cs 0, 9, .inl (fun _ => 0))), (q_3, .inl (cs 0, 100, .inl (fun _ => 0))), (q_4, .inl (cs 1, 100, .inl (fun _ => 0)))] H := hP
  have hD : va_D A [(h0, .inr (3, [.ref q_1, .int 0, .ref q_2, .long 0, .ref q_3, .ref q_4, .null, .int 0])), (q_1, .inl (cs 3, 201, .inr (.inr (.inr (.inr (fun _ => none)))))), (q_2, .inl (cs 0, 9, .inl (fun _ => 0))), (q_3, .inl (cs 0, 100, .inl (fun _ => 0))), (q_4, .inl (cs 1, 100, .inl (fun _ => 0)))] := hD
  refine lv_aload_n hx hb d_X_init_38 rfl (lv_at hl 0 rfl) ?_
  refine lv_bipush (v := 100) hx hb d_X_init_39 (by decide) ?_
  refine vi_newa (atype := .int) (cA := cs 0) (N' := 100) (ty := .int) (a0 := (100, .inl (fun _ => 0))) hx hb (ht _ tk_44) rfl hK hP hD hS hA 0 rfl (fun _ h9 => h9) (fun _ => rfl) (by decide) (by decide) (Nat.le_of_ble_eq_true rfl) (Nat.le_of_ble_eq_true rfl) (Nat.le_of_ble_eq_true rfl) d_X_init_41 (fun q_5 H hP hD hS => ?_)
  have hP : va_P D classes [(h0, .inr (3, [.ref q_1, .int 0, .ref q_2, .long 0, .ref q_3, .ref q_4, .null, .int 0])), (q_1, .inl (cs 3, 201, .inr (.inr (.inr (.inr (fun _ => none)))))), (q_2, .inl (cs 0, 9, .inl (fun _ => 0))), (q_3, .inl (cs 0, 100, .inl (fun _ => 0))), (q_4, .inl (cs 1, 100, .inl (fun _ => 0))), (q_5, .inl (cs 0, 100, .inl (fun _ => 0)))] H := hP
  have hD : va_D A [(h0, .inr (3, [.ref q_1, .int 0, .ref q_2, .long 0, .ref q_3, .ref q_4, .null, .int 0])), (q_1, .inl (cs 3, 201, .inr (.inr (.inr (.inr (fun _ => none)))))), (q_2, .inl (cs 0, 9, .inl (fun _ => 0))), (q_3, .inl (cs 0, 100, .inl (fun _ => 0))), (q_4, .inl (cs 1, 100, .inl (fun _ => 0))), (q_5, .inl (cs 0, 100, .inl (fun _ => 0)))] := hD
  refine va_putF (D := D) (ci := 3) (C := R_X) (T := F_X) (N := 8) (v := .ref q_5) (ty := (.array .int)) hx hb ht i_X t_X t_X_ok n_X hown hK hP hD hS 0 rfl rfl 6 (by decide) (ht _ tk_25) (fun _ h9 => h9) rfl hin rfl (by decide +kernel) rfl rfl (Nat.le_of_ble_eq_true rfl) d_X_init_43 (fun H locs hP hD hS => ?_)
  have hP : va_P D classes [(h0, .inr (3, [.ref q_1, .int 0, .ref q_2, .long 0, .ref q_3, .ref q_4, .ref q_5, .int 0])), (q_1, .inl (cs 3, 201, .inr (.inr (.inr (.inr (fun _ => none)))))), (q_2, .inl (cs 0, 9, .inl (fun _ => 0))), (q_3, .inl (cs 0, 100, .inl (fun _ => 0))), (q_4, .inl (cs 1, 100, .inl (fun _ => 0))), (q_5, .inl (cs 0, 100, .inl (fun _ => 0)))] H := hP
  have hD : va_D A [(h0, .inr (3, [.ref q_1, .int 0, .ref q_2, .long 0, .ref q_3, .ref q_4, .ref q_5, .int 0])), (q_1, .inl (cs 3, 201, .inr (.inr (.inr (.inr (fun _ => none)))))), (q_2, .inl (cs 0, 9, .inl (fun _ => 0))), (q_3, .inl (cs 0, 100, .inl (fun _ => 0))), (q_4, .inl (cs 1, 100, .inl (fun _ => 0))), (q_5, .inl (cs 0, 100, .inl (fun _ => 0)))] := hD
  have hP : va_P D classes (cW (g6 h0 q_1 q_2 q_3 q_4 q_5) cs 0 0 ad K E P T V F U M X (fun _ => 0) (fun _ => 0) (fun _ => 0) (fun _ => 0) 0) H := by unfold cW; rw [og_0]; exact hP
  have hD : va_D A (cW (g6 h0 q_1 q_2 q_3 q_4 q_5) cs 0 0 ad K E P T V F U M X (fun _ => 0) (fun _ => 0) (fun _ => 0) (fun _ => 0) 0) := by unfold cW; rw [og_0]; exact hD
  exact W.vret hx hb hr (fun t9 ht9 hW => ⟨⟨(g6 h0 q_1 q_2 q_3 q_4 q_5), rfl, rfl, by rw [ht9]; exact hP, hD⟩, hS.F ht9⟩) hS.2.2 d_X_init_46
set_option maxHeartbeats 4000000 in
set_option maxRecDepth 100000 in
/-- OrderRows2Model() -/
theorem c_M_init (l : Launch) (D : va_G) (cs : Nat → Nat) (h0 : Nat) (sz : Nat) : Met l y_M_init (Cond.code y_M_init b_M_init 1 none :: wt) ({ frames := 1, cells := 12, slots := 2019, locals := 12 }) (va_Pc [.ref h0] (fun S0 => S0.heap.size = sz ∧ va_P D classes [(h0, .inr (4, [.int 0, .int 0, .null, .null, .null, .null, .null, .null, .null, .null, .null, .null, .long 0, .null, .int 0, .int 0, .null]))] S0.heap ∧ KK D cs S0 ∧ va_D (fun _ => True) [(h0, .inr (4, [.int 0, .int 0, .null, .null, .null, .null, .null, .null, .null, .null, .null, .null, .long 0, .null, .int 0, .int 0, .null]))])) (va_Qv (fun a : Nat → Nat => a 0 = h0) (fun (a : Nat → Nat) S1 => va_P D classes (mW a cs 0 0 0 (fun _ => 0) (fun _ => 0) (fun _ => 0) (fun _ => 0) (fun _ => 0) (fun _ => 0) (fun _ => 0) (fun _ => 0) (fun _ => 0) (fun _ => 0) (fun _ => 0) (fun _ => 0) 0 0) S1.heap ∧ va_D (va_A [(h0, .inr (4, [.int 0, .int 0, .null, .null, .null, .null, .null, .null, .null, .null, .null, .null, .long 0, .null, .int 0, .int 0, .null]))] sz) (mW a cs 0 0 0 (fun _ => 0) (fun _ => 0) (fun _ => 0) (fun _ => 0) (fun _ => 0) (fun _ => 0) (fun _ => 0) (fun _ => 0) (fun _ => 0) (fun _ => 0) (fun _ => 0) (fun _ => 0) 0 0)) (va_A [(h0, .inr (4, [.int 0, .int 0, .null, .null, .null, .null, .null, .null, .null, .null, .null, .null, .long 0, .null, .int 0, .int 0, .null]))] sz)) 12 2019 (va_A [(h0, .inr (4, [.int 0, .int 0, .null, .null, .null, .null, .null, .null, .null, .null, .null, .null, .long 0, .null, .int 0, .int 0, .null]))] sz) := by
  refine Met.ofW (cc := b_M_init) (maxL := 1) (ret := none) (by decide) rfl ?_
  intro p e s m args below meth c s₁ B hml hv
  obtain ⟨rfl, hsz, hP, ⟨hK, hN⟩, hD0⟩ := hv
  have hx := B.exec
  have hb := B.bytes
  have hr := B.returns
  have ht : ∀ w ∈ wt, w.before _ s = true := fun w h => atoms_spec (ws := _ :: wt) B.pre w (List.mem_cons_of_mem _ h)
  have hown : s.vm.findClass R_M = some m.cls := findClass_of_methodNamed B.named
  have hlocks := B.notSynchronized
  have hin : meth.name = "<init>" := (name_of_methodNamed B.named B.method).1
  subst hsz
  have hD := hD0.self (sz := s.heap.size)
  generalize hAe : va_A [(h0, .inr (4, [.int 0, .int 0, .null, .null, .null, .null, .null, .null, .null, .null, .null, .null, .long 0, .null, .int 0, .int 0, .null]))] s.heap.size = A at hD ⊢
  have hA : ∀ q : Nat, s.heap.size ≤ q → A q := fun q h => by rw [← hAe]; exact Or.inr h
  have hS : va_S A s.heap s.heap [] := va_S.rf
  have hl := lv_entry ([.ref h0]) (n := 1) (Nat.le_of_ble_eq_true rfl)
  rw [lg_entry_eq]
  generalize (lg_sl ([.ref h0]) ++ List.replicate (1 - (lg_sl ([.ref h0])).length) Slot.unset).toArray = ls at hl ⊢
  have hl : lv_has ls 1 [(0, .ref h0)] := hl
  refine lv_aload_n hx hb d_M_init_0 rfl (lv_at hl 0 rfl) ?_
  refine W.objInit hx hb hown (ht _ tk_260) (ht _ tk_15) (ht _ tk_16) rfl (by rw [hml]; exact hl.1) rfl d_M_init_1 (Nat.le_of_ble_eq_true rfl) (Nat.le_of_ble_eq_true rfl) ?_
  refine W.eq (g2 := F0 m 4 ls []) rfl ?_
  refine lv_aload_n hx hb d_M_init_4 rfl (lv_at hl 0 rfl) ?_
  refine lv_sipush (v := 201) hx hb d_M_init_5 (by decide) ?_
  refine vi_newa (atype := .int) (cA := cs 0) (N' := 201) (ty := .int) (a0 := (201, .inl (fun _ => 0))) hx hb (ht _ tk_44) rfl hK hP hD hS hA 0 rfl (fun _ h9 => h9) (fun _ => rfl) (by decide) (by decide) (Nat.le_of_ble_eq_true rfl) (Nat.le_of_ble_eq_true rfl) (Nat.le_of_ble_eq_true rfl) d_M_init_8 (fun q_1 H hP hD hS => ?_)
  have hP : va_P D classes [(h0, .inr (4, [.int 0, .int 0, .null, .null, .null, .null, .null, .null, .null, .null, .null, .null, .long 0, .null, .int 0, .int 0, .null])), (q_1, .inl (cs 0, 201, .inl (fun _ => 0)))] H := hP
  have hD : va_D A [(h0, .inr (4, [.int 0, .int 0, .null, .null, .null, .null, .null, .null, .null, .null, .null, .null, .long 0, .null, .int 0, .int 0, .null])), (q_1, .inl (cs 0, 201, .inl (fun _ => 0)))] := hD
  refine va_putF (D := D) (ci := 4) (C := R_M) (T := F_M) (N := 17) (v := .ref q_1) (ty := (.array .int)) hx hb ht i_M t_M t_M_ok n_M hown hK hP hD hS 0 rfl rfl 2 (by decide) (ht _ tk_263) (fun _ h9 => h9) rfl hin rfl (by decide +kernel) rfl rfl (Nat.le_of_ble_eq_true rfl) d_M_init_10 (fun H locs hP hD hS => ?_)
  have hP : va_P D classes [(h0, .inr (4, [.int 0, .int 0, .ref q_1, .null, .null, .null, .null, .null, .null, .null, .null, .null, .long 0, .null, .int 0, .int 0, .null])), (q_1, .inl (cs 0, 201, .inl (fun _ => 0)))] H := hP
  have hD : va_D A [(h0, .inr (4, [.int 0, .int 0, .ref q_1, .null, .null, .null, .null, .null, .null, .null, .null, .null, .long 0, .null, .int 0, .int 0, .null])), (q_1, .inl (cs 0, 201, .inl (fun _ => 0)))] := hD
  refine lv_aload_n hx hb d_M_init_13 rfl (lv_at hl 0 rfl) ?_
  refine lv_sipush (v := 201) hx hb d_M_init_14 (by decide) ?_
  refine vi_newa (atype := .int) (cA := cs 0) (N' := 201) (ty := .int) (a0 := (201, .inl (fun _ => 0))) hx hb (ht _ tk_44) rfl hK hP hD hS hA 0 rfl (fun _ h9 => h9) (fun _ => rfl) (by decide) (by decide) (Nat.le_of_ble_eq_true rfl) (Nat.le_of_ble_eq_true rfl) (Nat.le_of_ble_eq_true rfl) d_M_init_17 (fun q_2 H hP hD hS => ?_)
  have hP : va_P D classes [(h0, .inr (4, [.int 0, .int 0, .ref q_1, .null, .null, .null, .null, .null, .null, .null, .null, .null, .long 0, .null, .int 0, .int 0, .null])), (q_1, .inl (cs 0, 201, .inl (fun _ => 0))), (q_2, .inl (cs 0, 201, .inl (fun _ => 0)))] H := hP
  have hD : va_D A [(h0, .inr (4, [.int 0, .int 0, .ref q_1, .null, .null, .null, .null, .null, .null, .null, .null, .null, .long 0, .null, .int 0, .int 0, .null])), (q_1, .inl (cs 0, 201, .inl (fun _ => 0))), (q_2, .inl (cs 0, 201, .inl (fun _ => 0)))] := hD
  refine va_putF (D := D) (ci := 4) (C := R_M) (T := F_M) (N := 17) (v := .ref q_2) (ty := (.array .int)) hx hb ht i_M t_M t_M_ok n_M hown hK hP hD hS 0 rfl rfl 3 (by decide) (ht _ tk_264) (fun _ h9 => h9) rfl hin rfl (by decide +kernel) rfl rfl (Nat.le_of_ble_eq_true rfl) d_M_init_19 (fun H locs hP hD hS => ?_)
  have hP : va_P D classes [(h0, .inr (4, [.int 0, .int 0, .ref q_1, .ref q_2, .null, .null, .null, .null, .null, .null, .null, .null, .long 0, .null, .int 0, .int 0, .null])), (q_1, .inl (cs 0, 201, .inl (fun _ => 0))), (q_2, .inl (cs 0, 201, .inl (fun _ => 0)))] H := hP
  have hD : va_D A [(h0, .inr (4, [.int 0, .int 0, .ref q_1, .ref q_2, .null, .null, .null, .null, .null, .null, .null, .null, .long 0, .null, .int 0, .int 0, .null])), (q_1, .inl (cs 0, 201, .inl (fun _ => 0))), (q_2, .inl (cs 0, 201, .inl (fun _ => 0)))] := hD
  refine lv_aload_n hx hb d_M_init_22 rfl (lv_at hl 0 rfl) ?_
  refine lv_sipush (v := 201) hx hb d_M_init_23 (by decide) ?_
  refine vi_newa (atype := .int) (cA := cs 0) (N' := 201) (ty := .int) (a0 := (201, .inl (fun _ => 0))) hx hb (ht _ tk_44) rfl hK hP hD hS hA 0 rfl (fun _ h9 => h9) (fun _ => rfl) (by decide) (by decide) (Nat.le_of_ble_eq_true rfl) (Nat.le_of_ble_eq_true rfl) (Nat.le_of_ble_eq_true rfl) d_M_init_26 (fun q_3 H hP hD hS => ?_)
  have hP : va_P D classes [(h0, .inr (4, [.int 0, .int 0, .ref q_1, .ref q_2, .null, .null, .null, .null, .null, .null, .null, .null, .long 0, .null, .int 0, .int 0, .null])), (q_1, .inl (cs 0, 201, .inl (fun _ => 0))), (q_2, .inl (cs 0, 201, .inl (fun _ => 0))), (q_3, .inl (cs 0, 201, .inl (fun _ => 0)))] H := hP
  have hD : va_D A [(h0, .inr (4, [.int 0, .int 0, .ref q_1, .ref q_2, .null, .null, .null, .null, .null, .null, .null, .null, .long 0, .null, .int 0, .int 0, .null])), (q_1, .inl (cs 0, 201, .inl (fun _ => 0))), (q_2, .inl (cs 0, 201, .inl (fun _ => 0))), (q_3, .inl (cs 0, 201, .inl (fun _ => 0)))] := hD
  refine va_putF (D := D) (ci := 4) (C := R_M) (T := F_M) (N := 17) (v := .ref q_3) (ty := (.array .int)) hx hb ht i_M t_M t_M_ok n_M hown hK hP hD hS 0 rfl rfl 4 (by decide) (ht _ tk_265) (fun _ h9 => h9) rfl hin rfl (by decide +kernel) rfl rfl (Nat.le_of_ble_eq_true rfl) d_M_init_28 (fun H locs hP hD hS => ?_)
  have hP : va_P D classes [(h0, .inr (4, [.int 0, .int 0, .ref q_1, .ref q_2, .ref q_3, .null, .null, .null, .null, .null, .null, .null, .long 0, .null, .int 0, .int 0, .null])), (q_1, .inl (cs 0, 201, .inl (fun _ => 0))), (q_2, .inl (cs 0, 201, .inl (fun _ => 0))), (q_3, .inl (cs 0, 201, .inl (fun _ => 0)))] H := hP
  have hD : va_D A [(h0, .inr (4, [.int 0, .int 0, .ref q_1, .ref q_2, .ref q_3, .null, .null, .null, .null, .null, .null, .null, .long 0, .null, .int 0, .int 0, .null])), (q_1, .inl (cs 0, 201, .inl (fun _ => 0))), (q_2, .inl (cs 0, 201, .inl (fun _ => 0))), (q_3, .inl (cs 0, 201, .inl (fun _ => 0)))] := hD
  refine lv_aload_n hx hb d_M_init_31 rfl (lv_at hl 0 rfl) ?_
  refine lv_sipush (v := 201) hx hb d_M_init_32 (by decide) ?_
  refine vi_newa (atype := .int) (cA := cs 0) (N' := 201) (ty := .int) (a0 := (201, .inl (fun _ => 0))) hx hb (ht _ tk_44) rfl hK hP hD hS hA 0 rfl (fun _ h9 => h9) (fun _ => rfl) (by decide) (by decide) (Nat.le_of_ble_eq_true rfl) (Nat.le_of_ble_eq_true rfl) (Nat.le_of_ble_eq_true rfl) d_M_init_35 (fun q_4 H hP hD hS => ?_)
  have hP : va_P D classes [(h0, .inr (4, [.int 0, .int 0, .ref q_1, .ref q_2, .ref q_3, .null, .null, .null, .null, .null, .null, .null, .long 0, .null, .int 0, .int 0, .null])), (q_1, .inl (cs 0, 201, .inl (fun _ => 0))), (q_2, .inl (cs 0, 201, .inl (fun _ => 0))), (q_3, .inl (cs 0, 201, .inl (fun _ => 0))), (q_4, .inl (cs 0, 201, .inl (fun _ => 0)))] H := hP
  have hD : va_D A [(h0, .inr (4, [.int 0, .int 0, .ref q_1, .ref q_2, .ref q_3, .null, .null, .null, .null, .null, .null, .null, .long 0, .null, .int 0, .int 0, .null])), (q_1, .inl (cs 0, 201, .inl (fun _ => 0))), (q_2, .inl (cs 0, 201, .inl (fun _ => 0))), (q_3, .inl (cs 0, 201, .inl (fun _ => 0))), (q_4, .inl (cs 0, 201, .inl (fun _ => 0)))] := hD
  refine va_putF (D := D) (ci := 4) (C := R_M) (T := F_M) (N := 17) (v := .ref q_4) (ty := (.array .int)) hx hb ht i_M t_M t_M_ok n_M hown hK hP hD hS 0 rfl rfl 5 (by decide) (ht _ tk_266) (fun _ h9 => h9) rfl hin rfl (by decide +kernel) rfl rfl (Nat.le_of_ble_eq_true rfl) d_M_init_37 (fun H locs hP hD hS => ?_)
  have hP : va_P D classes [(h0, .inr (4, [.int 0, .int 0, .ref q_1, .ref q_2, .ref q_3, .ref q_4, .null, .null, .null, .null, .null, .null, .long 0, .null, .int 0, .int 0, .null])), (q_1, .inl (cs 0, 201, .inl (fun _ => 0))), (q_2, .inl (cs 0, 201, .inl (fun _ => 0))), (q_3, .inl (cs 0, 201, .inl (fun _ => 0))), (q_4, .inl (cs 0, 201, .inl (fun _ => 0)))] H := hP
  have hD : va_D A [(h0, .inr (4, [.int 0, .int 0, .ref q_1, .ref q_2, .ref q_3, .ref q_4, .null, .null, .null, .null, .null, .null, .long 0, .null, .int 0, .int 0, .null])), (q_1, .inl (cs 0, 201, .inl (fun _ => 0))), (q_2, .inl (cs 0, 201, .inl (fun _ => 0))), (q_3, .inl (cs 0, 201, .inl (fun _ => 0))), (q_4, .inl (cs 0, 201, .inl (fun _ => 0)))] := hD
  refine lv_aload_n hx hb d_M_init_40 rfl (lv_at hl 0 rfl) ?_
  refine lv_sipush (v := 201) hx hb d_M_init_41 (by decide) ?_
  refine vi_newa (atype := .long) (cA := cs 2) (N' := 201) (ty := .long) (a0 := (201, .inr (.inl (fun _ => 0)))) hx hb (ht _ tk_312) rfl hK hP hD hS hA 2 rfl (fun _ h9 => h9) (fun _ => rfl) (by decide) (by decide) (Nat.le_of_ble_eq_true rfl) (Nat.le_of_ble_eq_true rfl) (Nat.le_of_ble_eq_true rfl) d_M_init_44 (fun q_5 H hP hD hS => ?_)
  have hP : va_P D classes [(h0, .inr (4, [.int 0, .int 0, .ref q_1, .ref q_2, .ref q_3, .ref q_4, .null, .null, .null, .null, .null, .null, .long 0, .null, .int 0, .int 0, .null])), (q_1, .inl (cs 0, 201, .inl (fun _ => 0))), (q_2, .inl (cs 0, 201, .inl (fun _ => 0))), (q_3, .inl (cs 0, 201, .inl (fun _ => 0))), (q_4, .inl (cs 0, 201, .inl (fun _ => 0))), (q_5, .inl (cs 2, 201, .inr (.inl (fun _ => 0))))] H := hP
  have hD : va_D A [(h0, .inr (4, [.int 0, .int 0, .ref q_1, .ref q_2, .ref q_3, .ref q_4, .null, .null, .null, .null, .null, .null, .long 0, .null, .int 0, .int 0, .null])), (q_1, .inl (cs 0, 201, .inl (fun _ => 0))), (q_2, .inl (cs 0, 201, .inl (fun _ => 0))), (q_3, .inl (cs 0, 201, .inl (fun _ => 0))), (q_4, .inl (cs 0, 201, .inl (fun _ => 0))), (q_5, .inl (cs 2, 201, .inr (.inl (fun _ => 0))))] := hD
  refine va_putF (D := D) (ci := 4) (C := R_M) (T := F_M) (N := 17) (v := .ref q_5) (ty := (.array .long)) hx hb ht i_M t_M t_M_ok n_M hown hK hP hD hS 0 rfl rfl 6 (by decide) (ht _ tk_267) (fun _ h9 => h9) rfl hin rfl (by decide +kernel) rfl rfl (Nat.le_of_ble_eq_true rfl) d_M_init_46 (fun H locs hP hD hS => ?_)
  have hP : va_P D classes [(h0, .inr (4, [.int 0, .int 0, .ref q_1, .ref q_2, .ref q_3, .ref q_4, .ref q_5, .null, .null, .null, .null, .null, .long 0, .null, .int 0, .int 0, .null])), (q_1, .inl (cs 0, 201, .inl (fun _ => 0))), (q_2, .inl (cs 0, 201, .inl (fun _ => 0))), (q_3, .inl (cs 0, 201, .inl (fun _ => 0))), (q_4, .inl (cs 0, 201, .inl (fun _ => 0))), (q_5, .inl (cs 2, 201, .inr (.inl (fun _ => 0))))] H := hP
  have hD : va_D A [(h0, .inr (4, [.int 0, .int 0, .ref q_1, .ref q_2, .ref q_3, .ref q_4, .ref q_5, .null, .null, .null, .null, .null, .long 0, .null, .int 0, .int 0, .null])), (q_1, .inl (cs 0, 201, .inl (fun _ => 0))), (q_2, .inl (cs 0, 201, .inl (fun _ => 0))), (q_3, .inl (cs 0, 201, .inl (fun _ => 0))), (q_4, .inl (cs 0, 201, .inl (fun _ => 0))), (q_5, .inl (cs 2, 201, .inr (.inl (fun _ => 0))))] := hD
  refine lv_aload_n hx hb d_M_init_49 rfl (lv_at hl 0 rfl) ?_
  refine lv_sipush (v := 201) hx hb d_M_init_50 (by decide) ?_
  refine vi_newa (atype := .long) (cA := cs 2) (N' := 201) (ty := .long) (a0 := (201, .inr (.inl (fun _ => 0)))) hx hb (ht _ tk_312) rfl hK hP hD hS hA 2 rfl (fun _ h9 => h9) (fun _ => rfl) (by decide) (by decide) (Nat.le_of_ble_eq_true rfl) (Nat.le_of_ble_eq_true rfl) (Nat.le_of_ble_eq_true rfl) d_M_init_53 (fun q_6 H hP hD hS => ?_)
  have hP : va_P D classes [(h0, .inr (4, [.int 0, .int 0, .ref q_1, .ref q_2, .ref q_3, .ref q_4, .ref q_5, .null, .null, .null, .null, .null, .long 0, .null, .int 0, .int 0, .null])), (q_1, .inl (cs 0, 201, .inl (fun _ => 0))), (q_2, .inl (cs 0, 201, .inl (fun _ => 0))), (q_3, .inl (cs 0, 201, .inl (fun _ => 0))), (q_4, .inl (cs 0, 201, .inl (fun _ => 0))), (q_5, .inl (cs 2, 201, .inr (.inl (fun _ => 0)))), (q_6, .inl (cs 2, 201, .inr (.inl (fun _ => 0))))] H := hP
  have hD : va_D A [(h0, .inr (4, [.int 0, .int 0, .ref q_1, .ref q_2, .ref q_3, .ref q_4, .ref q_5, .null, .null, .null, .null, .null, .long 0, .null, .int 0, .int 0, .null])), (q_1, .inl (cs 0, 201, .inl (fun _ => 0))), (q_2, .inl (cs 0, 201, .inl (fun _ => 0))), (q_3, .inl (cs 0, 201, .inl (fun _ => 0))), (q_4, .inl (cs 0, 201, .inl (fun _ => 0))), (q_5, .inl (cs 2, 201, .inr (.inl (fun _ => 0)))), (q_6, .inl (cs 2, 201, .inr (.inl (fun _ => 0))))] := hD
  refine va_putF (D := D) (ci := 4) (C := R_M) (T := F_M) (N := 17) (v := .ref q_6) (ty := (.array .long)) hx hb ht i_M t_M t_M_ok n_M hown hK hP hD hS 0 rfl rfl 7 (by decide) (ht _ tk_268) (fun _ h9 => h9) rfl hin rfl (by decide +kernel) rfl rfl (Nat.le_of_ble_eq_true rfl) d_M_init_55 (fun H locs hP hD hS => ?_)
  have hP : va_P D classes [(h0, .inr (4, [.int 0, .int 0, .ref q_1, .ref q_2, .ref q_3, .ref q_4, .ref q_5, .ref q_6, .null, .null, .null, .null, .long 0, .null, .int 0, .int 0, .null])), (q_1, .inl (cs 0, 201, .inl (fun _ => 0))), (q_2, .inl (cs 0, 201, .inl (fun _ => 0))), (q_3, .inl (cs 0, 201, .inl (fun _ => 0))), (q_4, .inl (cs 0, 201, .inl (fun _ => 0))), (q_5, .inl (cs 2, 201, .inr (.inl (fun _ => 0)))), (q_6, .inl (cs 2, 201, .inr (.inl (fun _ => 0))))] H := hP
  have hD : va_D A [(h0, .inr (4, [.int 0, .int 0, .ref q_1, .ref q_2, .ref q_3, .ref q_4, .ref q_5, .ref q_6, .null, .null, .null, .null, .long 0, .null, .int 0, .int 0, .null])), (q_1, .inl (cs 0, 201, .inl (fun _ => 0))), (q_2, .inl (cs 0, 201, .inl (fun _ => 0))), (q_3, .inl (cs 0, 201, .inl (fun _ => 0))), (q_4, .inl (cs 0, 201, .inl (fun _ => 0))), (q_5, .inl (cs 2, 201, .inr (.inl (fun _ => 0)))), (q_6, .inl (cs 2, 201, .inr (.inl (fun _ => 0))))] := hD
  refine lv_aload_n hx hb d_M_init_58 rfl (lv_at hl 0 rfl) ?_
  refine lv_sipush (v := 201) hx hb d_M_init_59 (by decide) ?_
  refine vi_newa (atype := .long) (cA := cs 2) (N' := 201) (ty := .long) (a0 := (201, .inr (.inl (fun _ => 0)))) hx hb (ht _ tk_312) rfl hK hP hD hS hA 2 rfl (fun _ h9 => h9) (fun _ => rfl) (by decide) (by decide) (Nat.le_of_ble_eq_true rfl) (Nat.le_of_ble_eq_true rfl) (Nat.le_of_ble_eq_true rfl) d_M_init_62 (fun q_7 H hP hD hS => ?_)
  have hP : va_P D classes [(h0, .inr (4, [.int 0, .int 0, .ref q_1, .ref q_2, .ref q_3, .ref q_4, .ref q_5, .ref q_6, .null, .null, .null, .null, .long 0, .null, .int 0, .int 0, .null])), (q_1, .inl (cs 0, 201, .inl (fun _ => 0))), (q_2, .inl (cs 0, 201, .inl (fun _ => 0))), (q_3, .inl (cs 0, 201, .inl (fun _ => 0))), (q_4, .inl (cs 0, 201, .inl (fun _ => 0))), (q_5, .inl (cs 2, 201, .inr (.inl (fun _ => 0)))), (q_6, .inl (cs 2, 201, .inr (.inl (fun _ => 0)))), (q_7, .inl (cs 2, 201, .inr (.inl (fun _ => 0))))] H := hP
  have hD : va_D A [(h0, .inr (4, [.int 0, .int 0, .ref q_1, .ref q_2, .ref q_3, .ref q_4, .ref q_5, .ref q_6, .null, .null, .null, .null, .long 0, .null, .int 0, .int 0, .null])), (q_1, .inl (cs 0, 201, .inl (fun _ => 0))), (q_2, .inl (cs 0, 201, .inl (fun _ => 0))), (q_3, .inl (cs 0, 201, .inl (fun _ => 0))), (q_4, .inl (cs 0, 201, .inl (fun _ => 0))), (q_5, .inl (cs 2, 201, .inr (.inl (fun _ => 0)))), (q_6, .inl (cs 2, 201, .inr (.inl (fun _ => 0)))), (q_7, .inl (cs 2, 201, .inr (.inl (fun _ => 0))))] := hD
  refine va_putF (D := D) (ci := 4) (C := R_M) (T := F_M) (N := 17) (v := .ref q_7) (ty := (.array .long)) hx hb ht i_M t_M t_M_ok n_M hown hK hP hD hS 0 rfl rfl 8 (by decide) (ht _ tk_269) (fun _ h9 => h9) rfl hin rfl (by decide +kernel) rfl rfl (Nat.le_of_ble_eq_true rfl) d_M_init_64 (fun H locs hP hD hS => ?_)
  have hP : va_P D classes [(h0, .inr (4, [.int 0, .int 0, .ref q_1, .ref q_2, .ref q_3, .ref q_4, .ref q_5, .ref q_6, .ref q_7, .null, .null, .null, .long 0, .null, .int 0, .int 0, .null])), (q_1, .inl (cs 0, 201, .inl (fun _ => 0))), (q_2, .inl (cs 0, 201, .inl (fun _ => 0))), (q_3, .inl (cs 0, 201, .inl (fun _ => 0))), (q_4, .inl (cs 0, 201, .inl (fun _ => 0))), (q_5, .inl (cs 2, 201, .inr (.inl (fun _ => 0)))), (q_6, .inl (cs 2, 201, .inr (.inl (fun _ => 0)))), (q_7, .inl (cs 2, 201, .inr (.inl (fun _ => 0))))] H := hP
  have hD : va_D A [(h0, .inr (4, [.int 0, .int 0, .ref q_1, .ref q_2, .ref q_3, .ref q_4, .ref q_5, .ref q_6, .ref q_7, .null, .null, .null, .long 0, .null, .int 0, .int 0, .null])), (q_1, .inl (cs 0, 201, .inl (fun _ => 0))), (q_2, .inl (cs 0, 201, .inl (fun _ => 0))), (q_3, .inl (cs 0, 201, .inl (fun _ => 0))), (q_4, .inl (cs 0, 201, .inl (fun _ => 0))), (q_5, .inl (cs 2, 201, .inr (.inl (fun _ => 0)))), (q_6, .inl (cs 2, 201, .inr (.inl (fun _ => 0)))), (q_7, .inl (cs 2, 201, .inr (.inl (fun _ => 0))))] := hD
  refine lv_aload_n hx hb d_M_init_67 rfl (lv_at hl 0 rfl) ?_
  refine lv_sipush (v := 201) hx hb d_M_init_68 (by decide) ?_
  refine vi_newa (atype := .boolean) (cA := cs 1) (N' := 201) (ty := .boolean) (a0 := (201, .inl (fun _ => 0))) hx hb (ht _ tk_45) rfl hK hP hD hS hA 1 rfl (fun _ h9 => h9) (fun _ => rfl) (by decide) (by decide) (Nat.le_of_ble_eq_true rfl) (Nat.le_of_ble_eq_true rfl) (Nat.le_of_ble_eq_true rfl) d_M_init_71 (fun q_8 H hP hD hS => ?_)
  have hP : va_P D classes [(h0, .inr (4, [.int 0, .int 0, .ref q_1, .ref q_2, .ref q_3, .ref q_4, .ref q_5, .ref q_6, .ref q_7, .null, .null, .null, .long 0, .null, .int 0, .int 0, .null])), (q_1, .inl (cs 0, 201, .inl (fun _ => 0))), (q_2, .inl (cs 0, 201, .inl (fun _ => 0))), (q_3, .inl (cs 0, 201, .inl (fun _ => 0))), (q_4, .inl (cs 0, 201, .inl (fun _ => 0))), (q_5, .inl (cs 2, 201, .inr (.inl (fun _ => 0)))), (q_6, .inl (cs 2, 201, .inr (.inl (fun _ => 0)))), (q_7, .inl (cs 2, 201, .inr (.inl (fun _ => 0)))), (q_8, .inl (cs 1, 201, .inl (fun _ => 0)))] H := hP
  have hD : va_D A [(h0, .inr (4, [.int 0, .int 0, .ref q_1, .ref q_2, .ref q_3, .ref q_4, .ref q_5, .ref q_6, .ref q_7, .null, .null, .null, .long 0, .null, .int 0, .int 0, .null])), (q_1, .inl (cs 0, 201, .inl (fun _ => 0))), (q_2, .inl (cs 0, 201, .inl (fun _ => 0))), (q_3, .inl (cs 0, 201, .inl (fun _ => 0))), (q_4, .inl (cs 0, 201, .inl (fun _ => 0))), (q_5, .inl (cs 2, 201, .inr (.inl (fun _ => 0)))), (q_6, .inl (cs 2, 201, .inr (.inl (fun _ => 0)))), (q_7, .inl (cs 2, 201, .inr (.inl (fun _ => 0)))), (q_8, .inl (cs 1, 201, .inl (fun _ => 0)))] := hD
  refine va_putF (D := D) (ci := 4) (C := R_M) (T := F_M) (N := 17) (v := .ref q_8) (ty := (.array .boolean)) hx hb ht i_M t_M t_M_ok n_M hown hK hP hD hS 0 rfl rfl 9 (by decide) (ht _ tk_270) (fun _ h9 => h9) rfl hin rfl (by decide +kernel) rfl rfl (Nat.le_of_ble_eq_true rfl) d_M_init_73 (fun H locs hP hD hS => ?_)
  have hP : va_P D classes [(h0, .inr (4, [.int 0, .int 0, .ref q_1, .ref q_2, .ref q_3, .ref q_4, .ref q_5, .ref q_6, .ref q_7, .ref q_8, .null, .null, .long 0, .null, .int 0, .int 0, .null])), (q_1, .inl (cs 0, 201, .inl (fun _ => 0))), (q_2, .inl (cs 0, 201, .inl (fun _ => 0))), (q_3, .inl (cs 0, 201, .inl (fun _ => 0))), (q_4, .inl (cs 0, 201, .inl (fun _ => 0))), (q_5, .inl (cs 2, 201, .inr (.inl (fun _ => 0)))), (q_6, .inl (cs 2, 201, .inr (.inl (fun _ => 0)))), (q_7, .inl (cs 2, 201, .inr (.inl (fun _ => 0)))), (q_8, .inl (cs 1, 201, .inl (fun _ => 0)))] H := hP
  have hD : va_D A [(h0, .inr (4, [.int 0, .int 0, .ref q_1, .ref q_2, .ref q_3, .ref q_4, .ref q_5, .ref q_6, .ref q_7, .ref q_8, .null, .null, .long 0, .null, .int 0, .int 0, .null])), (q_1, .inl (cs 0, 201, .inl (fun _ => 0))), (q_2, .inl (cs 0, 201, .inl (fun _ => 0))), (q_3, .inl (cs 0, 201, .inl (fun _ => 0))), (q_4, .inl (cs 0, 201, .inl (fun _ => 0))), (q_5, .inl (cs 2, 201, .inr (.inl (fun _ => 0)))), (q_6, .inl (cs 2, 201, .inr (.inl (fun _ => 0)))), (q_7, .inl (cs 2, 201, .inr (.inl (fun _ => 0)))), (q_8, .inl (cs 1, 201, .inl (fun _ => 0)))] := hD
  refine lv_aload_n hx hb d_M_init_76 rfl (lv_at hl 0 rfl) ?_
  refine lv_sipush (v := 201) hx hb d_M_init_77 (by decide) ?_
  refine vi_newa (atype := .long) (cA := cs 2) (N' := 201) (ty := .long) (a0 := (201, .inr (.inl (fun _ => 0)))) hx hb (ht _ tk_312) rfl hK hP hD hS hA 2 rfl (fun _ h9 => h9) (fun _ => rfl) (by decide) (by decide) (Nat.le_of_ble_eq_true rfl) (Nat.le_of_ble_eq_true rfl) (Nat.le_of_ble_eq_true rfl) d_M_init_80 (fun q_9 H hP hD hS => ?_)
  have hP : va_P D classes [(h0, .inr (4, [.int 0, .int 0, .ref q_1, .ref q_2, .ref q_3, .ref q_4, .ref q_5, .ref q_6, .ref q_7, .ref q_8, .null, .null, .long 0, .null, .int 0, .int 0, .null])), (q_1, .inl (cs 0, 201, .inl (fun _ => 0))), (q_2, .inl (cs 0, 201, .inl (fun _ => 0))), (q_3, .inl (cs 0, 201, .inl (fun _ => 0))), (q_4, .inl (cs 0, 201, .inl (fun _ => 0))), (q_5, .inl (cs 2, 201, .inr (.inl (fun _ => 0)))), (q_6, .inl (cs 2, 201, .inr (.inl (fun _ => 0)))), (q_7, .inl (cs 2, 201, .inr (.inl (fun _ => 0)))), (q_8, .inl (cs 1, 201, .inl (fun _ => 0))), (q_9, .inl (cs 2, 201, .inr (.inl (fun _ => 0))))] H := hP
  have hD : va_D A [(h0, .inr (4, [.int 0, .int 0, .ref q_1, .ref q_2, .ref q_3, .ref q_4, .ref q_5, .ref q_6, .ref q_7, .ref q_8, .null, .null, .long 0, .null, .int 0, .int 0, .null])), (q_1, .inl (cs 0, 201, .inl (fun _ => 0))), (q_2, .inl (cs 0, 201, .inl (fun _ => 0))), (q_3, .inl (cs 0, 201, .inl (fun _ => 0))), (q_4, .inl (cs 0, 201, .inl (fun _ => 0))), (q_5, .inl (cs 2, 201, .inr (.inl (fun _ => 0)))), (q_6, .inl (cs 2, 201, .inr (.inl (fun _ => 0)))), (q_7, .inl (cs 2, 201, .inr (.inl (fun _ => 0)))), (q_8, .inl (cs 1, 201, .inl (fun _ => 0))), (q_9, .inl (cs 2, 201, .inr (.inl (fun _ => 0))))] := hD
  refine va_putF (D := D) (ci := 4) (C := R_M) (T := F_M) (N := 17) (v := .ref q_9) (ty := (.array .long)) hx hb ht i_M t_M t_M_ok n_M hown hK hP hD hS 0 rfl rfl 10 (by decide) (ht _ tk_271) (fun _ h9 => h9) rfl hin rfl (by decide +kernel) rfl rfl (Nat.le_of_ble_eq_true rfl) d_M_init_82 (fun H locs hP hD hS => ?_)
  have hP : va_P D classes [(h0, .inr (4, [.int 0, .int 0, .ref q_1, .ref q_2, .ref q_3, .ref q_4, .ref q_5, .ref q_6, .ref q_7, .ref q_8, .ref q_9, .null, .long 0, .null, .int 0, .int 0, .null])), (q_1, .inl (cs 0, 201, .inl (fun _ => 0))), (q_2, .inl (cs 0, 201, .inl (fun _ => 0))), (q_3, .inl (cs 0, 201, .inl (fun _ => 0))), (q_4, .inl (cs 0, 201, .inl (fun _ => 0))), (q_5, .inl (cs 2, 201, .inr (.inl (fun _ => 0)))), (q_6, .inl (cs 2, 201, .inr (.inl (fun _ => 0)))), (q_7, .inl (cs 2, 201, .inr (.inl (fun _ => 0)))), (q_8, .inl (cs 1, 201, .inl (fun _ => 0))), (q_9, .inl (cs 2, 201, .inr (.inl (fun _ => 0))))] H := hP
  have hD : va_D A [(h0, .inr (4, [.int 0, .int 0, .ref q_1, .ref q_2, .ref q_3, .ref q_4, .ref q_5, .ref q_6, .ref q_7, .ref q_8, .ref q_9, .null, .long 0, .null, .int 0, .int 0, .null])), (q_1, .inl (cs 0, 201, .inl (fun _ => 0))), (q_2, .inl (cs 0, 201, .inl (fun _ => 0))), (q_3, .inl (cs 0, 201, .inl (fun _ => 0))), (q_4, .inl (cs 0, 201, .inl (fun _ => 0))), (q_5, .inl (cs 2, 201, .inr (.inl (fun _ => 0)))), (q_6, .inl (cs 2, 201, .inr (.inl (fun _ => 0)))), (q_7, .inl (cs 2, 201, .inr (.inl (fun _ => 0)))), (q_8, .inl (cs 1, 201, .inl (fun _ => 0))), (q_9, .inl (cs 2, 201, .inr (.inl (fun _ => 0))))] := hD
  refine lv_aload_n hx hb d_M_init_85 rfl (lv_at hl 0 rfl) ?_
  refine lv_bipush (v := 9) hx hb d_M_init_86 (by decide) ?_
  refine vi_newa (atype := .int) (cA := cs 0) (N' := 9) (ty := .int) (a0 := (9, .inl (fun _ => 0))) hx hb (ht _ tk_44) rfl hK hP hD hS hA 0 rfl (fun _ h9 => h9) (fun _ => rfl) (by decide) (by decide) (Nat.le_of_ble_eq_true rfl) (Nat.le_of_ble_eq_true rfl) (Nat.le_of_ble_eq_true rfl) d_M_init_88 (fun q_10 H hP hD hS => ?_)
  have hP : va_P D classes [(h0, .inr (4, [.int 0, .int 0, .ref q_1, .ref q_2, .ref q_3, .ref q_4, .ref q_5, .ref q_6, .ref q_7, .ref q_8, .ref q_9, .null, .long 0, .null, .int 0, .int 0, .null])), (q_1, .inl (cs 0, 201, .inl (fun _ => 0))), (q_2, .inl (cs 0, 201, .inl (fun _ => 0))), (q_3, .inl (cs 0, 201, .inl (fun _ => 0))), (q_4, .inl (cs 0, 201, .inl (fun _ => 0))), (q_5, .inl (cs 2, 201, .inr (.inl (fun _ => 0)))), (q_6, .inl (cs 2, 201, .inr (.inl (fun _ => 0)))), (q_7, .inl (cs 2, 201, .inr (.inl (fun _ => 0)))), (q_8, .inl (cs 1, 201, .inl (fun _ => 0))), (q_9, .inl (cs 2, 201, .inr (.inl (fun _ => 0)))), (q_10, .inl (cs 0, 9, .inl (fun _ => 0)))] H := hP
  have hD : va_D A [(h0, .inr (4, [.int 0, .int 0, .ref q_1, .ref q_2, .ref q_3, .ref q_4, .ref q_5, .ref q_6, .ref q_7, .ref q_8, .ref q_9, .null, .long 0, .null, .int 0, .int 0, .null])), (q_1, .inl (cs 0, 201, .inl (fun _ => 0))), (q_2, .inl (cs 0, 201, .inl (fun _ => 0))), (q_3, .inl (cs 0, 201, .inl (fun _ => 0))), (q_4, .inl (cs 0, 201, .inl (fun _ => 0))), (q_5, .inl (cs 2, 201, .inr (.inl (fun _ => 0)))), (q_6, .inl (cs 2, 201, .inr (.inl (fun _ => 0)))), (q_7, .inl (cs 2, 201, .inr (.inl (fun _ => 0)))), (q_8, .inl (cs 1, 201, .inl (fun _ => 0))), (q_9, .inl (cs 2, 201, .inr (.inl (fun _ => 0)))), (q_10, .inl (cs 0, 9, .inl (fun _ => 0)))] := hD
  refine va_putF (D := D) (ci := 4) (C := R_M) (T := F_M) (N := 17) (v := .ref q_10) (ty := (.array .int)) hx hb ht i_M t_M t_M_ok n_M hown hK hP hD hS 0 rfl rfl 11 (by decide) (ht _ tk_272) (fun _ h9 => h9) rfl hin rfl (by decide +kernel) rfl rfl (Nat.le_of_ble_eq_true rfl) d_M_init_90 (fun H locs hP hD hS => ?_)
  have hP : va_P D classes [(h0, .inr (4, [.int 0, .int 0, .ref q_1, .ref q_2, .ref q_3, .ref q_4, .ref q_5, .ref q_6, .ref q_7, .ref q_8, .ref q_9, .ref q_10, .long 0, .null, .int 0, .int 0, .null])), (q_1, .inl (cs 0, 201, .inl (fun _ => 0))), (q_2, .inl (cs 0, 201, .inl (fun _ => 0))), (q_3, .inl (cs 0, 201, .inl (fun _ => 0))), (q_4, .inl (cs 0, 201, .inl (fun _ => 0))), (q_5, .inl (cs 2, 201, .inr (.inl (fun _ => 0)))), (q_6, .inl (cs 2, 201, .inr (.inl (fun _ => 0)))), (q_7, .inl (cs 2, 201, .inr (.inl (fun _ => 0)))), (q_8, .inl (cs 1, 201, .inl (fun _ => 0))), (q_9, .inl (cs 2, 201, .inr (.inl (fun _ => 0)))), (q_10, .inl (cs 0, 9, .inl (fun _ => 0)))] H := hP
  have hD : va_D A [(h0, .inr (4, [.int 0, .int 0, .ref q_1, .ref q_2, .ref q_3, .ref q_4, .ref q_5, .ref q_6, .ref q_7, .ref q_8, .ref q_9, .ref q_10, .long 0, .null, .int 0, .int 0, .null])), (q_1, .inl (cs 0, 201, .inl (fun _ => 0))), (q_2, .inl (cs 0, 201, .inl (fun _ => 0))), (q_3, .inl (cs 0, 201, .inl (fun _ => 0))), (q_4, .inl (cs 0, 201, .inl (fun _ => 0))), (q_5, .inl (cs 2, 201, .inr (.inl (fun _ => 0)))), (q_6, .inl (cs 2, 201, .inr (.inl (fun _ => 0)))), (q_7, .inl (cs 2, 201, .inr (.inl (fun _ => 0)))), (q_8, .inl (cs 1, 201, .inl (fun _ => 0))), (q_9, .inl (cs 2, 201, .inr (.inl (fun _ => 0)))), (q_10, .inl (cs 0, 9, .inl (fun _ => 0)))] := hD
  refine lv_aload_n hx hb d_M_init_93 rfl (lv_at hl 0 rfl) ?_
  refine lv_bipush (v := 101) hx hb d_M_init_94 (by decide) ?_
  refine vi_newa (atype := .int) (cA := cs 0) (N' := 101) (ty := .int) (a0 := (101, .inl (fun _ => 0))) hx hb (ht _ tk_44) rfl hK hP hD hS hA 0 rfl (fun _ h9 => h9) (fun _ => rfl) (by decide) (by decide) (Nat.le_of_ble_eq_true rfl) (Nat.le_of_ble_eq_true rfl) (Nat.le_of_ble_eq_true rfl) d_M_init_96 (fun q_11 H hP hD hS => ?_)
  have hP : va_P D classes [(h0, .inr (4, [.int 0, .int 0, .ref q_1, .ref q_2, .ref q_3, .ref q_4, .ref q_5, .ref q_6, .ref q_7, .ref q_8, .ref q_9, .ref q_10, .long 0, .null, .int 0, .int 0, .null])), (q_1, .inl (cs 0, 201, .inl (fun _ => 0))), (q_2, .inl (cs 0, 201, .inl (fun _ => 0))), (q_3, .inl (cs 0, 201, .inl (fun _ => 0))), (q_4, .inl (cs 0, 201, .inl (fun _ => 0))), (q_5, .inl (cs 2, 201, .inr (.inl (fun _ => 0)))), (q_6, .inl (cs 2, 201, .inr (.inl (fun _ => 0)))), (q_7, .inl (cs 2, 201, .inr (.inl (fun _ => 0)))), (q_8, .inl (cs 1, 201, .inl (fun _ => 0))), (q_9, .inl (cs 2, 201, .inr (.inl (fun _ => 0)))), (q_10, .inl (cs 0, 9, .inl (fun _ => 0))), (q_11, .inl (cs 0, 101, .inl (fun _ => 0)))] H := hP
  have hD : va_D A [(h0, .inr (4, [.int 0, .int 0, .ref q_1, .ref q_2, .ref q_3, .ref q_4, .ref q_5, .ref q_6, .ref q_7, .ref q_8, .ref q_9, .ref q_10, .long 0, .null, .int 0, .int 0, .null])), (q_1, .inl (cs 0, 201, .inl (fun _ => 0))), (q_2, .inl (cs 0, 201, .inl (fun _ => 0))), (q_3, .inl (cs 0, 201, .inl (fun _ => 0))), (q_4, .inl (cs 0, 201, .inl (fun _ => 0))), (q_5, .inl (cs 2, 201, .inr (.inl (fun _ => 0)))), (q_6, .inl (cs 2, 201, .inr (.inl (fun _ => 0)))), (q_7, .inl (cs 2, 201, .inr (.inl (fun _ => 0)))), (q_8, .inl (cs 1, 201, .inl (fun _ => 0))), (q_9, .inl (cs 2, 201, .inr (.inl (fun _ => 0)))), (q_10, .inl (cs 0, 9, .inl (fun _ => 0))), (q_11, .inl (cs 0, 101, .inl (fun _ => 0)))] := hD
  refine va_putF (D := D) (ci := 4) (C := R_M) (T := F_M) (N := 17) (v := .ref q_11) (ty := (.array .int)) hx hb ht i_M t_M t_M_ok n_M hown hK hP hD hS 0 rfl rfl 13 (by decide) (ht _ tk_274) (fun _ h9 => h9) rfl hin rfl (by decide +kernel) rfl rfl (Nat.le_of_ble_eq_true rfl) d_M_init_98 (fun H locs hP hD hS => ?_)
  have hP : va_P D classes [(h0, .inr (4, [.int 0, .int 0, .ref q_1, .ref q_2, .ref q_3, .ref q_4, .ref q_5, .ref q_6, .ref q_7, .ref q_8, .ref q_9, .ref q_10, .long 0, .ref q_11, .int 0, .int 0, .null])), (q_1, .inl (cs 0, 201, .inl (fun _ => 0))), (q_2, .inl (cs 0, 201, .inl (fun _ => 0))), (q_3, .inl (cs 0, 201, .inl (fun _ => 0))), (q_4, .inl (cs 0, 201, .inl (fun _ => 0))), (q_5, .inl (cs 2, 201, .inr (.inl (fun _ => 0)))), (q_6, .inl (cs 2, 201, .inr (.inl (fun _ => 0)))), (q_7, .inl (cs 2, 201, .inr (.inl (fun _ => 0)))), (q_8, .inl (cs 1, 201, .inl (fun _ => 0))), (q_9, .inl (cs 2, 201, .inr (.inl (fun _ => 0)))), (q_10, .inl (cs 0, 9, .inl (fun _ => 0))), (q_11, .inl (cs 0, 101, .inl (fun _ => 0)))] H := hP
  have hD : va_D A [(h0, .inr (4, [.int 0, .int 0, .ref q_1, .ref q_2, .ref q_3, .ref q_4, .ref q_5, .ref q_6, .ref q_7, .ref q_8, .ref q_9, .ref q_10, .long 0, .ref q_11, .int 0, .int 0, .null])), (q_1, .inl (cs 0, 201, .inl (fun _ => 0))), (q_2, .inl (cs 0, 201, .inl (fun _ => 0))), (q_3, .inl (cs 0, 201, .inl (fun _ => 0))), (q_4, .inl (cs 0, 201, .inl (fun _ => 0))), (q_5, .inl (cs 2, 201, .inr (.inl (fun _ => 0)))), (q_6, .inl (cs 2, 201, .inr (.inl (fun _ => 0)))), (q_7, .inl (cs 2, 201, .inr (.inl (fun _ => 0)))), (q_8, .inl (cs 1, 201, .inl (fun _ => 0))), (q_9, .inl (cs 2, 201, .inr (.inl (fun _ => 0)))), (q_10, .inl (cs 0, 9, .inl (fun _ => 0))), (q_11, .inl (cs 0, 101, .inl (fun _ => 0)))] := hD
  refine lv_aload_n hx hb d_M_init_101 rfl (lv_at hl 0 rfl) ?_
  refine lv_bipush (v := 100) hx hb d_M_init_102 (by decide) ?_
  refine vi_newa (atype := .int) (cA := cs 0) (N' := 100) (ty := .int) (a0 := (100, .inl (fun _ => 0))) hx hb (ht _ tk_44) rfl hK hP hD hS hA 0 rfl (fun _ h9 => h9) (fun _ => rfl) (by decide) (by decide) (Nat.le_of_ble_eq_true rfl) (Nat.le_of_ble_eq_true rfl) (Nat.le_of_ble_eq_true rfl) d_M_init_104 (fun q_12 H hP hD hS => ?_)
  have hP : va_P D classes [(h0, .inr (4, [.int 0, .int 0, .ref q_1, .ref q_2, .ref q_3, .ref q_4, .ref q_5, .ref q_6, .ref q_7, .ref q_8, .ref q_9, .ref q_10, .long 0, .ref q_11, .int 0, .int 0, .null])), (q_1, .inl (cs 0, 201, .inl (fun _ => 0))), (q_2, .inl (cs 0, 201, .inl (fun _ => 0))), (q_3, .inl (cs 0, 201, .inl (fun _ => 0))), (q_4, .inl (cs 0, 201, .inl (fun _ => 0))), (q_5, .inl (cs 2, 201, .inr (.inl (fun _ => 0)))), (q_6, .inl (cs 2, 201, .inr (.inl (fun _ => 0)))), (q_7, .inl (cs 2, 201, .inr (.inl (fun _ => 0)))), (q_8, .inl (cs 1, 201, .inl (fun _ => 0))), (q_9, .inl (cs 2, 201, .inr (.inl (fun _ => 0)))), (q_10, .inl (cs 0, 9, .inl (fun _ => 0))), (q_11, .inl (cs 0, 101, .inl (fun _ => 0))), (q_12, .inl (cs 0, 100, .inl (fun _ => 0)))] H := hP
  have hD : va_D A [(h0, .inr (4, [.int 0, .int 0, .ref q_1, .ref q_2, .ref q_3, .ref q_4, .ref q_5, .ref q_6, .ref q_7, .ref q_8, .ref q_9, .ref q_10, .long 0, .ref q_11, .int 0, .int 0, .null])), (q_1, .inl (cs 0, 201, .inl (fun _ => 0))), (q_2, .inl (cs 0, 201, .inl (fun _ => 0))), (q_3, .inl (cs 0, 201, .inl (fun _ => 0))), (q_4, .inl (cs 0, 201, .inl (fun _ => 0))), (q_5, .inl (cs 2, 201, .inr (.inl (fun _ => 0)))), (q_6, .inl (cs 2, 201, .inr (.inl (fun _ => 0)))), (q_7, .inl (cs 2, 201, .inr (.inl (fun _ => 0)))), (q_8, .inl (cs 1, 201, .inl (fun _ => 0))), (q_9, .inl (cs 2, 201, .inr (.inl (fun _ => 0)))), (q_10, .inl (cs 0, 9, .inl (fun _ => 0))), (q_11, .inl (cs 0, 101, .inl (fun _ => 0))), (q_12, .inl (cs 0, 100, .inl (fun _ => 0)))] := hD
  refine va_putF (D := D) (ci := 4) (C := R_M) (T := F_M) (N := 17) (v := .ref q_12) (ty := (.array .int)) hx hb ht i_M t_M t_M_ok n_M hown hK hP hD hS 0 rfl rfl 16 (by decide) (ht _ tk_276) (fun _ h9 => h9) rfl hin rfl (by decide +kernel) rfl rfl (Nat.le_of_ble_eq_true rfl) d_M_init_106 (fun H locs hP hD hS => ?_)
  have hP : va_P D classes [(h0, .inr (4, [.int 0, .int 0, .ref q_1, .ref q_2, .ref q_3, .ref q_4, .ref q_5, .ref q_6, .ref q_7, .ref q_8, .ref q_9, .ref q_10, .long 0, .ref q_11, .int 0, .int 0, .ref q_12])), (q_1, .inl (cs 0, 201, .inl (fun _ => 0))), (q_2, .inl (cs 0, 201, .inl (fun _ => 0))), (q_3, .inl (cs 0, 201, .inl (fun _ => 0))), (q_4, .inl (cs 0, 201, .inl (fun _ => 0))), (q_5, .inl (cs 2, 201, .inr (.inl (fun _ => 0)))), (q_6, .inl (cs 2, 201, .inr (.inl (fun _ => 0)))), (q_7, .inl (cs 2, 201, .inr (.inl (fun _ => 0)))), (q_8, .inl (cs 1, 201, .inl (fun _ => 0))), (q_9, .inl (cs 2, 201, .inr (.inl (fun _ => 0)))), (q_10, .inl (cs 0, 9, .inl (fun _ => 0))), (q_11, .inl (cs 0, 101, .inl (fun _ => 0))), (q_12, .inl (cs 0, 100, .inl (fun _ => 0)))] H := hP
  have hD : va_D A [(h0, .inr (4, [.int 0, .int 0, .ref q_1, .ref q_2, .ref q_3, .ref q_4, .ref q_5, .ref q_6, .ref q_7, .ref q_8, .ref q_9, .ref q_10, .long 0, .ref q_11, .int 0, .int 0, .ref q_12])), (q_1, .inl (cs 0, 201, .inl (fun _ => 0))), (q_2, .inl (cs 0, 201, .inl (fun _ => 0))), (q_3, .inl (cs 0, 201, .inl (fun _ => 0))), (q_4, .inl (cs 0, 201, .inl (fun _ => 0))), (q_5, .inl (cs 2, 201, .inr (.inl (fun _ => 0)))), (q_6, .inl (cs 2, 201, .inr (.inl (fun _ => 0)))), (q_7, .inl (cs 2, 201, .inr (.inl (fun _ => 0)))), (q_8, .inl (cs 1, 201, .inl (fun _ => 0))), (q_9, .inl (cs 2, 201, .inr (.inl (fun _ => 0)))), (q_10, .inl (cs 0, 9, .inl (fun _ => 0))), (q_11, .inl (cs 0, 101, .inl (fun _ => 0))), (q_12, .inl (cs 0, 100, .inl (fun _ => 0)))] := hD
  refine lv_aload_n hx hb d_M_init_109 rfl (lv_at hl 0 rfl) ?_
  refine lv_iconst (v := 0) hx hb d_M_init_110 (by decide) ?_
  refine va_put (D := D) (ci := 4) (C := R_M) (T := F_M) (N := 17) (v := .int 0) (ty := .int) hx hb ht i_M t_M t_M_ok n_M hown hK hP hD hS 0 rfl rfl 15 (by decide) (ht _ tk_275) (fun _ h9 => h9) rfl (by decide +kernel) rfl rfl (Nat.le_of_ble_eq_true rfl) d_M_init_111 (fun H locs hP hD hS => ?_)
  have hP : va_P D classes [(h0, .inr (4, [.int 0, .int 0, .ref q_1, .ref q_2, .ref q_3, .ref q_4, .ref q_5, .ref q_6, .ref q_7, .ref q_8, .ref q_9, .ref q_10, .long 0, .ref q_11, .int 0, .int 0, .ref q_12])), (q_1, .inl (cs 0, 201, .inl (fun _ => 0))), (q_2, .inl (cs 0, 201, .inl (fun _ => 0))), (q_3, .inl (cs 0, 201, .inl (fun _ => 0))), (q_4, .inl (cs 0, 201, .inl (fun _ => 0))), (q_5, .inl (cs 2, 201, .inr (.inl (fun _ => 0)))), (q_6, .inl (cs 2, 201, .inr (.inl (fun _ => 0)))), (q_7, .inl (cs 2, 201, .inr (.inl (fun _ => 0)))), (q_8, .inl (cs 1, 201, .inl (fun _ => 0))), (q_9, .inl (cs 2, 201, .inr (.inl (fun _ => 0)))), (q_10, .inl (cs 0, 9, .inl (fun _ => 0))), (q_11, .inl (cs 0, 101, .inl (fun _ => 0))), (q_12, .inl (cs 0, 100, .inl (fun _ => 0)))] H := hP
  have hD : va_D A [(h0, .inr (4, [.int 0, .int 0, .ref q_1, .ref q_2, .ref q_3, .ref q_4, .ref q_5, .ref q_6, .ref q_7, .ref q_8, .ref q_9, .ref q_10, .long 0, .ref q_11, .int 0, .int 0, .ref q_12])), (q_1, .inl (cs 0, 201, .inl (fun _ => 0))), (q_2, .inl (cs 0, 201, .inl (fun _ => 0))), (q_3, .inl (cs 0, 201, .inl (fun _ => 0))), (q_4, .inl (cs 0, 201, .inl (fun _ => 0))), (q_5, .inl (cs 2, 201, .inr (.inl (fun _ => 0)))), (q_6, .inl (cs 2, 201, .inr (.inl (fun _ => 0)))), (q_7, .inl (cs 2, 201, .inr (.inl (fun _ => 0)))), (q_8, .inl (cs 1, 201, .inl (fun _ => 0))), (q_9, .inl (cs 2, 201, .inr (.inl (fun _ => 0)))), (q_10, .inl (cs 0, 9, .inl (fun _ => 0))), (q_11, .inl (cs 0, 101, .inl (fun _ => 0))), (q_12, .inl (cs 0, 100, .inl (fun _ => 0)))] := hD
  have hP : va_P D classes (mW (g13 h0 q_1 q_2 q_3 q_4 q_5 q_6 q_7 q_8 q_9 q_10 q_11 q_12) cs 0 0 0 (fun _ => 0) (fun _ => 0) (fun _ => 0) (fun _ => 0) (fun _ => 0) (fun _ => 0) (fun _ => 0) (fun _ => 0) (fun _ => 0) (fun _ => 0) (fun _ => 0) (fun _ => 0) 0 0) H := hP
  have hD : va_D A (mW (g13 h0 q_1 q_2 q_3 q_4 q_5 q_6 q_7 q_8 q_9 q_10 q_11 q_12) cs 0 0 0 (fun _ => 0) (fun _ => 0) (fun _ => 0) (fun _ => 0) (fun _ => 0) (fun _ => 0) (fun _ => 0) (fun _ => 0) (fun _ => 0) (fun _ => 0) (fun _ => 0) (fun _ => 0) 0 0) := hD
  exact W.vret hx hb hr (fun t9 ht9 hW => ⟨⟨(g13 h0 q_1 q_2 q_3 q_4 q_5 q_6 q_7 q_8 q_9 q_10 q_11 q_12), rfl, rfl, by rw [ht9]; exact hP, hD⟩, hS.F ht9⟩) hS.2.2 d_M_init_114
end
section
/-! whole numbers: what the reference asks, in the class's words -/
theorem inM_iff {v lo hi : Int64} : (¬ v < lo ∧ ¬ hi < v) ↔ ¬ (v < lo ∨ ¬ v ≤ hi) := by
  constructor
  · intro h q
    rcases q with q | q
    · exact h.1 q
    · exact q (Int64.not_lt.mp h.2)
  · intro h
    exact ⟨fun q => h (Or.inl q), fun q => h (Or.inr (Int64.not_le.mpr q))⟩
theorem adrM_iff {a : Int32} : (¬ a.toInt64 < 1 ∧ ¬ 99 < a.toInt64) ↔ adrO a := by
  have e1 : (1 : Int64).toInt = 1 := by decide +kernel
  have e2 : (99 : Int64).toInt = 99 := by decide +kernel
  have e3 : (0 : Int32).toInt = 0 := by decide +kernel
  have e4 : (99 : Int32).toInt = 99 := by decide +kernel
  unfold adrO
  rw [Int64.lt_iff_toInt_lt, Int64.lt_iff_toInt_lt, Int32.le_iff_toInt_le, Int32.lt_iff_toInt_lt, Int32.toInt_toInt64, e1, e2, e3, e4]
  omega
theorem kndM_iff {k : Int32} : (¬ k.toInt64 < 0 ∧ ¬ 8 < k.toInt64) ↔ (¬ k < 0 ∧ ¬ 9 ≤ k) := by
  have e1 : (0 : Int64).toInt = 0 := by decide +kernel
  have e2 : (8 : Int64).toInt = 8 := by decide +kernel
  have e3 : (0 : Int32).toInt = 0 := by decide +kernel
  have e4 : (9 : Int32).toInt = 9 := by decide +kernel
  rw [Int64.lt_iff_toInt_lt, Int64.lt_iff_toInt_lt, Int32.le_iff_toInt_le, Int32.lt_iff_toInt_lt, Int32.toInt_toInt64, e1, e2, e3, e4]
  omega
theorem okM_iff {n : Nat} {o : Int32} (hn : n ≤ 200) : (¬ o.toInt64 < 1 ∧ ¬ (nI n).toInt64 < o.toInt64) ↔ okO n o := by
  have e1 : (1 : Int64).toInt = 1 := by decide +kernel
  have e3 : (0 : Int32).toInt = 0 := by decide +kernel
  unfold okO
  rw [Int64.lt_iff_toInt_lt, Int64.lt_iff_toInt_lt, Int32.le_iff_toInt_le, Int32.lt_iff_toInt_lt, Int32.toInt_toInt64, Int32.toInt_toInt64, e1, e3]
  omega
theorem sndM_iff {k : Int32} : (¬ k < 0 ∧ ¬ 3 ≤ k) ↔ sndO k := by
  have e3 : (0 : Int32).toInt = 0 := by decide +kernel
  have e4 : (9 : Int32).toInt = 9 := by decide +kernel
  have e5 : (3 : Int32).toInt = 3 := by decide +kernel
  unfold sndO
  rw [Int32.le_iff_toInt_le, Int32.le_iff_toInt_le, Int32.lt_iff_toInt_lt, e3, e4, e5]
  omega
theorem nle_lt {x y : Int64} : ¬ x ≤ y ↔ y < x := Int64.not_le
theorem lt3 {x : Int32} : x ≤ 2 ↔ x < 3 := by
  have e4 : (2 : Int32).toInt = 2 := by decide +kernel
  have e5 : (3 : Int32).toInt = 3 := by decide +kernel
  rw [Int32.le_iff_toInt_le, Int32.lt_iff_toInt_lt, e4, e5]
  omega
theorem nle3 {x : Int32} : ¬ 3 ≤ x ↔ x < 3 := by
  rw [Int32.le_iff_toInt_le, Int32.lt_iff_toInt_lt]
  omega
theorem nle6 {x : Int32} : ¬ 6 ≤ x ↔ x < 6 := by
  rw [Int32.le_iff_toInt_le, Int32.lt_iff_toInt_lt]
  omega
theorem updL_self {f : Nat → Int64} {k : Nat} : vp_updL f k (f k) = f := by
  funext j
  by_cases h : j = k
  · rw [h, pk_uLs]
  · rw [pk_uLn h]
/-- the reference: which orders lapse -/
def qM (V : Nat → Int32) (M O : Nat → Int64) (t : Int64) (k : Nat) : Bool := decide (V k = 0 ∧ ¬ 0 ≤ O k ∧ ¬ t - M k ≤ 14)
def yM (M : Nat → Int64) : Nat → Int64 := fun i => M i + 15
abbrev Op (n : Nat) (V : Nat → Int32) (M O : Nat → Int64) (t : Int64) : Nat → Int64 := psX (qM V M O t) (yM M) O n
/-- the reference: which orders are for an address, a person, a class, a day -/
def qG (K E P : Nat → Int32) (F U O : Nat → Int64) (a w c : Int32) (d : Int64) (k : Nat) : Bool := decide (E k = a ∧ (P k < 0 ∨ P k = w) ∧ K k - K k / 3 * 3 = c ∧ (¬ d < F k ∧ ¬ U k < d) ∧ (O k < 0 ∨ ¬ O k ≤ d))
/-- the reference: which orders are told of -/
def qU (K P V : Nat → Int32) (F U O : Nat → Int64) (now : Int64) (sd : Int32) (k : Nat) : Bool := decide (P k = sd ∧ ¬ V k = 0 ∧ ¬ 3 ≤ K k ∧ (¬ now < F k ∧ ¬ U k < now) ∧ (O k < 0 ∨ ¬ O k ≤ now))
/-- the best of those behind lo -/
def Bst (q : Nat → Bool) (rv : Nat → Int32) (lo n b : Nat) : Prop := (b = 0 ∧ ∀ k, lo < k → k ≤ n → q k = false) ∨ (lo < b ∧ b ≤ n ∧ q b = true ∧ ∀ k, lo < k → k ≤ n → q k = true → rv k < rv b ∨ (rv k = rv b ∧ k ≤ b))
theorem Bst_top {q : Nat → Bool} {rv : Nat → Int32} {n : Nat} : Bst q rv n n 0 := Or.inl ⟨rfl, fun k h1 h2 => absurd h1 (by omega)⟩
theorem Bst_no {q : Nat → Bool} {rv : Nat → Int32} {j n b : Nat} (h : Bst q rv (j + 1) n b) (g : q (j + 1) = false) : Bst q rv j n b := by
  rcases h with ⟨h1, h2⟩ | ⟨h1, h2, h3, h4⟩
  · refine Or.inl ⟨h1, fun k a c => ?_⟩
    rcases Nat.lt_or_ge (j + 1) k with d | d
    · exact h2 k d c
    · rw [show k = j + 1 by omega]; exact g
  · refine Or.inr ⟨by omega, h2, h3, fun k a c e => ?_⟩
    rcases Nat.lt_or_ge (j + 1) k with d | d
    · exact h4 k d c e
    · rw [show k = j + 1 by omega, g] at e
      exact absurd e (by decide)
theorem Bst_new {q : Nat → Bool} {rv : Nat → Int32} {j n b : Nat} (hj : j + 1 ≤ n) (h : Bst q rv (j + 1) n b) (g : q (j + 1) = true) (c : b = 0 ∨ ¬ rv (j + 1) ≤ rv b) : Bst q rv j n (j + 1) := by
  refine Or.inr ⟨by omega, hj, g, fun k a d e => ?_⟩
  rcases Nat.lt_or_ge (j + 1) k with f | f
  · rcases h with ⟨h1, h2⟩ | ⟨h1, h2, h3, h4⟩
    · rw [h2 k f d] at e
      exact absurd e (by decide)
    · rcases c with c | c
      · omega
      · have c := Int32.not_le.mp c
        rcases h4 k f d e with z | ⟨z, -⟩
        · exact Or.inl (Int32.lt_trans z c)
        · rw [z]; exact Or.inl c
  · exact Or.inr ⟨by rw [show k = j + 1 by omega], by omega⟩
theorem Bst_old {q : Nat → Bool} {rv : Nat → Int32} {j n b : Nat} (h : Bst q rv (j + 1) n b) (h0 : ¬ b = 0) (c : rv (j + 1) ≤ rv b) : Bst q rv j n b := by
  rcases h with ⟨h1, h2⟩ | ⟨h1, h2, h3, h4⟩
  · exact absurd h1 h0
  · refine Or.inr ⟨by omega, h2, h3, fun k a d e => ?_⟩
    rcases Nat.lt_or_ge (j + 1) k with f | f
    · exact h4 k f d e
    · rw [show k = j + 1 by omega]
      rcases Int32.lt_or_eq_of_le c with z | z
      · exact Or.inl z
      · exact Or.inr ⟨z, by omega⟩
theorem Bst_uniq {q : Nat → Bool} {rv : Nat → Int32} {n b c : Nat} (h : Bst q rv 0 n b) (g : Bst q rv 0 n c) : b = c := by
  rcases h with ⟨h1, h2⟩ | ⟨h1, h2, h3, h4⟩ <;> rcases g with ⟨g1, g2⟩ | ⟨g1, g2, g3, g4⟩
  · omega
  · rw [h2 c g1 g2] at g3; exact absurd g3 (by decide)
  · rw [g2 b h1 h2] at h3; exact absurd h3 (by decide)
  · rcases h4 c g1 g2 g3 with x | ⟨x, x2⟩ <;> rcases g4 b h1 h2 h3 with y | ⟨y, y2⟩
    · exact absurd (Int32.lt_trans x y) (Int32.lt_irrefl)
    · rw [y] at x; exact absurd x Int32.lt_irrefl
    · rw [x] at y; exact absurd y Int32.lt_irrefl
    · omega
theorem Bst_fd (q : Nat → Bool) (rv : Nat → Int32) : ∀ n, Bst q rv 0 n (fdR q rv n)
  | 0 => Or.inl ⟨rfl, fun k h1 h2 => absurd h1 (by omega)⟩
  | n + 1 => by
    have ih := Bst_fd q rv n
    by_cases hq : q (n + 1) = true
    · by_cases c : fdR q rv n = 0 ∨ ¬ rv (n + 1) < rv (fdR q rv n)
      · rw [fdR_t hq c]
        refine Or.inr ⟨by omega, by omega, hq, fun k a d e => ?_⟩
        rcases Nat.lt_or_ge n k with f | f
        · exact Or.inr ⟨by rw [show k = n + 1 by omega], by omega⟩
        · rcases ih with ⟨h1, h2⟩ | ⟨h1, h2, h3, h4⟩
          · rw [h2 k a f] at e; exact absurd e (by decide)
          · rcases c with c | c
            · omega
            · have c := Int32.not_lt.mp c
              rcases h4 k a f e with z | ⟨z, z2⟩
              · exact Or.inl (Int32.lt_of_lt_of_le z c)
              · rcases Int32.lt_or_eq_of_le c with y | y
                · rw [z]; exact Or.inl y
                · exact Or.inr ⟨by rw [z, y], by omega⟩
      · have c1 : ¬ fdR q rv n = 0 := fun h => c (Or.inl h)
        have c2 : rv (n + 1) < rv (fdR q rv n) := Classical.byContradiction (fun h => c (Or.inr h))
        rw [fdR_n c1 c2]
        rcases ih with ⟨h1, h2⟩ | ⟨h1, h2, h3, h4⟩
        · exact absurd h1 c1
        · refine Or.inr ⟨h1, by omega, h3, fun k a d e => ?_⟩
          rcases Nat.lt_or_ge n k with f | f
          · rw [show k = n + 1 by omega]; exact Or.inl c2
          · exact h4 k a f e
    · have hq : q (n + 1) = false := by simpa using hq
      rw [fdR_f hq]
      rcases ih with ⟨h1, h2⟩ | ⟨h1, h2, h3, h4⟩
      · refine Or.inl ⟨h1, fun k a d => ?_⟩
        rcases Nat.lt_or_ge n k with f | f
        · rw [show k = n + 1 by omega]; exact hq
        · exact h2 k a f
      · refine Or.inr ⟨h1, by omega, h3, fun k a d e => ?_⟩
        rcases Nat.lt_or_ge n k with f | f
        · rw [show k = n + 1 by omega, hq] at e; exact absurd e (by decide)
        · exact h4 k a f e
end
section
set_option maxHeartbeats 4000000 in
set_option maxRecDepth 100000 in
/-- the reference: isOrder(o) -/
theorem c_M_isOrder (l : Launch) (o : Int32) (D : va_G) (a cs : Nat → Nat) (th : Int32) (n : Nat) (now : Int64) (K E P T V : Nat → Int32) (F U M O : Nat → Int64) (rk wy rg : Nat → Int32) (rf rs : Int32) (hn : n ≤ 200) : Met l y_M_isOrder (Cond.code y_M_isOrder b_M_isOrder 2 (some .boolean) :: wt) ({ frames := 1, cells := 0, slots := 0, locals := 25 }) (va_Pc [.ref (a 0), .int o] (fun S0 => va_P D classes (mW a cs th n now K E P T V F U M O rk wy rg rf rs) S0.heap ∧ KK D cs S0)) (vp_Si (fun r => bl r (okO n o))) 0 0 (fun _ => False) := by
  refine Met.ofW (cc := b_M_isOrder) (maxL := 2) (ret := (some .boolean)) (by decide) rfl ?_
  intro p e s m args below meth c s₁ B hml hv
  obtain ⟨rfl, hP, hK, hN⟩ := hv
  have hx := B.exec
  have hb := B.bytes
  have hr := B.returns
  have ht : ∀ w ∈ wt, w.before _ s = true := fun w h => atoms_spec (ws := _ :: wt) B.pre w (List.mem_cons_of_mem _ h)
  have hown : s.vm.findClass R_M = some m.cls := findClass_of_methodNamed B.named
  have hlocks := B.notSynchronized
  have hl := lv_entry ([.ref (a 0), .int o]) (n := 2) (Nat.le_of_ble_eq_true rfl)
  rw [lg_entry_eq]
  generalize (lg_sl ([.ref (a 0), .int o]) ++ List.replicate (2 - (lg_sl ([.ref (a 0), .int o])).length) Slot.unset).toArray = ls at hl ⊢
  have hl : lv_has ls 2 [(0, .ref (a 0)), (1, .int o)] := hl
  refine lv_iload_n hx hb d_M_isOrder_0 rfl (lv_at hl 1 rfl) ?_
  refine lv_i2l (v := o.toInt64) hx hb d_M_isOrder_1 rfl ?_
  refine lv_lconst (v := 1) hx hb d_M_isOrder_2 (by decide) ?_
  refine lv_aload_n hx hb d_M_isOrder_3 rfl (lv_at hl 0 rfl) ?_
  refine va_get (D := D) (ci := 4) (C := R_M) (T := F_M) (N := 17) (v := .int (nI n)) hx hb ht i_M hown hK hP 0 rfl rfl 1 (by decide) (ht _ tk_262) (fun _ h9 => h9) rfl d_M_isOrder_4 ?_
  refine lv_i2l (v := (nI n).toInt64) hx hb d_M_isOrder_7 rfl ?_
  refine vp_callSi (W.runS (As := [.long o.toInt64, .long 1, .long ((nI n).toInt64)]) (rest := []) ⟨hx, hb, hml, hown, ht⟩ (c_M_isIn l o.toInt64 1 ((nI n).toInt64)) (cS_ 3 ht tk_320 tk_318 tk_2 tk_319 hd_M_isIn ⟨Nat.le_of_ble_eq_true rfl, Nat.le_of_ble_eq_true rfl⟩) ⟨fun _ _ _ _ q => q, fun _ _ _ => ⟨rfl, trivial⟩⟩ rfl rfl hl.1 rfl (lv_room (Nat.le_of_ble_eq_true rfl)) d_M_isOrder_8 ⟨Nat.le_of_ble_eq_true rfl, Nat.le_of_ble_eq_true rfl⟩) (fun r_1 hw_2 => ?_)
  rcases hw_2 with ⟨h9, h8⟩ | ⟨h9, h8⟩
  · subst h9
    exact W.zret (ty := .boolean) (v := 1) hx hb hr rfl (fun t9 ht9 _ => ⟨1, rfl, bl_1 ((okM_iff hn).mp h8), ht9⟩) (fun _ h9 => absurd h9 List.not_mem_nil) d_M_isOrder_11
  · subst h9
    exact W.zret (ty := .boolean) (v := 0) hx hb hr rfl (fun t9 ht9 _ => ⟨0, rfl, bl_0 (fun h7 => h8 ((okM_iff hn).mpr h7)), ht9⟩) (fun _ h9 => absurd h9 List.not_mem_nil) d_M_isOrder_11
set_option maxHeartbeats 4000000 in
set_option maxRecDepth 100000 in
/-- the reference: isDay(t) -/
theorem c_M_isDay (l : Launch) (t : Int64) (D : va_G) (a cs : Nat → Nat) (th : Int32) (n : Nat) (now : Int64) (K E P T V : Nat → Int32) (F U M O : Nat → Int64) (rk wy rg : Nat → Int32) (rf rs : Int32) : Met l y_M_isDay (Cond.code y_M_isDay b_M_isDay 3 (some .boolean) :: wt) ({ frames := 1, cells := 0, slots := 0, locals := 25 }) (va_Pc [.ref (a 0), .long t] (fun S0 => va_P D classes (mW a cs th n now K E P T V F U M O rk wy rg rf rs) S0.heap ∧ KK D cs S0)) (vp_Si (fun r => bl r (¬ badD now t))) 0 0 (fun _ => False) := by
  refine Met.ofW (cc := b_M_isDay) (maxL := 3) (ret := (some .boolean)) (by decide) rfl ?_
  intro p e s m args below meth c s₁ B hml hv
  obtain ⟨rfl, hP, hK, hN⟩ := hv
  have hx := B.exec
  have hb := B.bytes
  have hr := B.returns
  have ht : ∀ w ∈ wt, w.before _ s = true := fun w h => atoms_spec (ws := _ :: wt) B.pre w (List.mem_cons_of_mem _ h)
  have hown : s.vm.findClass R_M = some m.cls := findClass_of_methodNamed B.named
  have hlocks := B.notSynchronized
  have hl := lv_entry ([.ref (a 0), .long t]) (n := 3) (Nat.le_of_ble_eq_true rfl)
  rw [lg_entry_eq]
  generalize (lg_sl ([.ref (a 0), .long t]) ++ List.replicate (3 - (lg_sl ([.ref (a 0), .long t])).length) Slot.unset).toArray = ls at hl ⊢
  have hl : lv_has ls 3 [(0, .ref (a 0)), (1, .long t)] := hl
  refine lv_lload_n hx hb d_M_isDay_0 rfl (lv_at hl 1 rfl) ?_
  refine lv_aload_n hx hb d_M_isDay_1 rfl (lv_at hl 0 rfl) ?_
  refine va_get (D := D) (ci := 4) (C := R_M) (T := F_M) (N := 17) (v := .long now) hx hb ht i_M hown hK hP 0 rfl rfl 12 (by decide) (ht _ tk_273) (fun _ h9 => h9) rfl d_M_isDay_2 ?_
  refine lv_ldc2 (v := 20000) hx hb hown (ht _ tk_324) d_M_isDay_5 ?_
  refine vp_callSi (W.runS (As := [.long t, .long now, .long 20000]) (rest := []) ⟨hx, hb, hml, hown, ht⟩ (c_M_isIn l t now 20000) (cS_ 3 ht tk_320 tk_318 tk_2 tk_319 hd_M_isIn ⟨Nat.le_of_ble_eq_true rfl, Nat.le_of_ble_eq_true rfl⟩) ⟨fun _ _ _ _ q => q, fun _ _ _ => ⟨rfl, trivial⟩⟩ rfl rfl hl.1 rfl (lv_room (Nat.le_of_ble_eq_true rfl)) d_M_isDay_8 ⟨Nat.le_of_ble_eq_true rfl, Nat.le_of_ble_eq_true rfl⟩) (fun r_1 hw_2 => ?_)
  rcases hw_2 with ⟨h9, h8⟩ | ⟨h9, h8⟩
  · subst h9
    exact W.zret (ty := .boolean) (v := 1) hx hb hr rfl (fun t9 ht9 _ => ⟨1, rfl, bl_1 (inM_iff.mp h8), ht9⟩) (fun _ h9 => absurd h9 List.not_mem_nil) d_M_isDay_11
  · subst h9
    exact W.zret (ty := .boolean) (v := 0) hx hb hr rfl (fun t9 ht9 _ => ⟨0, rfl, bl_0 (fun h7 => h8 (inM_iff.mpr h7)), ht9⟩) (fun _ h9 => absurd h9 List.not_mem_nil) d_M_isDay_11
set_option maxHeartbeats 4000000 in
set_option maxRecDepth 100000 in
/-- the reference: set(t) -/
theorem c_M_set (l : Launch) (t : Int64) (D : va_G) (a cs : Nat → Nat) (th : Int32) (n : Nat) (now : Int64) (K E P T V : Nat → Int32) (F U M O : Nat → Int64) (rk wy rg : Nat → Int32) (rf rs : Int32) (hn : n ≤ 200) (sz : Nat) : Met l y_M_set (Cond.code y_M_set b_M_set 5 (some .int) :: wt) ({ frames := 0, cells := 0, slots := 0, locals := 0 }) (va_Pc [.ref (a 0), .long t] (fun S0 => S0.heap.size = sz ∧ va_P D classes (mW a cs th n now K E P T V F U M O rk wy rg rf rs) S0.heap ∧ KK D cs S0 ∧ va_D (fun _ => True) (mW a cs th n now K E P T V F U M O rk wy rg rf rs))) (va_Qi (fun (r : Int32) (_ : Unit) => r = nI (cnt (qM V M O t) n)) (fun (_ : Unit) S1 => va_P D classes (mW a cs th n t K E P T V F U M (psX (qM V M O t) (yM M) O n) rk wy rg rf rs) S1.heap ∧ va_D (va_A (mW a cs th n now K E P T V F U M O rk wy rg rf rs) sz) (mW a cs th n t K E P T V F U M (psX (qM V M O t) (yM M) O n) rk wy rg rf rs)) (va_A (mW a cs th n now K E P T V F U M O rk wy rg rf rs) sz)) 0 0 (va_A (mW a cs th n now K E P T V F U M O rk wy rg rf rs) sz) := by
  refine Met.ofW (cc := b_M_set) (maxL := 5) (ret := (some .int)) (by decide) rfl ?_
  intro p e s m args below meth c s₁ B hml hv
  obtain ⟨rfl, hsz, hP, ⟨hK, hN⟩, hD0⟩ := hv
  have hx := B.exec
  have hb := B.bytes
  have hr := B.returns
  have ht : ∀ w ∈ wt, w.before _ s = true := fun w h => atoms_spec (ws := _ :: wt) B.pre w (List.mem_cons_of_mem _ h)
  have hown : s.vm.findClass R_M = some m.cls := findClass_of_methodNamed B.named
  have hlocks := B.notSynchronized
  subst hsz
  have hD := hD0.self (sz := s.heap.size)
  generalize hAe : va_A (mW a cs th n now K E P T V F U M O rk wy rg rf rs) s.heap.size = A at hD ⊢
  have hA : ∀ q : Nat, s.heap.size ≤ q → A q := fun q h => by rw [← hAe]; exact Or.inr h
  have hS : va_S A s.heap s.heap [] := va_S.rf
  have hl := lv_entry ([.ref (a 0), .long t]) (n := 5) (Nat.le_of_ble_eq_true rfl)
  rw [lg_entry_eq]
  generalize (lg_sl ([.ref (a 0), .long t]) ++ List.replicate (5 - (lg_sl ([.ref (a 0), .long t])).length) Slot.unset).toArray = ls at hl ⊢
  have hl : lv_has ls 5 [(0, .ref (a 0)), (1, .long t)] := hl
  refine W.nameQ (fun Q hQe => ?_)
  refine lv_aload_n hx hb d_M_set_0 rfl (lv_at hl 0 rfl) ?_
  refine lv_lload_n hx hb d_M_set_1 rfl (lv_at hl 1 rfl) ?_
  refine va_put (D := D) (ci := 4) (C := R_M) (T := F_M) (N := 17) (v := .long t) (ty := .long) hx hb ht i_M t_M t_M_ok n_M hown hK hP hD hS 0 rfl rfl 12 (by decide) (ht _ tk_273) (fun _ h9 => h9) rfl (by decide +kernel) rfl rfl (Nat.le_of_ble_eq_true rfl) d_M_set_2 (fun H locs hP hD hS => ?_)
  have hP : va_P D classes (mW a cs th n t K E P T V F U M O rk wy rg rf rs) H := hP
  have hD : va_D A (mW a cs th n t K E P T V F U M O rk wy rg rf rs) := hD
  refine lv_iconst (v := 0) hx hb d_M_set_5 (by decide) ?_
  refine lv_istore_n (lv' := [(3, .int 0), (0, .ref (a 0)), (1, .long t)]) hx hb d_M_set_6 rfl hl (by decide) rfl (fun ls hl => ?_)
  refine lv_iconst (v := 1) hx hb d_M_set_7 (by decide) ?_
  refine lv_istore (lv' := [(4, .int 1), (3, .int 0), (0, .ref (a 0)), (1, .long t)]) hx hb d_M_set_8 hl (by decide) rfl (fun ls hl => ?_)
  have loop : ∀ (z : Nat) (j : Nat) (H : Heap) (locs : List Loc) (ls : Array Slot), (j + z = n) → va_P D classes (mW a cs th n t K E P T V F U M (psX (qM V M O t) (yM M) O j) rk wy rg rf rs) H → va_D A (mW a cs th n t K E P T V F U M (psX (qM V M O t) (yM M) O j) rk wy rg rf rs) → va_S A s.heap H locs → lv_has ls 5 [(4, .int (nI (j + 1))), (3, .int (nI (cnt (qM V M O t) j))), (0, .ref (a 0)), (1, .long t)] → W p l e ({ frames := 0, cells := 0, slots := 0, locals := 0 } : Room) s m ([.ref (a 0), .long t] : List Value).toArray below meth c H locs 0 0 Q (F0 m 10 ls []) := by
    intro z
    induction z with
    | zero =>
      intro j H locs ls hj hP hD hS hl
      refine lv_iload hx hb d_M_set_10 (lv_at hl 0 rfl) ?_
      refine lv_aload_n hx hb d_M_set_12 rfl (lv_at hl 2 rfl) ?_
      refine va_get (D := D) (ci := 4) (C := R_M) (T := F_M) (N := 17) (v := .int (nI n)) hx hb ht i_M hown hK hP 0 rfl rfl 1 (by decide) (ht _ tk_262) (fun _ h9 => h9) rfl d_M_set_13 ?_
      refine lv_icmp_gt (tgt := 84) hx hb d_M_set_16 (by decide) (fun c_1 => ?_) (fun c_1 => ?_)
      · have hjn : j = n := by omega
        rw [hjn] at hP hD hl
        refine lv_iload_n hx hb d_M_set_84 rfl (lv_at hl 1 rfl) ?_
        rw [hQe]
        exact W.iret (v := nI (cnt (qM V M O t) n)) hx hb hr (fun t9 ht9 hW => ⟨⟨nI (cnt (qM V M O t) n), (), rfl, rfl, by rw [ht9]; exact hP, hD⟩, hS.F ht9⟩) hS.2.2 d_M_set_85
      · exact absurd (nI_lt (by omega) (by omega)) c_1
    | succ z ih =>
      intro j H locs ls hj hP hD hS hl
      refine lv_iload hx hb d_M_set_10 (lv_at hl 0 rfl) ?_
      refine lv_aload_n hx hb d_M_set_12 rfl (lv_at hl 2 rfl) ?_
      refine va_get (D := D) (ci := 4) (C := R_M) (T := F_M) (N := 17) (v := .int (nI n)) hx hb ht i_M hown hK hP 0 rfl rfl 1 (by decide) (ht _ tk_262) (fun _ h9 => h9) rfl d_M_set_13 ?_
      refine lv_icmp_gt (tgt := 84) hx hb d_M_set_16 (by decide) (fun c_2 => ?_) (fun c_2 => ?_)
      · exact absurd c_2 (nI_nlt (by omega) (by omega))
      · refine lv_aload_n hx hb d_M_set_19 rfl (lv_at hl 2 rfl) ?_
        refine va_get (D := D) (ci := 4) (C := R_M) (T := F_M) (N := 17) (v := .ref (a 8)) hx hb ht i_M hown hK hP 0 rfl rfl 9 (by decide) (ht _ tk_270) (fun _ h9 => h9) rfl d_M_set_20 ?_
        refine lv_iload hx hb d_M_set_23 (lv_at hl 0 rfl) ?_
        refine vi_zald (k := j + 1) (f := V) hx hb hK hP 8 1 rfl rfl (by omega) (by omega) d_M_set_25 ?_
        refine lv_if_ne (tgt := 78) hx hb d_M_set_26 (by decide) (fun c_3 => ?_) (fun c_3 => ?_)
        · have hf : qM V M O t (j + 1) = false := decide_eq_false (fun h9 => c_3 h9.1)
          refine lv_iinc (v := nI (j + 2)) (lv' := [(4, .int (nI (j + 2))), (3, .int (nI (cnt (qM V M O t) j))), (0, .ref (a 0)), (1, .long t)]) hx hb d_M_set_78 hl (k := 0) rfl (show nI (j + 1) + 1 = _ from nI_1 (j + 1)) (by decide) rfl (fun ls hl => ?_)
          refine lv_goto (tgt := 10) hx hb d_M_set_81 (by decide) ?_
          exact ih (j + 1) H locs ls (by omega) (by rw [psX_f hf]; exact hP) (by rw [psX_f hf]; exact hD) hS (by rw [cnt_f hf]; exact lv_sub hl [0, 1, 2, 3] rfl)
        · refine lv_aload_n hx hb d_M_set_29 rfl (lv_at hl 2 rfl) ?_
          refine va_get (D := D) (ci := 4) (C := R_M) (T := F_M) (N := 17) (v := .ref (a 9)) hx hb ht i_M hown hK hP 0 rfl rfl 10 (by decide) (ht _ tk_271) (fun _ h9 => h9) rfl d_M_set_30 ?_
          refine lv_iload hx hb d_M_set_33 (lv_at hl 0 rfl) ?_
          refine vi_lald (k := j + 1) (f := psX (qM V M O t) (yM M) O j) hx hb hK hP 9 2 rfl rfl (by omega) (by omega) d_M_set_35 ?_
          refine lv_lconst (v := 0) hx hb d_M_set_36 (by decide) ?_
          refine lc_ge (tgt := 78) hx hb d_M_set_37 d_M_set_38 (by decide) (fun c_4 => ?_) (fun c_4 => ?_)
          · rw [psX_at] at c_4
            have hf : qM V M O t (j + 1) = false := decide_eq_false (fun h9 => h9.2.1 c_4)
            refine lv_iinc (v := nI (j + 2)) (lv' := [(4, .int (nI (j + 2))), (3, .int (nI (cnt (qM V M O t) j))), (0, .ref (a 0)), (1, .long t)]) hx hb d_M_set_78 hl (k := 0) rfl (show nI (j + 1) + 1 = _ from nI_1 (j + 1)) (by decide) rfl (fun ls hl => ?_)
            refine lv_goto (tgt := 10) hx hb d_M_set_81 (by decide) ?_
            exact ih (j + 1) H locs ls (by omega) (by rw [psX_f hf]; exact hP) (by rw [psX_f hf]; exact hD) hS (by rw [cnt_f hf]; exact lv_sub hl [0, 1, 2, 3] rfl)
          · rw [psX_at] at c_4
            refine lv_lload_n hx hb d_M_set_41 rfl (lv_at hl 3 rfl) ?_
            refine lv_aload_n hx hb d_M_set_42 rfl (lv_at hl 2 rfl) ?_
            refine va_get (D := D) (ci := 4) (C := R_M) (T := F_M) (N := 17) (v := .ref (a 7)) hx hb ht i_M hown hK hP 0 rfl rfl 8 (by decide) (ht _ tk_269) (fun _ h9 => h9) rfl d_M_set_43 ?_
            refine lv_iload hx hb d_M_set_46 (lv_at hl 0 rfl) ?_
            refine vi_lald (k := j + 1) (f := M) hx hb hK hP 7 2 rfl rfl (by omega) (by omega) d_M_set_48 ?_
            refine lv_lsub hx hb d_M_set_49 ?_
            refine lv_ldc2 (v := 14) hx hb hown (ht _ tk_341) d_M_set_50 ?_
            refine lc_le (tgt := 78) hx hb d_M_set_53 d_M_set_54 (by decide) (fun c_5 => ?_) (fun c_5 => ?_)
            · have hf : qM V M O t (j + 1) = false := decide_eq_false (fun h9 => h9.2.2 c_5)
              refine lv_iinc (v := nI (j + 2)) (lv' := [(4, .int (nI (j + 2))), (3, .int (nI (cnt (qM V M O t) j))), (0, .ref (a 0)), (1, .long t)]) hx hb d_M_set_78 hl (k := 0) rfl (show nI (j + 1) + 1 = _ from nI_1 (j + 1)) (by decide) rfl (fun ls hl => ?_)
              refine lv_goto (tgt := 10) hx hb d_M_set_81 (by decide) ?_
              exact ih (j + 1) H locs ls (by omega) (by rw [psX_f hf]; exact hP) (by rw [psX_f hf]; exact hD) hS (by rw [cnt_f hf]; exact lv_sub hl [0, 1, 2, 3] rfl)
            · have hf : qM V M O t (j + 1) = true := decide_eq_true ⟨c_3, c_4, c_5⟩
              refine lv_aload_n hx hb d_M_set_57 rfl (lv_at hl 2 rfl) ?_
              refine va_get (D := D) (ci := 4) (C := R_M) (T := F_M) (N := 17) (v := .ref (a 9)) hx hb ht i_M hown hK hP 0 rfl rfl 10 (by decide) (ht _ tk_271) (fun _ h9 => h9) rfl d_M_set_58 ?_
              refine lv_iload hx hb d_M_set_61 (lv_at hl 0 rfl) ?_
              refine lv_aload_n hx hb d_M_set_63 rfl (lv_at hl 2 rfl) ?_
              refine va_get (D := D) (ci := 4) (C := R_M) (T := F_M) (N := 17) (v := .ref (a 7)) hx hb ht i_M hown hK hP 0 rfl rfl 8 (by decide) (ht _ tk_269) (fun _ h9 => h9) rfl d_M_set_64 ?_
              refine lv_iload hx hb d_M_set_67 (lv_at hl 0 rfl) ?_
              refine vi_lald (k := j + 1) (f := M) hx hb hK hP 7 2 rfl rfl (by omega) (by omega) d_M_set_69 ?_
              refine lv_ldc2 (v := 15) hx hb hown (ht _ tk_342) d_M_set_70 ?_
              refine lv_ladd hx hb d_M_set_73 ?_
              refine vi_last (k := j + 1) (f := psX (qM V M O t) (yM M) O j) (x := (M (j + 1)) + 15) hx hb hK hP hD hS 9 2 rfl rfl (by omega) (by omega) d_M_set_74 (fun H locs hP hD hS => ?_)
              have hP : va_P D classes (mW a cs th n t K E P T V F U M (vp_updL (psX (qM V M O t) (yM M) O j) (j + 1) ((M (j + 1)) + 15)) rk wy rg rf rs) H := hP
              have hD : va_D A (mW a cs th n t K E P T V F U M (vp_updL (psX (qM V M O t) (yM M) O j) (j + 1) ((M (j + 1)) + 15)) rk wy rg rf rs) := hD
              have hP : va_P D classes (mW a cs th n t K E P T V F U M (psX (qM V M O t) (yM M) O (j + 1)) rk wy rg rf rs) H := (psX_t (Y := yM M) hf) ▸ hP
              have hD : va_D A (mW a cs th n t K E P T V F U M (psX (qM V M O t) (yM M) O (j + 1)) rk wy rg rf rs) := (psX_t (Y := yM M) hf) ▸ hD
              refine lv_iinc (v := nI (cnt (qM V M O t) (j + 1))) (lv' := [(3, .int (nI (cnt (qM V M O t) (j + 1)))), (4, .int (nI (j + 1))), (0, .ref (a 0)), (1, .long t)]) hx hb d_M_set_75 hl (k := 1) rfl (by rw [cnt_t hf]; exact nI_1 _) (by decide) rfl (fun ls hl => ?_)
              refine lv_iinc (v := nI (j + 2)) (lv' := [(4, .int (nI (j + 2))), (3, .int (nI (cnt (qM V M O t) (j + 1)))), (0, .ref (a 0)), (1, .long t)]) hx hb d_M_set_78 hl (k := 1) rfl (show nI (j + 1) + 1 = _ from nI_1 (j + 1)) (by decide) rfl (fun ls hl => ?_)
              refine lv_goto (tgt := 10) hx hb d_M_set_81 (by decide) ?_
              exact ih (j + 1) H locs ls (by omega) hP hD hS (lv_sub hl [0, 1, 2, 3] rfl)
  exact loop n 0 H locs ls (by omega) (by rw [psX_0]; exact hP) (by rw [psX_0]; exact hD) hS (lv_sub hl [0, 1, 2, 3] rfl)
abbrev QtickM (n : Nat) (now : Int64) (V : Nat → Int32) (M O : Nat → Int64) (t : Int64) (r : Int32) (u : Int64 × (Nat → Int64)) : Prop := (badD now t ∧ r = -102 ∧ u = (now, O)) ∨ (¬ badD now t ∧ r = nI (cnt (qM V M O t) n) ∧ u = (t, Op n V M O t))
set_option maxHeartbeats 4000000 in
set_option maxRecDepth 100000 in
/-- the reference: tick(t) -/
theorem c_M_tick (l : Launch) (t : Int64) (D : va_G) (a cs : Nat → Nat) (th : Int32) (n : Nat) (now : Int64) (K E P T V : Nat → Int32) (F U M O : Nat → Int64) (rk wy rg : Nat → Int32) (rf rs : Int32) (hn : n ≤ 200) (sz : Nat) : Met l y_M_tick (Cond.code y_M_tick b_M_tick 3 (some .int) :: wt) ({ frames := 2, cells := 0, slots := 0, locals := 47 }) (va_Pc [.ref (a 0), .long t] (fun S0 => S0.heap.size = sz ∧ va_P D classes (mW a cs th n now K E P T V F U M O rk wy rg rf rs) S0.heap ∧ KK D cs S0 ∧ va_D (fun _ => True) (mW a cs th n now K E P T V F U M O rk wy rg rf rs))) (va_Qi (fun r u => QtickM n now V M O t r u) (fun (u : Int64 × (Nat → Int64)) S1 => va_P D classes (mW a cs 0 n u.1 K E P T V F U M u.2 rk wy rg rf rs) S1.heap ∧ va_D (va_A (mW a cs th n now K E P T V F U M O rk wy rg rf rs) sz) (mW a cs 0 n u.1 K E P T V F U M u.2 rk wy rg rf rs)) (va_A (mW a cs th n now K E P T V F U M O rk wy rg rf rs) sz)) 0 0 (va_A (mW a cs th n now K E P T V F U M O rk wy rg rf rs) sz) := by
  refine Met.ofW (cc := b_M_tick) (maxL := 3) (ret := (some .int)) (by decide) rfl ?_
  intro p e s m args below meth c s₁ B hml hv
  obtain ⟨rfl, hsz, hP, ⟨hK, hN⟩, hD0⟩ := hv
  have hx := B.exec
  have hb := B.bytes
  have hr := B.returns
  have ht : ∀ w ∈ wt, w.before _ s = true := fun w h => atoms_spec (ws := _ :: wt) B.pre w (List.mem_cons_of_mem _ h)
  have hown : s.vm.findClass R_M = some m.cls := findClass_of_methodNamed B.named
  have hlocks := B.notSynchronized
  subst hsz
  have hD := hD0.self (sz := s.heap.size)
  generalize hAe : va_A (mW a cs th n now K E P T V F U M O rk wy rg rf rs) s.heap.size = A at hD ⊢
  have hA : ∀ q : Nat, s.heap.size ≤ q → A q := fun q h => by rw [← hAe]; exact Or.inr h
  have hS : va_S A s.heap s.heap [] := va_S.rf
  have hl := lv_entry ([.ref (a 0), .long t]) (n := 3) (Nat.le_of_ble_eq_true rfl)
  rw [lg_entry_eq]
  generalize (lg_sl ([.ref (a 0), .long t]) ++ List.replicate (3 - (lg_sl ([.ref (a 0), .long t])).length) Slot.unset).toArray = ls at hl ⊢
  have hl : lv_has ls 3 [(0, .ref (a 0)), (1, .long t)] := hl
  refine lv_aload_n hx hb d_M_tick_0 rfl (lv_at hl 0 rfl) ?_
  refine lv_iconst (v := 0) hx hb d_M_tick_1 (by decide) ?_
  refine va_put (D := D) (ci := 4) (C := R_M) (T := F_M) (N := 17) (v := .int 0) (ty := .int) hx hb ht i_M t_M t_M_ok n_M hown hK hP hD hS 0 rfl rfl 0 (by decide) (ht _ tk_261) (fun _ h9 => h9) rfl (by decide +kernel) rfl rfl (Nat.le_of_ble_eq_true rfl) d_M_tick_2 (fun H locs hP hD hS => ?_)
  have hP : va_P D classes (mW a cs 0 n now K E P T V F U M O rk wy rg rf rs) H := hP
  have hD : va_D A (mW a cs 0 n now K E P T V F U M O rk wy rg rf rs) := hD
  refine lv_aload_n hx hb d_M_tick_5 rfl (lv_at hl 0 rfl) ?_
  refine lv_lload_n hx hb d_M_tick_6 rfl (lv_at hl 1 rfl) ?_
  refine vp_callSi (W.runV (C := R_M) (As := [.long t]) (rest := []) ⟨hx, hb, hml, hown, ht⟩ (c_M_isDay l t D a cs 0 n now K E P T V F U M O rk wy rg rf rs ) (cV_ 1 ht tk_336 tk_333 tk_2 tk_335 ts_M_isDay hd_M_isDay ⟨Nat.le_of_ble_eq_true rfl, Nat.le_of_ble_eq_true rfl⟩) ⟨fun _ _ _ _ q => ⟨q.1, q.2.1, KK.call q.2.2⟩, va_recv (ci := 4) (q0 := 0) hK hP rfl rfl, fun U0 hU hW => ⟨rfl, by rw [hU]; exact hP, KK.warm hK hN hW⟩⟩ rfl rfl hl.1 rfl (lv_room (Nat.le_of_ble_eq_true rfl)) d_M_tick_7 ⟨Nat.le_of_ble_eq_true rfl, Nat.le_of_ble_eq_true rfl⟩) (fun r_1 hw_2 => ?_)
  refine lv_if_eq (tgt := 21) hx hb d_M_tick_10 (by decide) (fun c_3 => ?_) (fun c_3 => ?_)
  · have c_3 := bl_f hw_2 c_3
    refine lv_bipush (v := (-102)) hx hb d_M_tick_21 (by decide) ?_
    exact W.iret (v := (-102)) hx hb hr (fun t9 ht9 hW => ⟨⟨(-102), (now, O), rfl, Or.inl ⟨Classical.byContradiction c_3, rfl, rfl⟩, by rw [ht9]; exact hP, hD⟩, hS.F ht9⟩) hS.2.2 d_M_tick_23
  · have c_3 := bl_t hw_2 c_3
    refine lv_aload_n hx hb d_M_tick_13 rfl (lv_at hl 0 rfl) ?_
    refine lv_lload_n hx hb d_M_tick_14 rfl (lv_at hl 1 rfl) ?_
    have hFc := freeW hD hS hA
    refine va_calli (va_runV (C := R_M) (As := [.long t]) (rest := []) ⟨hx, hb, hml, hown, ht⟩ (c_M_set l t D a cs 0 n now K E P T V F U M O rk wy rg rf rs hn _) (cV_ 1 ht tk_340 tk_337 tk_2 tk_339 ts_M_set hd_M_set ⟨Nat.le_of_ble_eq_true rfl, Nat.le_of_ble_eq_true rfl⟩) ⟨fun _ _ _ _ q => ⟨q.1, q.2.1, q.2.2.1, KK.call q.2.2.2.1, q.2.2.2.2⟩, va_recv (ci := 4) (q0 := 0) hK hP rfl rfl, fun U0 hU hW => ⟨rfl, by rw [hU], by rw [hU]; exact hP, KK.warm hK hN hW, hD.weaken (fun _ _ _ _ => trivial)⟩⟩ rfl rfl hl.1 rfl (lv_room (Nat.le_of_ble_eq_true rfl)) d_M_tick_15 ⟨Nat.le_of_ble_eq_true rfl, Nat.le_of_ble_eq_true rfl⟩) hS (fun q _ h => hFc q h) hFc (fun r_4 u_6 t1 H locs ht1 hvm hw_5 hB hz1 hkp hS => ?_)
    obtain ⟨hP, hD⟩ := hB
    rw [ht1] at hP
    have hD := hD.weaken (fun k q _ h => hFc q.1 h)
    refine lv_goto (tgt := 23) hx hb d_M_tick_18 (by decide) ?_
    exact W.iret (v := r_4) hx hb hr (fun t9 ht9 hW => ⟨⟨r_4, (t, Op n V M O t), rfl, Or.inr ⟨c_3, hw_5, rfl⟩, by rw [ht9]; exact hP, hD⟩, hS.F ht9⟩) hS.2.2 d_M_tick_23
abbrev QproofM (n : Nat) (now : Int64) (V : Nat → Int32) (M O : Nat → Int64) (o gd : Int32) (t : Int64) (r : Int32) (u : Int64 × (Nat → Int32) × (Nat → Int64)) : Prop :=
  (¬ okO n o ∧ r = -101 ∧ u = (now, V, O)) ∨ (okO n o ∧ badD now t ∧ r = -102 ∧ u = (now, V, O)) ∨
  (∃ k, 1 ≤ k ∧ k ≤ n ∧ o = nI k ∧ ¬ badD now t ∧
    ((0 ≤ Op n V M O t k ∧ r = -103 ∧ u = (t, V, Op n V M O t)) ∨ (¬ 0 ≤ Op n V M O t k ∧ ¬ V k = 0 ∧ r = -103 ∧ u = (t, V, Op n V M O t)) ∨
     (¬ 0 ≤ Op n V M O t k ∧ V k = 0 ∧ ((gd = 1 ∧ r = 1 ∧ u = (t, upd V k 1, vp_updL (Op n V M O t) k (-1))) ∨ (gd = 0 ∧ r = 0 ∧ u = (t, upd V k 0, vp_updL (Op n V M O t) k t))))))
set_option maxHeartbeats 4000000 in
set_option maxRecDepth 100000 in
/-- the reference: proof(o, good, t) -/
theorem c_M_proof (l : Launch) (o : Int32) (gd : Int32) (t : Int64) (D : va_G) (a cs : Nat → Nat) (th : Int32) (n : Nat) (now : Int64) (K E P T V : Nat → Int32) (F U M O : Nat → Int64) (rk wy rg : Nat → Int32) (rf rs : Int32) (hn : n ≤ 200) (hg : gd = 0 ∨ gd = 1) (sz : Nat) : Met l y_M_proof (Cond.code y_M_proof b_M_proof 6 (some .int) :: wt) ({ frames := 2, cells := 0, slots := 0, locals := 47 }) (va_Pc [.ref (a 0), .int o, .int gd, .long t] (fun S0 => S0.heap.size = sz ∧ va_P D classes (mW a cs th n now K E P T V F U M O rk wy rg rf rs) S0.heap ∧ KK D cs S0 ∧ va_D (fun _ => True) (mW a cs th n now K E P T V F U M O rk wy rg rf rs))) (va_Qi (fun r u => QproofM n now V M O o gd t r u) (fun (u : Int64 × (Nat → Int32) × (Nat → Int64)) S1 => va_P D classes (mW a cs 0 n u.1 K E P T u.2.1 F U M u.2.2 rk wy rg rf rs) S1.heap ∧ va_D (va_A (mW a cs th n now K E P T V F U M O rk wy rg rf rs) sz) (mW a cs 0 n u.1 K E P T u.2.1 F U M u.2.2 rk wy rg rf rs)) (va_A (mW a cs th n now K E P T V F U M O rk wy rg rf rs) sz)) 0 0 (va_A (mW a cs th n now K E P T V F U M O rk wy rg rf rs) sz) := by
  refine Met.ofW (cc := b_M_proof) (maxL := 6) (ret := (some .int)) (by decide) rfl ?_
  intro p e s m args below meth c s₁ B hml hv
  obtain ⟨rfl, hsz, hP, ⟨hK, hN⟩, hD0⟩ := hv
  have hx := B.exec
  have hb := B.bytes
  have hr := B.returns
  have ht : ∀ w ∈ wt, w.before _ s = true := fun w h => atoms_spec (ws := _ :: wt) B.pre w (List.mem_cons_of_mem _ h)
  have hown : s.vm.findClass R_M = some m.cls := findClass_of_methodNamed B.named
  have hlocks := B.notSynchronized
  subst hsz
  have hD := hD0.self (sz := s.heap.size)
  generalize hAe : va_A (mW a cs th n now K E P T V F U M O rk wy rg rf rs) s.heap.size = A at hD ⊢
  have hA : ∀ q : Nat, s.heap.size ≤ q → A q := fun q h => by rw [← hAe]; exact Or.inr h
  have hS : va_S A s.heap s.heap [] := va_S.rf
  have hl := lv_entry ([.ref (a 0), .int o, .int gd, .long t]) (n := 6) (Nat.le_of_ble_eq_true rfl)
  rw [lg_entry_eq]
  generalize (lg_sl ([.ref (a 0), .int o, .int gd, .long t]) ++ List.replicate (6 - (lg_sl ([.ref (a 0), .int o, .int gd, .long t])).length) Slot.unset).toArray = ls at hl ⊢
  have hl : lv_has ls 6 [(0, .ref (a 0)), (1, .int o), (2, .int gd), (3, .long t)] := hl
  refine lv_aload_n hx hb d_M_proof_0 rfl (lv_at hl 0 rfl) ?_
  refine lv_iconst (v := 0) hx hb d_M_proof_1 (by decide) ?_
  refine va_put (D := D) (ci := 4) (C := R_M) (T := F_M) (N := 17) (v := .int 0) (ty := .int) hx hb ht i_M t_M t_M_ok n_M hown hK hP hD hS 0 rfl rfl 0 (by decide) (ht _ tk_261) (fun _ h9 => h9) rfl (by decide +kernel) rfl rfl (Nat.le_of_ble_eq_true rfl) d_M_proof_2 (fun H locs hP hD hS => ?_)
  have hP : va_P D classes (mW a cs 0 n now K E P T V F U M O rk wy rg rf rs) H := hP
  have hD : va_D A (mW a cs 0 n now K E P T V F U M O rk wy rg rf rs) := hD
  refine lv_aload_n hx hb d_M_proof_5 rfl (lv_at hl 0 rfl) ?_
  refine lv_iload_n hx hb d_M_proof_6 rfl (lv_at hl 1 rfl) ?_
  refine vp_callSi (W.runV (C := R_M) (As := [.int o]) (rest := []) ⟨hx, hb, hml, hown, ht⟩ (c_M_isOrder l o D a cs 0 n now K E P T V F U M O rk wy rg rf rs hn) (cV_ 1 ht tk_332 tk_329 tk_2 tk_331 ts_M_isOrder hd_M_isOrder ⟨Nat.le_of_ble_eq_true rfl, Nat.le_of_ble_eq_true rfl⟩) ⟨fun _ _ _ _ q => ⟨q.1, q.2.1, KK.call q.2.2⟩, va_recv (ci := 4) (q0 := 0) hK hP rfl rfl, fun U0 hU hW => ⟨rfl, by rw [hU]; exact hP, KK.warm hK hN hW⟩⟩ rfl rfl hl.1 rfl (lv_room (Nat.le_of_ble_eq_true rfl)) d_M_proof_7 ⟨Nat.le_of_ble_eq_true rfl, Nat.le_of_ble_eq_true rfl⟩) (fun r_1 hw_2 => ?_)
  refine lv_if_ne (tgt := 16) hx hb d_M_proof_10 (by decide) (fun c_3 => ?_) (fun c_3 => ?_)
  · have c_3 := bl_t hw_2 c_3
    refine lv_aload_n hx hb d_M_proof_16 rfl (lv_at hl 0 rfl) ?_
    refine lv_lload_n hx hb d_M_proof_17 rfl (lv_at hl 3 rfl) ?_
    refine vp_callSi (W.runV (C := R_M) (As := [.long t]) (rest := []) ⟨hx, hb, hml, hown, ht⟩ (c_M_isDay l t D a cs 0 n now K E P T V F U M O rk wy rg rf rs ) (cV_ 1 ht tk_336 tk_333 tk_2 tk_335 ts_M_isDay hd_M_isDay ⟨Nat.le_of_ble_eq_true rfl, Nat.le_of_ble_eq_true rfl⟩) ⟨fun _ _ _ _ q => ⟨q.1, q.2.1, KK.call q.2.2⟩, va_recv (ci := 4) (q0 := 0) hK hP rfl rfl, fun U0 hU hW => ⟨rfl, by rw [hU]; exact hP, KK.warm hK hN hW⟩⟩ rfl rfl hl.1 rfl (lv_room (Nat.le_of_ble_eq_true rfl)) d_M_proof_18 ⟨Nat.le_of_ble_eq_true rfl, Nat.le_of_ble_eq_true rfl⟩) (fun r_4 hw_5 => ?_)
    refine lv_if_ne (tgt := 27) hx hb d_M_proof_21 (by decide) (fun c_6 => ?_) (fun c_6 => ?_)
    · have c_6 := bl_t hw_5 c_6
      refine lv_aload_n hx hb d_M_proof_27 rfl (lv_at hl 0 rfl) ?_
      refine lv_lload_n hx hb d_M_proof_28 rfl (lv_at hl 3 rfl) ?_
      have hFc := freeW hD hS hA
      refine va_calli (va_runV (C := R_M) (As := [.long t]) (rest := []) ⟨hx, hb, hml, hown, ht⟩ (c_M_set l t D a cs 0 n now K E P T V F U M O rk wy rg rf rs hn _) (cV_ 1 ht tk_340 tk_337 tk_2 tk_339 ts_M_set hd_M_set ⟨Nat.le_of_ble_eq_true rfl, Nat.le_of_ble_eq_true rfl⟩) ⟨fun _ _ _ _ q => ⟨q.1, q.2.1, q.2.2.1, KK.call q.2.2.2.1, q.2.2.2.2⟩, va_recv (ci := 4) (q0 := 0) hK hP rfl rfl, fun U0 hU hW => ⟨rfl, by rw [hU], by rw [hU]; exact hP, KK.warm hK hN hW, hD.weaken (fun _ _ _ _ => trivial)⟩⟩ rfl rfl hl.1 rfl (lv_room (Nat.le_of_ble_eq_true rfl)) d_M_proof_29 ⟨Nat.le_of_ble_eq_true rfl, Nat.le_of_ble_eq_true rfl⟩) hS (fun q _ h => hFc q h) hFc (fun r_7 u_9 t1 H locs ht1 hvm hw_8 hB hz1 hkp hS => ?_)
      obtain ⟨hP, hD⟩ := hB
      rw [ht1] at hP
      have hD := hD.weaken (fun k q _ h => hFc q.1 h)
      refine lv_istore (lv' := [(5, .int r_7), (0, .ref (a 0)), (1, .int o), (2, .int gd), (3, .long t)]) hx hb d_M_proof_32 hl (by decide) rfl (fun ls hl => ?_)
      have hok := c_3
      obtain ⟨k, hk1, hk2, rfl⟩ := ordk_of hok
      refine lv_aload_n hx hb d_M_proof_34 rfl (lv_at hl 1 rfl) ?_
      refine va_get (D := D) (ci := 4) (C := R_M) (T := F_M) (N := 17) (v := .ref (a 9)) hx hb ht i_M hown hK hP 0 rfl rfl 10 (by decide) (ht _ tk_271) (fun _ h9 => h9) rfl d_M_proof_35 ?_
      refine lv_iload_n hx hb d_M_proof_38 rfl (lv_at hl 2 rfl) ?_
      refine vi_lald (k := k) (f := psX (qM V M O t) (yM M) O n) hx hb hK hP 9 2 rfl rfl (by omega) (by omega) d_M_proof_39 ?_
      refine lv_lconst (v := 0) hx hb d_M_proof_40 (by decide) ?_
      refine lc_ge (tgt := 54) hx hb d_M_proof_41 d_M_proof_42 (by decide) (fun c_10 => ?_) (fun c_10 => ?_)
      · refine lv_bipush (v := (-103)) hx hb d_M_proof_54 (by decide) ?_
        exact W.iret (v := (-103)) hx hb hr (fun t9 ht9 hW => ⟨⟨(-103), (t, V, Op n V M O t), rfl, Or.inr (Or.inr ⟨k, hk1, hk2, rfl, c_6, Or.inl ⟨c_10, rfl, rfl⟩⟩), by rw [ht9]; exact hP, hD⟩, hS.F ht9⟩) hS.2.2 d_M_proof_56
      · refine lv_aload_n hx hb d_M_proof_45 rfl (lv_at hl 1 rfl) ?_
        refine va_get (D := D) (ci := 4) (C := R_M) (T := F_M) (N := 17) (v := .ref (a 8)) hx hb ht i_M hown hK hP 0 rfl rfl 9 (by decide) (ht _ tk_270) (fun _ h9 => h9) rfl d_M_proof_46 ?_
        refine lv_iload_n hx hb d_M_proof_49 rfl (lv_at hl 2 rfl) ?_
        refine vi_zald (k := k) (f := V) hx hb hK hP 8 1 rfl rfl (by omega) (by omega) d_M_proof_50 ?_
        refine lv_if_eq (tgt := 57) hx hb d_M_proof_51 (by decide) (fun c_11 => ?_) (fun c_11 => ?_)
        · rcases hg with rfl | rfl
          · refine lv_aload_n hx hb d_M_proof_57 rfl (lv_at hl 1 rfl) ?_
            refine va_get (D := D) (ci := 4) (C := R_M) (T := F_M) (N := 17) (v := .ref (a 8)) hx hb ht i_M hown hK hP 0 rfl rfl 9 (by decide) (ht _ tk_270) (fun _ h9 => h9) rfl d_M_proof_58 ?_
            refine lv_iload_n hx hb d_M_proof_61 rfl (lv_at hl 2 rfl) ?_
            refine lv_iload_n hx hb d_M_proof_62 rfl (lv_at hl 3 rfl) ?_
            refine vi_zast (k := k) (f := V) (x := 0) hx hb hK hP hD hS 8 1 rfl rfl (by omega) (by omega) d_M_proof_63 (fun H locs hP hD hS => ?_)
            have hP : va_P D classes (mW a cs 0 n t K E P T (upd V k (vp_nar .boolean 0)) F U M (psX (qM V M O t) (yM M) O n) rk wy rg rf rs) H := hP
            have hD : va_D A (mW a cs 0 n t K E P T (upd V k (vp_nar .boolean 0)) F U M (psX (qM V M O t) (yM M) O n) rk wy rg rf rs) := hD
            refine lv_aload_n hx hb d_M_proof_64 rfl (lv_at hl 1 rfl) ?_
            refine va_get (D := D) (ci := 4) (C := R_M) (T := F_M) (N := 17) (v := .ref (a 9)) hx hb ht i_M hown hK hP 0 rfl rfl 10 (by decide) (ht _ tk_271) (fun _ h9 => h9) rfl d_M_proof_65 ?_
            refine lv_iload_n hx hb d_M_proof_68 rfl (lv_at hl 2 rfl) ?_
            refine lv_iload_n hx hb d_M_proof_69 rfl (lv_at hl 3 rfl) ?_
            refine lv_if_eq (tgt := 79) hx hb d_M_proof_70 (by decide) (fun _ => ?_) (fun h9 => absurd (by decide) h9)
            refine lv_lload_n hx hb d_M_proof_79 rfl (lv_at hl 4 rfl) ?_
            refine vi_last (k := k) (f := psX (qM V M O t) (yM M) O n) (x := t) hx hb hK hP hD hS 9 2 rfl rfl (by omega) (by omega) d_M_proof_80 (fun H locs hP hD hS => ?_)
            have hP : va_P D classes (mW a cs 0 n t K E P T (upd V k (vp_nar .boolean 0)) F U M (vp_updL (psX (qM V M O t) (yM M) O n) k t) rk wy rg rf rs) H := hP
            have hD : va_D A (mW a cs 0 n t K E P T (upd V k (vp_nar .boolean 0)) F U M (vp_updL (psX (qM V M O t) (yM M) O n) k t) rk wy rg rf rs) := hD
            refine lv_iload_n hx hb d_M_proof_81 rfl (lv_at hl 3 rfl) ?_
            refine lv_if_eq (tgt := 89) hx hb d_M_proof_82 (by decide) (fun _ => ?_) (fun h9 => absurd (by decide) h9)
            refine lv_iconst (v := 0) hx hb d_M_proof_89 (by decide) ?_
            exact W.iret (v := 0) hx hb hr (fun t9 ht9 hW => ⟨⟨0, (t, upd V k 0, vp_updL (Op n V M O t) k t), rfl, Or.inr (Or.inr ⟨k, hk1, hk2, rfl, c_6, Or.inr (Or.inr ⟨c_10, c_11, Or.inr ⟨rfl, rfl, rfl⟩⟩)⟩), by rw [ht9]; exact hP, hD⟩, hS.F ht9⟩) hS.2.2 d_M_proof_90
          · refine lv_aload_n hx hb d_M_proof_57 rfl (lv_at hl 1 rfl) ?_
            refine va_get (D := D) (ci := 4) (C := R_M) (T := F_M) (N := 17) (v := .ref (a 8)) hx hb ht i_M hown hK hP 0 rfl rfl 9 (by decide) (ht _ tk_270) (fun _ h9 => h9) rfl d_M_proof_58 ?_
            refine lv_iload_n hx hb d_M_proof_61 rfl (lv_at hl 2 rfl) ?_
            refine lv_iload_n hx hb d_M_proof_62 rfl (lv_at hl 3 rfl) ?_
            refine vi_zast (k := k) (f := V) (x := 1) hx hb hK hP hD hS 8 1 rfl rfl (by omega) (by omega) d_M_proof_63 (fun H locs hP hD hS => ?_)
            have hP : va_P D classes (mW a cs 0 n t K E P T (upd V k (vp_nar .boolean 1)) F U M (psX (qM V M O t) (yM M) O n) rk wy rg rf rs) H := hP
            have hD : va_D A (mW a cs 0 n t K E P T (upd V k (vp_nar .boolean 1)) F U M (psX (qM V M O t) (yM M) O n) rk wy rg rf rs) := hD
            refine lv_aload_n hx hb d_M_proof_64 rfl (lv_at hl 1 rfl) ?_
            refine va_get (D := D) (ci := 4) (C := R_M) (T := F_M) (N := 17) (v := .ref (a 9)) hx hb ht i_M hown hK hP 0 rfl rfl 10 (by decide) (ht _ tk_271) (fun _ h9 => h9) rfl d_M_proof_65 ?_
            refine lv_iload_n hx hb d_M_proof_68 rfl (lv_at hl 2 rfl) ?_
            refine lv_iload_n hx hb d_M_proof_69 rfl (lv_at hl 3 rfl) ?_
            refine lv_if_eq (tgt := 79) hx hb d_M_proof_70 (by decide) (fun h9 => absurd h9 (by decide)) (fun _ => ?_)
            refine lv_ldc2 (v := (-1)) hx hb hown (ht _ tk_321) d_M_proof_73 ?_
            refine lv_goto (tgt := 80) hx hb d_M_proof_76 (by decide) ?_
            refine vi_last (k := k) (f := psX (qM V M O t) (yM M) O n) (x := (-1)) hx hb hK hP hD hS 9 2 rfl rfl (by omega) (by omega) d_M_proof_80 (fun H locs hP hD hS => ?_)
            have hP : va_P D classes (mW a cs 0 n t K E P T (upd V k (vp_nar .boolean 1)) F U M (vp_updL (psX (qM V M O t) (yM M) O n) k (-1)) rk wy rg rf rs) H := hP
            have hD : va_D A (mW a cs 0 n t K E P T (upd V k (vp_nar .boolean 1)) F U M (vp_updL (psX (qM V M O t) (yM M) O n) k (-1)) rk wy rg rf rs) := hD
            refine lv_iload_n hx hb d_M_proof_81 rfl (lv_at hl 3 rfl) ?_
            refine lv_if_eq (tgt := 89) hx hb d_M_proof_82 (by decide) (fun h9 => absurd h9 (by decide)) (fun _ => ?_)
            refine lv_iconst (v := 1) hx hb d_M_proof_85 (by decide) ?_
            refine lv_goto (tgt := 90) hx hb d_M_proof_86 (by decide) ?_
            exact W.iret (v := 1) hx hb hr (fun t9 ht9 hW => ⟨⟨1, (t, upd V k 1, vp_updL (Op n V M O t) k (-1)), rfl, Or.inr (Or.inr ⟨k, hk1, hk2, rfl, c_6, Or.inr (Or.inr ⟨c_10, c_11, Or.inl ⟨rfl, rfl, rfl⟩⟩)⟩), by rw [ht9]; exact hP, hD⟩, hS.F ht9⟩) hS.2.2 d_M_proof_90
        · refine lv_bipush (v := (-103)) hx hb d_M_proof_54 (by decide) ?_
          exact W.iret (v := (-103)) hx hb hr (fun t9 ht9 hW => ⟨⟨(-103), (t, V, Op n V M O t), rfl, Or.inr (Or.inr ⟨k, hk1, hk2, rfl, c_6, Or.inr (Or.inl ⟨c_10, c_11, rfl, rfl⟩)⟩), by rw [ht9]; exact hP, hD⟩, hS.F ht9⟩) hS.2.2 d_M_proof_56
    · have c_6 := bl_f hw_5 c_6
      refine lv_bipush (v := (-102)) hx hb d_M_proof_24 (by decide) ?_
      exact W.iret (v := (-102)) hx hb hr (fun t9 ht9 hW => ⟨⟨(-102), (now, V, O), rfl, Or.inr (Or.inl ⟨c_3, Classical.byContradiction c_6, rfl, rfl⟩), by rw [ht9]; exact hP, hD⟩, hS.F ht9⟩) hS.2.2 d_M_proof_26
  · have c_3 := bl_f hw_2 c_3
    refine lv_bipush (v := (-101)) hx hb d_M_proof_13 (by decide) ?_
    exact W.iret (v := (-101)) hx hb hr (fun t9 ht9 hW => ⟨⟨(-101), (now, V, O), rfl, Or.inl ⟨c_3, rfl, rfl⟩, by rw [ht9]; exact hP, hD⟩, hS.F ht9⟩) hS.2.2 d_M_proof_15
abbrev QextM (n : Nat) (U O : Nat → Int64) (o : Int32) (t : Int64) (r : Int32) (u : Nat → Int64) : Prop :=
  (¬ okO n o ∧ r = -101 ∧ u = U) ∨ (okO n o ∧ badD 0 t ∧ r = -102 ∧ u = U) ∨
  (∃ k, 1 ≤ k ∧ k ≤ n ∧ o = nI k ∧ ¬ badD 0 t ∧
    ((¬ O k < 0 ∧ r = -103 ∧ u = U) ∨ (O k < 0 ∧ ¬ t ≤ U k ∧ r = 1 ∧ u = vp_updL U k t) ∨ (O k < 0 ∧ t ≤ U k ∧ r = 0 ∧ u = U)))
set_option maxHeartbeats 4000000 in
set_option maxRecDepth 100000 in
/-- the reference: extend(o, t) -/
theorem c_M_extend (l : Launch) (o : Int32) (t : Int64) (D : va_G) (a cs : Nat → Nat) (th : Int32) (n : Nat) (now : Int64) (K E P T V : Nat → Int32) (F U M O : Nat → Int64) (rk wy rg : Nat → Int32) (rf rs : Int32) (hn : n ≤ 200) (sz : Nat) : Met l y_M_extend (Cond.code y_M_extend b_M_extend 5 (some .int) :: wt) ({ frames := 2, cells := 0, slots := 0, locals := 46 }) (va_Pc [.ref (a 0), .int o, .long t] (fun S0 => S0.heap.size = sz ∧ va_P D classes (mW a cs th n now K E P T V F U M O rk wy rg rf rs) S0.heap ∧ KK D cs S0 ∧ va_D (fun _ => True) (mW a cs th n now K E P T V F U M O rk wy rg rf rs))) (va_Qi (fun r u => QextM n U O o t r u) (fun (u : Nat → Int64) S1 => va_P D classes (mW a cs 0 n now K E P T V F u M O rk wy rg rf rs) S1.heap ∧ va_D (va_A (mW a cs th n now K E P T V F U M O rk wy rg rf rs) sz) (mW a cs 0 n now K E P T V F u M O rk wy rg rf rs)) (va_A (mW a cs th n now K E P T V F U M O rk wy rg rf rs) sz)) 0 0 (va_A (mW a cs th n now K E P T V F U M O rk wy rg rf rs) sz) := by
  refine Met.ofW (cc := b_M_extend) (maxL := 5) (ret := (some .int)) (by decide) rfl ?_
  intro p e s m args below meth c s₁ B hml hv
  obtain ⟨rfl, hsz, hP, ⟨hK, hN⟩, hD0⟩ := hv
  have hx := B.exec
  have hb := B.bytes
  have hr := B.returns
  have ht : ∀ w ∈ wt, w.before _ s = true := fun w h => atoms_spec (ws := _ :: wt) B.pre w (List.mem_cons_of_mem _ h)
  have hown : s.vm.findClass R_M = some m.cls := findClass_of_methodNamed B.named
  have hlocks := B.notSynchronized
  subst hsz
  have hD := hD0.self (sz := s.heap.size)
  generalize hAe : va_A (mW a cs th n now K E P T V F U M O rk wy rg rf rs) s.heap.size = A at hD ⊢
  have hA : ∀ q : Nat, s.heap.size ≤ q → A q := fun q h => by rw [← hAe]; exact Or.inr h
  have hS : va_S A s.heap s.heap [] := va_S.rf
  have hl := lv_entry ([.ref (a 0), .int o, .long t]) (n := 5) (Nat.le_of_ble_eq_true rfl)
  rw [lg_entry_eq]
  generalize (lg_sl ([.ref (a 0), .int o, .long t]) ++ List.replicate (5 - (lg_sl ([.ref (a 0), .int o, .long t])).length) Slot.unset).toArray = ls at hl ⊢
  have hl : lv_has ls 5 [(0, .ref (a 0)), (1, .int o), (2, .long t)] := hl
  refine lv_aload_n hx hb d_M_extend_0 rfl (lv_at hl 0 rfl) ?_
  refine lv_iconst (v := 0) hx hb d_M_extend_1 (by decide) ?_
  refine va_put (D := D) (ci := 4) (C := R_M) (T := F_M) (N := 17) (v := .int 0) (ty := .int) hx hb ht i_M t_M t_M_ok n_M hown hK hP hD hS 0 rfl rfl 0 (by decide) (ht _ tk_261) (fun _ h9 => h9) rfl (by decide +kernel) rfl rfl (Nat.le_of_ble_eq_true rfl) d_M_extend_2 (fun H locs hP hD hS => ?_)
  have hP : va_P D classes (mW a cs 0 n now K E P T V F U M O rk wy rg rf rs) H := hP
  have hD : va_D A (mW a cs 0 n now K E P T V F U M O rk wy rg rf rs) := hD
  refine lv_aload_n hx hb d_M_extend_5 rfl (lv_at hl 0 rfl) ?_
  refine lv_iload_n hx hb d_M_extend_6 rfl (lv_at hl 1 rfl) ?_
  refine vp_callSi (W.runV (C := R_M) (As := [.int o]) (rest := []) ⟨hx, hb, hml, hown, ht⟩ (c_M_isOrder l o D a cs 0 n now K E P T V F U M O rk wy rg rf rs hn) (cV_ 1 ht tk_332 tk_329 tk_2 tk_331 ts_M_isOrder hd_M_isOrder ⟨Nat.le_of_ble_eq_true rfl, Nat.le_of_ble_eq_true rfl⟩) ⟨fun _ _ _ _ q => ⟨q.1, q.2.1, KK.call q.2.2⟩, va_recv (ci := 4) (q0 := 0) hK hP rfl rfl, fun U0 hU hW => ⟨rfl, by rw [hU]; exact hP, KK.warm hK hN hW⟩⟩ rfl rfl hl.1 rfl (lv_room (Nat.le_of_ble_eq_true rfl)) d_M_extend_7 ⟨Nat.le_of_ble_eq_true rfl, Nat.le_of_ble_eq_true rfl⟩) (fun r_1 hw_2 => ?_)
  refine lv_if_ne (tgt := 16) hx hb d_M_extend_10 (by decide) (fun c_3 => ?_) (fun c_3 => ?_)
  · have c_3 := bl_t hw_2 c_3
    refine lv_lload_n hx hb d_M_extend_16 rfl (lv_at hl 2 rfl) ?_
    refine lv_lconst (v := 0) hx hb d_M_extend_17 (by decide) ?_
    refine lv_ldc2 (v := 20000) hx hb hown (ht _ tk_324) d_M_extend_18 ?_
    refine vp_callSi (W.runS (As := [.long t, .long 0, .long 20000]) (rest := []) ⟨hx, hb, hml, hown, ht⟩ (c_M_isIn l t 0 20000) (cS_ 3 ht tk_320 tk_318 tk_2 tk_319 hd_M_isIn ⟨Nat.le_of_ble_eq_true rfl, Nat.le_of_ble_eq_true rfl⟩) ⟨fun _ _ _ _ q => q, fun _ _ _ => ⟨rfl, trivial⟩⟩ rfl rfl hl.1 rfl (lv_room (Nat.le_of_ble_eq_true rfl)) d_M_extend_21 ⟨Nat.le_of_ble_eq_true rfl, Nat.le_of_ble_eq_true rfl⟩) (fun r_4 hw_5 => ?_)
    refine lv_if_ne (tgt := 30) hx hb d_M_extend_24 (by decide) (fun c_6 => ?_) (fun c_6 => ?_)
    · have c_6 := bl_t hw_5 c_6
      have hok := c_3
      obtain ⟨k, hk1, hk2, rfl⟩ := ordk_of hok
      refine lv_aload_n hx hb d_M_extend_30 rfl (lv_at hl 0 rfl) ?_
      refine va_get (D := D) (ci := 4) (C := R_M) (T := F_M) (N := 17) (v := .ref (a 9)) hx hb ht i_M hown hK hP 0 rfl rfl 10 (by decide) (ht _ tk_271) (fun _ h9 => h9) rfl d_M_extend_31 ?_
      refine lv_iload_n hx hb d_M_extend_34 rfl (lv_at hl 1 rfl) ?_
      refine vi_lald (k := k) (f := O) hx hb hK hP 9 2 rfl rfl (by omega) (by omega) d_M_extend_35 ?_
      refine lv_lconst (v := 0) hx hb d_M_extend_36 (by decide) ?_
      refine lc_lt (tgt := 44) hx hb d_M_extend_37 d_M_extend_38 (by decide) (fun c_7 => ?_) (fun c_7 => ?_)
      · refine lv_lload_n hx hb d_M_extend_44 rfl (lv_at hl 2 rfl) ?_
        refine lv_aload_n hx hb d_M_extend_45 rfl (lv_at hl 0 rfl) ?_
        refine va_get (D := D) (ci := 4) (C := R_M) (T := F_M) (N := 17) (v := .ref (a 6)) hx hb ht i_M hown hK hP 0 rfl rfl 7 (by decide) (ht _ tk_268) (fun _ h9 => h9) rfl d_M_extend_46 ?_
        refine lv_iload_n hx hb d_M_extend_49 rfl (lv_at hl 1 rfl) ?_
        refine vi_lald (k := k) (f := U) hx hb hK hP 6 2 rfl rfl (by omega) (by omega) d_M_extend_50 ?_
        refine lc_le (tgt := 59) hx hb d_M_extend_51 d_M_extend_52 (by decide) (fun c_8 => ?_) (fun c_8 => ?_)
        · refine lv_iconst (v := 0) hx hb d_M_extend_59 (by decide) ?_
          refine lv_istore (lv' := [(4, .int 0), (0, .ref (a 0)), (1, .int (nI k)), (2, .long t)]) hx hb d_M_extend_60 hl (by decide) rfl (fun ls hl => ?_)
          refine lv_aload_n hx hb d_M_extend_62 rfl (lv_at hl 1 rfl) ?_
          refine va_get (D := D) (ci := 4) (C := R_M) (T := F_M) (N := 17) (v := .ref (a 6)) hx hb ht i_M hown hK hP 0 rfl rfl 7 (by decide) (ht _ tk_268) (fun _ h9 => h9) rfl d_M_extend_63 ?_
          refine lv_iload_n hx hb d_M_extend_66 rfl (lv_at hl 2 rfl) ?_
          refine lv_iload hx hb d_M_extend_67 (lv_at hl 0 rfl) ?_
          refine lv_if_eq (tgt := 76) hx hb d_M_extend_69 (by decide) (fun _ => ?_) (fun h9 => absurd (by decide) h9)
          refine lv_aload_n hx hb d_M_extend_76 rfl (lv_at hl 1 rfl) ?_
          refine va_get (D := D) (ci := 4) (C := R_M) (T := F_M) (N := 17) (v := .ref (a 6)) hx hb ht i_M hown hK hP 0 rfl rfl 7 (by decide) (ht _ tk_268) (fun _ h9 => h9) rfl d_M_extend_77 ?_
          refine lv_iload_n hx hb d_M_extend_80 rfl (lv_at hl 2 rfl) ?_
          refine vi_lald (k := k) (f := U) hx hb hK hP 6 2 rfl rfl (by omega) (by omega) d_M_extend_81 ?_
          refine vi_last (k := k) (f := U) (x := U k) hx hb hK hP hD hS 6 2 rfl rfl (by omega) (by omega) d_M_extend_82 (fun H locs hP hD hS => ?_)
          have hP : va_P D classes (mW a cs 0 n now K E P T V F (vp_updL U k (U k)) M O rk wy rg rf rs) H := hP
          have hD : va_D A (mW a cs 0 n now K E P T V F (vp_updL U k (U k)) M O rk wy rg rf rs) := hD
          refine lv_iload hx hb d_M_extend_83 (lv_at hl 0 rfl) ?_
          refine lv_if_eq (tgt := 92) hx hb d_M_extend_85 (by decide) (fun _ => ?_) (fun h9 => absurd (by decide) h9)
          refine lv_iconst (v := 0) hx hb d_M_extend_92 (by decide) ?_
          rw [updL_self] at hP hD
          exact W.iret (v := 0) hx hb hr (fun t9 ht9 hW => ⟨⟨0, U, rfl, Or.inr (Or.inr ⟨k, hk1, hk2, rfl, inM_iff.mp c_6, Or.inr (Or.inr ⟨c_7, c_8, rfl, rfl⟩)⟩), by rw [ht9]; exact hP, hD⟩, hS.F ht9⟩) hS.2.2 d_M_extend_93
        · refine lv_iconst (v := 1) hx hb d_M_extend_55 (by decide) ?_
          refine lv_goto (tgt := 60) hx hb d_M_extend_56 (by decide) ?_
          refine lv_istore (lv' := [(4, .int 1), (0, .ref (a 0)), (1, .int (nI k)), (2, .long t)]) hx hb d_M_extend_60 hl (by decide) rfl (fun ls hl => ?_)
          refine lv_aload_n hx hb d_M_extend_62 rfl (lv_at hl 1 rfl) ?_
          refine va_get (D := D) (ci := 4) (C := R_M) (T := F_M) (N := 17) (v := .ref (a 6)) hx hb ht i_M hown hK hP 0 rfl rfl 7 (by decide) (ht _ tk_268) (fun _ h9 => h9) rfl d_M_extend_63 ?_
          refine lv_iload_n hx hb d_M_extend_66 rfl (lv_at hl 2 rfl) ?_
          refine lv_iload hx hb d_M_extend_67 (lv_at hl 0 rfl) ?_
          refine lv_if_eq (tgt := 76) hx hb d_M_extend_69 (by decide) (fun h9 => absurd h9 (by decide)) (fun _ => ?_)
          refine lv_lload_n hx hb d_M_extend_72 rfl (lv_at hl 3 rfl) ?_
          refine lv_goto (tgt := 82) hx hb d_M_extend_73 (by decide) ?_
          refine vi_last (k := k) (f := U) (x := t) hx hb hK hP hD hS 6 2 rfl rfl (by omega) (by omega) d_M_extend_82 (fun H locs hP hD hS => ?_)
          have hP : va_P D classes (mW a cs 0 n now K E P T V F (vp_updL U k t) M O rk wy rg rf rs) H := hP
          have hD : va_D A (mW a cs 0 n now K E P T V F (vp_updL U k t) M O rk wy rg rf rs) := hD
          refine lv_iload hx hb d_M_extend_83 (lv_at hl 0 rfl) ?_
          refine lv_if_eq (tgt := 92) hx hb d_M_extend_85 (by decide) (fun h9 => absurd h9 (by decide)) (fun _ => ?_)
          refine lv_iconst (v := 1) hx hb d_M_extend_88 (by decide) ?_
          refine lv_goto (tgt := 93) hx hb d_M_extend_89 (by decide) ?_
          exact W.iret (v := 1) hx hb hr (fun t9 ht9 hW => ⟨⟨1, vp_updL U k t, rfl, Or.inr (Or.inr ⟨k, hk1, hk2, rfl, inM_iff.mp c_6, Or.inr (Or.inl ⟨c_7, c_8, rfl, rfl⟩)⟩), by rw [ht9]; exact hP, hD⟩, hS.F ht9⟩) hS.2.2 d_M_extend_93
      · refine lv_bipush (v := (-103)) hx hb d_M_extend_41 (by decide) ?_
        exact W.iret (v := (-103)) hx hb hr (fun t9 ht9 hW => ⟨⟨(-103), U, rfl, Or.inr (Or.inr ⟨k, hk1, hk2, rfl, inM_iff.mp c_6, Or.inl ⟨c_7, rfl, rfl⟩⟩), by rw [ht9]; exact hP, hD⟩, hS.F ht9⟩) hS.2.2 d_M_extend_43
    · have c_6 := bl_f hw_5 c_6
      refine lv_bipush (v := (-102)) hx hb d_M_extend_27 (by decide) ?_
      exact W.iret (v := (-102)) hx hb hr (fun t9 ht9 hW => ⟨⟨(-102), U, rfl, Or.inr (Or.inl ⟨c_3, Classical.byContradiction (fun h9 => c_6 (inM_iff.mpr h9)), rfl, rfl⟩), by rw [ht9]; exact hP, hD⟩, hS.F ht9⟩) hS.2.2 d_M_extend_29
  · have c_3 := bl_f hw_2 c_3
    refine lv_bipush (v := (-101)) hx hb d_M_extend_13 (by decide) ?_
    exact W.iret (v := (-101)) hx hb hr (fun t9 ht9 hW => ⟨⟨(-101), U, rfl, Or.inl ⟨c_3, rfl, rfl⟩, by rw [ht9]; exact hP, hD⟩, hS.F ht9⟩) hS.2.2 d_M_extend_15
set_option maxHeartbeats 4000000 in
set_option maxRecDepth 100000 in
/-- the reference: rank(kind, r) -/
theorem c_M_rank (l : Launch) (o : Int32) (x : Int32) (D : va_G) (a cs : Nat → Nat) (th : Int32) (n : Nat) (now : Int64) (K E P T V : Nat → Int32) (F U M O : Nat → Int64) (rk wy rg : Nat → Int32) (rf rs : Int32)  (sz : Nat) : Met l y_M_rank (Cond.code y_M_rank b_M_rank 4 (some .int) :: wt) ({ frames := 1, cells := 0, slots := 0, locals := 25 }) (va_Pc [.ref (a 0), .int o, .int x] (fun S0 => S0.heap.size = sz ∧ va_P D classes (mW a cs th n now K E P T V F U M O rk wy rg rf rs) S0.heap ∧ KK D cs S0 ∧ va_D (fun _ => True) (mW a cs th n now K E P T V F U M O rk wy rg rf rs))) (va_Qi (fun r u => QrankC rk o x r u) (fun (u : Nat → Int32) S1 => va_P D classes (mW a cs 0 n now K E P T V F U M O u wy rg rf rs) S1.heap ∧ va_D (va_A (mW a cs th n now K E P T V F U M O rk wy rg rf rs) sz) (mW a cs 0 n now K E P T V F U M O u wy rg rf rs)) (va_A (mW a cs th n now K E P T V F U M O rk wy rg rf rs) sz)) 0 0 (va_A (mW a cs th n now K E P T V F U M O rk wy rg rf rs) sz) := by
  refine Met.ofW (cc := b_M_rank) (maxL := 4) (ret := (some .int)) (by decide) rfl ?_
  intro p e s m args below meth c s₁ B hml hv
  obtain ⟨rfl, hsz, hP, ⟨hK, hN⟩, hD0⟩ := hv
  have hx := B.exec
  have hb := B.bytes
  have hr := B.returns
  have ht : ∀ w ∈ wt, w.before _ s = true := fun w h => atoms_spec (ws := _ :: wt) B.pre w (List.mem_cons_of_mem _ h)
  have hown : s.vm.findClass R_M = some m.cls := findClass_of_methodNamed B.named
  have hlocks := B.notSynchronized
  subst hsz
  have hD := hD0.self (sz := s.heap.size)
  generalize hAe : va_A (mW a cs th n now K E P T V F U M O rk wy rg rf rs) s.heap.size = A at hD ⊢
  have hA : ∀ q : Nat, s.heap.size ≤ q → A q := fun q h => by rw [← hAe]; exact Or.inr h
  have hS : va_S A s.heap s.heap [] := va_S.rf
  have hl := lv_entry ([.ref (a 0), .int o, .int x]) (n := 4) (Nat.le_of_ble_eq_true rfl)
  rw [lg_entry_eq]
  generalize (lg_sl ([.ref (a 0), .int o, .int x]) ++ List.replicate (4 - (lg_sl ([.ref (a 0), .int o, .int x])).length) Slot.unset).toArray = ls at hl ⊢
  have hl : lv_has ls 4 [(0, .ref (a 0)), (1, .int o), (2, .int x)] := hl
  refine lv_aload_n hx hb d_M_rank_0 rfl (lv_at hl 0 rfl) ?_
  refine lv_iconst (v := 0) hx hb d_M_rank_1 (by decide) ?_
  refine va_put (D := D) (ci := 4) (C := R_M) (T := F_M) (N := 17) (v := .int 0) (ty := .int) hx hb ht i_M t_M t_M_ok n_M hown hK hP hD hS 0 rfl rfl 0 (by decide) (ht _ tk_261) (fun _ h9 => h9) rfl (by decide +kernel) rfl rfl (Nat.le_of_ble_eq_true rfl) d_M_rank_2 (fun H locs hP hD hS => ?_)
  have hP : va_P D classes (mW a cs 0 n now K E P T V F U M O rk wy rg rf rs) H := hP
  have hD : va_D A (mW a cs 0 n now K E P T V F U M O rk wy rg rf rs) := hD
  refine lv_iload_n hx hb d_M_rank_5 rfl (lv_at hl 1 rfl) ?_
  refine lv_i2l (v := o.toInt64) hx hb d_M_rank_6 rfl ?_
  refine lv_lconst (v := 0) hx hb d_M_rank_7 (by decide) ?_
  refine lv_ldc2 (v := 8) hx hb hown (ht _ tk_323) d_M_rank_8 ?_
  refine vp_callSi (W.runS (As := [.long o.toInt64, .long 0, .long 8]) (rest := []) ⟨hx, hb, hml, hown, ht⟩ (c_M_isIn l o.toInt64 0 8) (cS_ 3 ht tk_320 tk_318 tk_2 tk_319 hd_M_isIn ⟨Nat.le_of_ble_eq_true rfl, Nat.le_of_ble_eq_true rfl⟩) ⟨fun _ _ _ _ q => q, fun _ _ _ => ⟨rfl, trivial⟩⟩ rfl rfl hl.1 rfl (lv_room (Nat.le_of_ble_eq_true rfl)) d_M_rank_11 ⟨Nat.le_of_ble_eq_true rfl, Nat.le_of_ble_eq_true rfl⟩) (fun r_1 hw_2 => ?_)
  refine lv_if_eq (tgt := 29) hx hb d_M_rank_14 (by decide) (fun c_3 => ?_) (fun c_3 => ?_)
  · have c_3 := bl_f hw_2 c_3
    refine lv_bipush (v := (-102)) hx hb d_M_rank_29 (by decide) ?_
    exact W.iret (v := (-102)) hx hb hr (fun t9 ht9 hW => ⟨⟨(-102), rk, rfl, Or.inl ⟨fun h9 => c_3 (kndM_iff.mpr h9), rfl, rfl⟩, by rw [ht9]; exact hP, hD⟩, hS.F ht9⟩) hS.2.2 d_M_rank_31
  · have c_3 := bl_t hw_2 c_3
    refine lv_iload_n hx hb d_M_rank_17 rfl (lv_at hl 2 rfl) ?_
    refine lv_i2l (v := x.toInt64) hx hb d_M_rank_18 rfl ?_
    refine lv_lconst (v := 0) hx hb d_M_rank_19 (by decide) ?_
    refine lv_ldc2 (v := 100) hx hb hown (ht _ tk_368) d_M_rank_20 ?_
    refine vp_callSi (W.runS (As := [.long x.toInt64, .long 0, .long 100]) (rest := []) ⟨hx, hb, hml, hown, ht⟩ (c_M_isIn l x.toInt64 0 100) (cS_ 3 ht tk_320 tk_318 tk_2 tk_319 hd_M_isIn ⟨Nat.le_of_ble_eq_true rfl, Nat.le_of_ble_eq_true rfl⟩) ⟨fun _ _ _ _ q => q, fun _ _ _ => ⟨rfl, trivial⟩⟩ rfl rfl hl.1 rfl (lv_room (Nat.le_of_ble_eq_true rfl)) d_M_rank_23 ⟨Nat.le_of_ble_eq_true rfl, Nat.le_of_ble_eq_true rfl⟩) (fun r_4 hw_5 => ?_)
    refine lv_if_ne (tgt := 32) hx hb d_M_rank_26 (by decide) (fun c_6 => ?_) (fun c_6 => ?_)
    · have c_6 := bl_t hw_5 c_6
      obtain ⟨k, hk1, rfl⟩ := kind_of (kndM_iff.mp c_3)
      refine lv_aload_n hx hb d_M_rank_32 rfl (lv_at hl 0 rfl) ?_
      refine va_get (D := D) (ci := 4) (C := R_M) (T := F_M) (N := 17) (v := .ref (a 10)) hx hb ht i_M hown hK hP 0 rfl rfl 11 (by decide) (ht _ tk_272) (fun _ h9 => h9) rfl d_M_rank_33 ?_
      refine lv_iload_n hx hb d_M_rank_36 rfl (lv_at hl 1 rfl) ?_
      refine vi_iald (k := k) (f := rk) hx hb hK hP 10 0 rfl rfl (by omega) (by omega) d_M_rank_37 ?_
      refine lv_istore_n (lv' := [(3, .int (rk k)), (0, .ref (a 0)), (1, .int (nI k)), (2, .int x)]) hx hb d_M_rank_38 rfl hl (by decide) rfl (fun ls hl => ?_)
      refine lv_aload_n hx hb d_M_rank_39 rfl (lv_at hl 1 rfl) ?_
      refine va_get (D := D) (ci := 4) (C := R_M) (T := F_M) (N := 17) (v := .ref (a 10)) hx hb ht i_M hown hK hP 0 rfl rfl 11 (by decide) (ht _ tk_272) (fun _ h9 => h9) rfl d_M_rank_40 ?_
      refine lv_iload_n hx hb d_M_rank_43 rfl (lv_at hl 2 rfl) ?_
      refine lv_iload_n hx hb d_M_rank_44 rfl (lv_at hl 3 rfl) ?_
      refine vi_iast (k := k) (f := rk) (x := x) hx hb hK hP hD hS 10 0 rfl rfl (by omega) (by omega) d_M_rank_45 (fun H locs hP hD hS => ?_)
      have hP : va_P D classes (mW a cs 0 n now K E P T V F U M O (upd rk k x) wy rg rf rs) H := hP
      have hD : va_D A (mW a cs 0 n now K E P T V F U M O (upd rk k x) wy rg rf rs) := hD
      refine lv_iload_n hx hb d_M_rank_46 rfl (lv_at hl 0 rfl) ?_
      exact W.iret (v := rk k) hx hb hr (fun t9 ht9 hW => ⟨⟨rk k, upd rk k x, rfl, Or.inr (Or.inr ⟨k, hk1, rfl, inM_iff.mp c_6, rfl, rfl⟩), by rw [ht9]; exact hP, hD⟩, hS.F ht9⟩) hS.2.2 d_M_rank_47
    · have c_6 := bl_f hw_5 c_6
      refine lv_bipush (v := (-102)) hx hb d_M_rank_29 (by decide) ?_
      exact W.iret (v := (-102)) hx hb hr (fun t9 ht9 hW => ⟨⟨(-102), rk, rfl, Or.inr (Or.inl ⟨kndM_iff.mp c_3, Classical.byContradiction (fun h9 => c_6 (inM_iff.mpr h9)), rfl, rfl⟩), by rw [ht9]; exact hP, hD⟩, hS.F ht9⟩) hS.2.2 d_M_rank_31
set_option maxHeartbeats 4000000 in
set_option maxRecDepth 100000 in
/-- the reference: ring(i) -/
theorem c_M_ring (l : Launch) (i : Int32) (D : va_G) (a cs : Nat → Nat) (th : Int32) (n : Nat) (now : Int64) (K E P T V : Nat → Int32) (F U M O : Nat → Int64) (rk wy rg : Nat → Int32) (rf rs : Int32) (q : Nat) (hq : rs = nI q) (hq2 : q ≤ 100) (sz : Nat) : Met l y_M_ring (Cond.code y_M_ring b_M_ring 2 (some .int) :: wt) ({ frames := 0, cells := 0, slots := 0, locals := 0 }) (va_Pc [.ref (a 0), .int i] (fun S0 => S0.heap.size = sz ∧ va_P D classes (mW a cs th n now K E P T V F U M O rk wy rg rf rs) S0.heap ∧ KK D cs S0 ∧ va_D (fun _ => True) (mW a cs th n now K E P T V F U M O rk wy rg rf rs))) (va_Qi (fun (r : Int32) (_ : Unit) => ((i < 0 ∨ rs ≤ i) ∧ r = 0) ∨ (¬ i < 0 ∧ ¬ rs ≤ i ∧ r = rg i.toNatClampNeg)) (fun (_ : Unit) S1 => va_P D classes (mW a cs 0 n now K E P T V F U M O rk wy rg rf rs) S1.heap ∧ va_D (va_A (mW a cs th n now K E P T V F U M O rk wy rg rf rs) sz) (mW a cs 0 n now K E P T V F U M O rk wy rg rf rs)) (va_A (mW a cs th n now K E P T V F U M O rk wy rg rf rs) sz)) 0 0 (va_A (mW a cs th n now K E P T V F U M O rk wy rg rf rs) sz) := by
  refine Met.ofW (cc := b_M_ring) (maxL := 2) (ret := (some .int)) (by decide) rfl ?_
  intro p e s m args below meth c s₁ B hml hv
  obtain ⟨rfl, hsz, hP, ⟨hK, hN⟩, hD0⟩ := hv
  have hx := B.exec
  have hb := B.bytes
  have hr := B.returns
  have ht : ∀ w ∈ wt, w.before _ s = true := fun w h => atoms_spec (ws := _ :: wt) B.pre w (List.mem_cons_of_mem _ h)
  have hown : s.vm.findClass R_M = some m.cls := findClass_of_methodNamed B.named
  have hlocks := B.notSynchronized
  subst hsz
  have hD := hD0.self (sz := s.heap.size)
  generalize hAe : va_A (mW a cs th n now K E P T V F U M O rk wy rg rf rs) s.heap.size = A at hD ⊢
  have hA : ∀ q : Nat, s.heap.size ≤ q → A q := fun q h => by rw [← hAe]; exact Or.inr h
  have hS : va_S A s.heap s.heap [] := va_S.rf
  have hl := lv_entry ([.ref (a 0), .int i]) (n := 2) (Nat.le_of_ble_eq_true rfl)
  rw [lg_entry_eq]
  generalize (lg_sl ([.ref (a 0), .int i]) ++ List.replicate (2 - (lg_sl ([.ref (a 0), .int i])).length) Slot.unset).toArray = ls at hl ⊢
  have hl : lv_has ls 2 [(0, .ref (a 0)), (1, .int i)] := hl
  refine lv_aload_n hx hb d_M_ring_0 rfl (lv_at hl 0 rfl) ?_
  refine lv_iconst (v := 0) hx hb d_M_ring_1 (by decide) ?_
  refine va_put (D := D) (ci := 4) (C := R_M) (T := F_M) (N := 17) (v := .int 0) (ty := .int) hx hb ht i_M t_M t_M_ok n_M hown hK hP hD hS 0 rfl rfl 0 (by decide) (ht _ tk_261) (fun _ h9 => h9) rfl (by decide +kernel) rfl rfl (Nat.le_of_ble_eq_true rfl) d_M_ring_2 (fun H locs hP hD hS => ?_)
  have hP : va_P D classes (mW a cs 0 n now K E P T V F U M O rk wy rg rf rs) H := hP
  have hD : va_D A (mW a cs 0 n now K E P T V F U M O rk wy rg rf rs) := hD
  refine lv_iload_n hx hb d_M_ring_5 rfl (lv_at hl 1 rfl) ?_
  refine lv_if_lt (tgt := 26) hx hb d_M_ring_6 (by decide) (fun c_1 => ?_) (fun c_1 => ?_)
  · refine lv_iconst (v := 0) hx hb d_M_ring_26 (by decide) ?_
    exact W.iret (v := 0) hx hb hr (fun t9 ht9 hW => ⟨⟨0, (), rfl, Or.inl ⟨Or.inl c_1, rfl⟩, by rw [ht9]; exact hP, hD⟩, hS.F ht9⟩) hS.2.2 d_M_ring_27
  · refine lv_iload_n hx hb d_M_ring_9 rfl (lv_at hl 1 rfl) ?_
    refine lv_aload_n hx hb d_M_ring_10 rfl (lv_at hl 0 rfl) ?_
    refine va_get (D := D) (ci := 4) (C := R_M) (T := F_M) (N := 17) (v := .int rs) hx hb ht i_M hown hK hP 0 rfl rfl 15 (by decide) (ht _ tk_275) (fun _ h9 => h9) rfl d_M_ring_11 ?_
    refine lv_icmp_ge (tgt := 26) hx hb d_M_ring_14 (by decide) (fun c_2 => ?_) (fun c_2 => ?_)
    · refine lv_iconst (v := 0) hx hb d_M_ring_26 (by decide) ?_
      exact W.iret (v := 0) hx hb hr (fun t9 ht9 hW => ⟨⟨0, (), rfl, Or.inl ⟨Or.inr c_2, rfl⟩, by rw [ht9]; exact hP, hD⟩, hS.F ht9⟩) hS.2.2 d_M_ring_27
    · refine lv_aload_n hx hb d_M_ring_17 rfl (lv_at hl 0 rfl) ?_
      refine va_get (D := D) (ci := 4) (C := R_M) (T := F_M) (N := 17) (v := .ref (a 12)) hx hb ht i_M hown hK hP 0 rfl rfl 16 (by decide) (ht _ tk_276) (fun _ h9 => h9) rfl d_M_ring_18 ?_
      refine lv_iload_n hx hb d_M_ring_21 rfl (lv_at hl 1 rfl) ?_
      refine va_iald (f := rg) hx hb hK hP 12 0 rfl rfl (vin_of hq hq2 (by omega) c_1 c_2) d_M_ring_22 ?_
      refine lv_goto (tgt := 27) hx hb d_M_ring_23 (by decide) ?_
      exact W.iret (v := rg i.toNatClampNeg) hx hb hr (fun t9 ht9 hW => ⟨⟨rg i.toNatClampNeg, (), rfl, Or.inr ⟨c_1, c_2, rfl⟩, by rw [ht9]; exact hP, hD⟩, hS.F ht9⟩) hS.2.2 d_M_ring_27
set_option maxHeartbeats 4000000 in
set_option maxRecDepth 100000 in
/-- the reference: isForce(o, day) -/
theorem c_M_isForce (l : Launch) (k : Nat) (d : Int64) (D : va_G) (a cs : Nat → Nat) (th : Int32) (n : Nat) (now : Int64) (K E P T V : Nat → Int32) (F U M O : Nat → Int64) (rk wy rg : Nat → Int32) (rf rs : Int32) (hk : k ≤ 200) : Met l y_M_isForce (Cond.code y_M_isForce b_M_isForce 4 (some .boolean) :: wt) ({ frames := 1, cells := 0, slots := 0, locals := 25 }) (va_Pc [.ref (a 0), .int (nI k), .long d] (fun S0 => va_P D classes (mW a cs th n now K E P T V F U M O rk wy rg rf rs) S0.heap ∧ KK D cs S0)) (vp_Si (fun r => bl r ((¬ d < F k ∧ ¬ U k < d) ∧ (O k < 0 ∨ ¬ O k ≤ d)))) 0 0 (fun _ => False) := by
  refine Met.ofW (cc := b_M_isForce) (maxL := 4) (ret := (some .boolean)) (by decide) rfl ?_
  intro p e s m args below meth c s₁ B hml hv
  obtain ⟨rfl, hP, hK, hN⟩ := hv
  have hx := B.exec
  have hb := B.bytes
  have hr := B.returns
  have ht : ∀ w ∈ wt, w.before _ s = true := fun w h => atoms_spec (ws := _ :: wt) B.pre w (List.mem_cons_of_mem _ h)
  have hown : s.vm.findClass R_M = some m.cls := findClass_of_methodNamed B.named
  have hlocks := B.notSynchronized
  have hl := lv_entry ([.ref (a 0), .int (nI k), .long d]) (n := 4) (Nat.le_of_ble_eq_true rfl)
  rw [lg_entry_eq]
  generalize (lg_sl ([.ref (a 0), .int (nI k), .long d]) ++ List.replicate (4 - (lg_sl ([.ref (a 0), .int (nI k), .long d])).length) Slot.unset).toArray = ls at hl ⊢
  have hl : lv_has ls 4 [(0, .ref (a 0)), (1, .int (nI k)), (2, .long d)] := hl
  refine lv_lload_n hx hb d_M_isForce_0 rfl (lv_at hl 2 rfl) ?_
  refine lv_aload_n hx hb d_M_isForce_1 rfl (lv_at hl 0 rfl) ?_
  refine va_get (D := D) (ci := 4) (C := R_M) (T := F_M) (N := 17) (v := .ref (a 5)) hx hb ht i_M hown hK hP 0 rfl rfl 6 (by decide) (ht _ tk_267) (fun _ h9 => h9) rfl d_M_isForce_2 ?_
  refine lv_iload_n hx hb d_M_isForce_5 rfl (lv_at hl 1 rfl) ?_
  refine vi_lald (k := k) (f := F) hx hb hK hP 5 2 rfl rfl (by omega) (by omega) d_M_isForce_6 ?_
  refine lv_aload_n hx hb d_M_isForce_7 rfl (lv_at hl 0 rfl) ?_
  refine va_get (D := D) (ci := 4) (C := R_M) (T := F_M) (N := 17) (v := .ref (a 6)) hx hb ht i_M hown hK hP 0 rfl rfl 7 (by decide) (ht _ tk_268) (fun _ h9 => h9) rfl d_M_isForce_8 ?_
  refine lv_iload_n hx hb d_M_isForce_11 rfl (lv_at hl 1 rfl) ?_
  refine vi_lald (k := k) (f := U) hx hb hK hP 6 2 rfl rfl (by omega) (by omega) d_M_isForce_12 ?_
  refine vp_callSi (W.runS (As := [.long d, .long (F k), .long (U k)]) (rest := []) ⟨hx, hb, hml, hown, ht⟩ (c_M_isIn l d (F k) (U k)) (cS_ 3 ht tk_320 tk_318 tk_2 tk_319 hd_M_isIn ⟨Nat.le_of_ble_eq_true rfl, Nat.le_of_ble_eq_true rfl⟩) ⟨fun _ _ _ _ q => q, fun _ _ _ => ⟨rfl, trivial⟩⟩ rfl rfl hl.1 rfl (lv_room (Nat.le_of_ble_eq_true rfl)) d_M_isForce_13 ⟨Nat.le_of_ble_eq_true rfl, Nat.le_of_ble_eq_true rfl⟩) (fun r_1 hw_2 => ?_)
  refine lv_if_eq (tgt := 45) hx hb d_M_isForce_16 (by decide) (fun c_3 => ?_) (fun c_3 => ?_)
  · have c_3 := bl_f hw_2 c_3
    refine lv_iconst (v := 0) hx hb d_M_isForce_45 (by decide) ?_
    exact W.zret (ty := .boolean) (v := 0) hx hb hr rfl (fun t9 ht9 _ => ⟨0, rfl, bl_0 (by first | (simp [c_3]; done) | grind), ht9⟩) (fun _ h9 => absurd h9 List.not_mem_nil) d_M_isForce_46
  · have c_3 := bl_t hw_2 c_3
    refine lv_aload_n hx hb d_M_isForce_19 rfl (lv_at hl 0 rfl) ?_
    refine va_get (D := D) (ci := 4) (C := R_M) (T := F_M) (N := 17) (v := .ref (a 9)) hx hb ht i_M hown hK hP 0 rfl rfl 10 (by decide) (ht _ tk_271) (fun _ h9 => h9) rfl d_M_isForce_20 ?_
    refine lv_iload_n hx hb d_M_isForce_23 rfl (lv_at hl 1 rfl) ?_
    refine vi_lald (k := k) (f := O) hx hb hK hP 9 2 rfl rfl (by omega) (by omega) d_M_isForce_24 ?_
    refine lv_lconst (v := 0) hx hb d_M_isForce_25 (by decide) ?_
    refine lc_lt (tgt := 41) hx hb d_M_isForce_26 d_M_isForce_27 (by decide) (fun c_4 => ?_) (fun c_4 => ?_)
    · refine lv_iconst (v := 1) hx hb d_M_isForce_41 (by decide) ?_
      refine lv_goto (tgt := 46) hx hb d_M_isForce_42 (by decide) ?_
      exact W.zret (ty := .boolean) (v := 1) hx hb hr rfl (fun t9 ht9 _ => ⟨1, rfl, bl_1 (by first | (simp [c_3, c_4]; done) | grind), ht9⟩) (fun _ h9 => absurd h9 List.not_mem_nil) d_M_isForce_46
    · refine lv_lload_n hx hb d_M_isForce_30 rfl (lv_at hl 2 rfl) ?_
      refine lv_aload_n hx hb d_M_isForce_31 rfl (lv_at hl 0 rfl) ?_
      refine va_get (D := D) (ci := 4) (C := R_M) (T := F_M) (N := 17) (v := .ref (a 9)) hx hb ht i_M hown hK hP 0 rfl rfl 10 (by decide) (ht _ tk_271) (fun _ h9 => h9) rfl d_M_isForce_32 ?_
      refine lv_iload_n hx hb d_M_isForce_35 rfl (lv_at hl 1 rfl) ?_
      refine vi_lald (k := k) (f := O) hx hb hK hP 9 2 rfl rfl (by omega) (by omega) d_M_isForce_36 ?_
      refine lc_ge (tgt := 45) hx hb d_M_isForce_37 d_M_isForce_38 (by decide) (fun c_5 => ?_) (fun c_5 => ?_)
      · refine lv_iconst (v := 0) hx hb d_M_isForce_45 (by decide) ?_
        exact W.zret (ty := .boolean) (v := 0) hx hb hr rfl (fun t9 ht9 _ => ⟨0, rfl, bl_0 (by first | (simp [c_3, c_4, c_5]; done) | grind), ht9⟩) (fun _ h9 => absurd h9 List.not_mem_nil) d_M_isForce_46
      · refine lv_iconst (v := 1) hx hb d_M_isForce_41 (by decide) ?_
        refine lv_goto (tgt := 46) hx hb d_M_isForce_42 (by decide) ?_
        exact W.zret (ty := .boolean) (v := 1) hx hb hr rfl (fun t9 ht9 _ => ⟨1, rfl, bl_1 (by first | (simp [c_3, c_4, c_5]; done) | grind), ht9⟩) (fun _ h9 => absurd h9 List.not_mem_nil) d_M_isForce_46
end
section
abbrev SM : Type := Nat × (Nat → Int32) × (Nat → Int32) × (Nat → Int32) × (Nat → Int32) × (Nat → Int64) × (Nat → Int64) × (Nat → Int64) × (Nat → Int64)
abbrev QordM (n : Nat) (now : Int64) (K E P T : Nat → Int32) (F U M O : Nat → Int64) (kd en wh to : Int32) (fm un : Int64) (r : Int32) (u : SM) : Prop :=
  (unkO kd en wh to ∧ r = -101 ∧ u = (n, K, E, P, T, F, U, M, O)) ∨ (¬ unkO kd en wh to ∧ outO kd en to fm un ∧ r = -102 ∧ u = (n, K, E, P, T, F, U, M, O)) ∨
  (¬ unkO kd en wh to ∧ ¬ outO kd en to fm un ∧ nI n = 200 ∧ r = -104 ∧ u = (n, K, E, P, T, F, U, M, O)) ∨
  (¬ unkO kd en wh to ∧ ¬ outO kd en to fm un ∧ ¬ nI n = 200 ∧ r = nI (n + 1) ∧ u = (n + 1, upd K (n + 1) kd, upd E (n + 1) en, upd P (n + 1) wh, upd T (n + 1) (if kd < 3 then to else 0), vp_updL F (n + 1) fm, vp_updL U (n + 1) un, vp_updL M (n + 1) now, vp_updL O (n + 1) (-1)))
set_option maxHeartbeats 4000000 in
set_option maxRecDepth 100000 in
/-- the reference: order(..) -/
theorem c_M_order (l : Launch) (kd : Int32) (en : Int32) (wh : Int32) (to : Int32) (fm : Int64) (un : Int64) (D : va_G) (a cs : Nat → Nat) (th : Int32) (n : Nat) (now : Int64) (K E P T V : Nat → Int32) (F U M O : Nat → Int64) (rk wy rg : Nat → Int32) (rf rs : Int32) (hn : n ≤ 200) (sz : Nat) : Met l y_M_order (Cond.code y_M_order b_M_order 10 (some .int) :: wt) ({ frames := 1, cells := 0, slots := 0, locals := 25 }) (va_Pc [.ref (a 0), .int kd, .int en, .int wh, .int to, .long fm, .long un] (fun S0 => S0.heap.size = sz ∧ va_P D classes (mW a cs th n now K E P T V F U M O rk wy rg rf rs) S0.heap ∧ KK D cs S0 ∧ va_D (fun _ => True) (mW a cs th n now K E P T V F U M O rk wy rg rf rs))) (va_Qi (fun r u => QordM n now K E P T F U M O kd en wh to fm un r u) (fun (u : SM) S1 => va_P D classes (mW a cs 0 u.1 now u.2.1 u.2.2.1 u.2.2.2.1 u.2.2.2.2.1 V u.2.2.2.2.2.1 u.2.2.2.2.2.2.1 u.2.2.2.2.2.2.2.1 u.2.2.2.2.2.2.2.2 rk wy rg rf rs) S1.heap ∧ va_D (va_A (mW a cs th n now K E P T V F U M O rk wy rg rf rs) sz) (mW a cs 0 u.1 now u.2.1 u.2.2.1 u.2.2.2.1 u.2.2.2.2.1 V u.2.2.2.2.2.1 u.2.2.2.2.2.2.1 u.2.2.2.2.2.2.2.1 u.2.2.2.2.2.2.2.2 rk wy rg rf rs)) (va_A (mW a cs th n now K E P T V F U M O rk wy rg rf rs) sz)) 0 0 (va_A (mW a cs th n now K E P T V F U M O rk wy rg rf rs) sz) := by
  refine Met.ofW (cc := b_M_order) (maxL := 10) (ret := (some .int)) (by decide) rfl ?_
  intro p e s m args below meth c s₁ B hml hv
  obtain ⟨rfl, hsz, hP, ⟨hK, hN⟩, hD0⟩ := hv
  have hx := B.exec
  have hb := B.bytes
  have hr := B.returns
  have ht : ∀ w ∈ wt, w.before _ s = true := fun w h => atoms_spec (ws := _ :: wt) B.pre w (List.mem_cons_of_mem _ h)
  have hown : s.vm.findClass R_M = some m.cls := findClass_of_methodNamed B.named
  have hlocks := B.notSynchronized
  subst hsz
  have hD := hD0.self (sz := s.heap.size)
  generalize hAe : va_A (mW a cs th n now K E P T V F U M O rk wy rg rf rs) s.heap.size = A at hD ⊢
  have hA : ∀ q : Nat, s.heap.size ≤ q → A q := fun q h => by rw [← hAe]; exact Or.inr h
  have hS : va_S A s.heap s.heap [] := va_S.rf
  have hl := lv_entry ([.ref (a 0), .int kd, .int en, .int wh, .int to, .long fm, .long un]) (n := 10) (Nat.le_of_ble_eq_true rfl)
  rw [lg_entry_eq]
  generalize (lg_sl ([.ref (a 0), .int kd, .int en, .int wh, .int to, .long fm, .long un]) ++ List.replicate (10 - (lg_sl ([.ref (a 0), .int kd, .int en, .int wh, .int to, .long fm, .long un])).length) Slot.unset).toArray = ls at hl ⊢
  have hl : lv_has ls 10 [(0, .ref (a 0)), (1, .int kd), (2, .int en), (3, .int wh), (4, .int to), (5, .long fm), (7, .long un)] := hl
  refine W.nameQ (fun Q hQe => ?_)
  refine lv_aload_n hx hb d_M_order_0 rfl (lv_at hl 0 rfl) ?_
  refine lv_iconst (v := 0) hx hb d_M_order_1 (by decide) ?_
  refine va_put (D := D) (ci := 4) (C := R_M) (T := F_M) (N := 17) (v := .int 0) (ty := .int) hx hb ht i_M t_M t_M_ok n_M hown hK hP hD hS 0 rfl rfl 0 (by decide) (ht _ tk_261) (fun _ h9 => h9) rfl (by decide +kernel) rfl rfl (Nat.le_of_ble_eq_true rfl) d_M_order_2 (fun H locs hP hD hS => ?_)
  have hP : va_P D classes (mW a cs 0 n now K E P T V F U M O rk wy rg rf rs) H := hP
  have hD : va_D A (mW a cs 0 n now K E P T V F U M O rk wy rg rf rs) := hD
  have J118 : ∀ (s9 : Int32) (ls : Array Slot), bl s9 (sndO kd) → ¬ unkO kd en wh to → ¬ outO kd en to fm un → lv_has ls 10 [(9, .int s9), (0, .ref (a 0)), (1, .int kd), (2, .int en), (3, .int wh), (4, .int to), (5, .long fm), (7, .long un)] → W p l e ({ frames := 1, cells := 0, slots := 0, locals := 25 } : Room) s m ([.ref (a 0), .int kd, .int en, .int wh, .int to, .long fm, .long un] : List Value).toArray below meth c H locs 0 0 Q (F0 m 118 ls []) := by
    intro s9 ls hs hnu hno hl
    refine lv_aload_n hx hb d_M_order_118 rfl (lv_at hl 1 rfl) ?_
    refine va_get (D := D) (ci := 4) (C := R_M) (T := F_M) (N := 17) (v := .int (nI n)) hx hb ht i_M hown hK hP 0 rfl rfl 1 (by decide) (ht _ tk_262) (fun _ h9 => h9) rfl d_M_order_119 ?_
    refine lv_sipush (v := 200) hx hb d_M_order_122 (by decide) ?_
    refine lv_icmp_ne (tgt := 131) hx hb d_M_order_125 (by decide) (fun c_1 => ?_) (fun c_1 => ?_)
    · have hn1 : n < 200 := by
        rcases Nat.lt_or_ge n 200 with h9 | h9
        · exact h9
        · exact absurd (show nI n = 200 by rw [show n = 200 by omega]; rfl) c_1
      refine lv_aload_n hx hb d_M_order_131 rfl (lv_at hl 1 rfl) ?_
      refine lv_dup hx hb d_M_order_132 rfl ?_
      refine va_get (D := D) (ci := 4) (C := R_M) (T := F_M) (N := 17) (v := .int (nI n)) hx hb ht i_M hown hK hP 0 rfl rfl 1 (by decide) (ht _ tk_262) (fun _ h9 => h9) rfl d_M_order_133 ?_
      refine lv_iconst (v := 1) hx hb d_M_order_136 (by decide) ?_
      refine lv_iadd hx hb d_M_order_137 ?_
      rw [nI_1]
      rcases hs with ⟨rfl, hs⟩ | ⟨rfl, hs⟩
      · have htv : (if kd < 3 then to else 0) = to := if_pos (nle3.mp hs.2)
        refine va_put (D := D) (ci := 4) (C := R_M) (T := F_M) (N := 17) (v := .int (nI (n + 1))) (ty := .int) hx hb ht i_M t_M t_M_ok n_M hown hK hP hD hS 0 rfl rfl 1 (by decide) (ht _ tk_262) (fun _ h9 => h9) rfl (by decide +kernel) rfl rfl (Nat.le_of_ble_eq_true rfl) d_M_order_138 (fun H locs hP hD hS => ?_)
        have hP : va_P D classes (mW a cs 0 (n + 1) now K E P T V F U M O rk wy rg rf rs) H := hP
        have hD : va_D A (mW a cs 0 (n + 1) now K E P T V F U M O rk wy rg rf rs) := hD
        refine lv_aload_n hx hb d_M_order_141 rfl (lv_at hl 1 rfl) ?_
        refine va_get (D := D) (ci := 4) (C := R_M) (T := F_M) (N := 17) (v := .ref (a 1)) hx hb ht i_M hown hK hP 0 rfl rfl 2 (by decide) (ht _ tk_263) (fun _ h9 => h9) rfl d_M_order_142 ?_
        refine lv_aload_n hx hb d_M_order_145 rfl (lv_at hl 1 rfl) ?_
        refine va_get (D := D) (ci := 4) (C := R_M) (T := F_M) (N := 17) (v := .int (nI (n + 1))) hx hb ht i_M hown hK hP 0 rfl rfl 1 (by decide) (ht _ tk_262) (fun _ h9 => h9) rfl d_M_order_146 ?_
        refine lv_iload_n hx hb d_M_order_149 rfl (lv_at hl 2 rfl) ?_
        refine vi_iast (k := n + 1) (f := K) (x := kd) hx hb hK hP hD hS 1 0 rfl rfl (by omega) (by omega) d_M_order_150 (fun H locs hP hD hS => ?_)
        have hP : va_P D classes (mW a cs 0 (n + 1) now (upd K (n + 1) kd) E P T V F U M O rk wy rg rf rs) H := hP
        have hD : va_D A (mW a cs 0 (n + 1) now (upd K (n + 1) kd) E P T V F U M O rk wy rg rf rs) := hD
        refine lv_aload_n hx hb d_M_order_151 rfl (lv_at hl 1 rfl) ?_
        refine va_get (D := D) (ci := 4) (C := R_M) (T := F_M) (N := 17) (v := .ref (a 2)) hx hb ht i_M hown hK hP 0 rfl rfl 3 (by decide) (ht _ tk_264) (fun _ h9 => h9) rfl d_M_order_152 ?_
        refine lv_aload_n hx hb d_M_order_155 rfl (lv_at hl 1 rfl) ?_
        refine va_get (D := D) (ci := 4) (C := R_M) (T := F_M) (N := 17) (v := .int (nI (n + 1))) hx hb ht i_M hown hK hP 0 rfl rfl 1 (by decide) (ht _ tk_262) (fun _ h9 => h9) rfl d_M_order_156 ?_
        refine lv_iload_n hx hb d_M_order_159 rfl (lv_at hl 3 rfl) ?_
        refine vi_iast (k := n + 1) (f := E) (x := en) hx hb hK hP hD hS 2 0 rfl rfl (by omega) (by omega) d_M_order_160 (fun H locs hP hD hS => ?_)
        have hP : va_P D classes (mW a cs 0 (n + 1) now (upd K (n + 1) kd) (upd E (n + 1) en) P T V F U M O rk wy rg rf rs) H := hP
        have hD : va_D A (mW a cs 0 (n + 1) now (upd K (n + 1) kd) (upd E (n + 1) en) P T V F U M O rk wy rg rf rs) := hD
        refine lv_aload_n hx hb d_M_order_161 rfl (lv_at hl 1 rfl) ?_
        refine va_get (D := D) (ci := 4) (C := R_M) (T := F_M) (N := 17) (v := .ref (a 3)) hx hb ht i_M hown hK hP 0 rfl rfl 4 (by decide) (ht _ tk_265) (fun _ h9 => h9) rfl d_M_order_162 ?_
        refine lv_aload_n hx hb d_M_order_165 rfl (lv_at hl 1 rfl) ?_
        refine va_get (D := D) (ci := 4) (C := R_M) (T := F_M) (N := 17) (v := .int (nI (n + 1))) hx hb ht i_M hown hK hP 0 rfl rfl 1 (by decide) (ht _ tk_262) (fun _ h9 => h9) rfl d_M_order_166 ?_
        refine lv_iload_n hx hb d_M_order_169 rfl (lv_at hl 4 rfl) ?_
        refine vi_iast (k := n + 1) (f := P) (x := wh) hx hb hK hP hD hS 3 0 rfl rfl (by omega) (by omega) d_M_order_170 (fun H locs hP hD hS => ?_)
        have hP : va_P D classes (mW a cs 0 (n + 1) now (upd K (n + 1) kd) (upd E (n + 1) en) (upd P (n + 1) wh) T V F U M O rk wy rg rf rs) H := hP
        have hD : va_D A (mW a cs 0 (n + 1) now (upd K (n + 1) kd) (upd E (n + 1) en) (upd P (n + 1) wh) T V F U M O rk wy rg rf rs) := hD
        refine lv_aload_n hx hb d_M_order_171 rfl (lv_at hl 1 rfl) ?_
        refine va_get (D := D) (ci := 4) (C := R_M) (T := F_M) (N := 17) (v := .ref (a 4)) hx hb ht i_M hown hK hP 0 rfl rfl 5 (by decide) (ht _ tk_266) (fun _ h9 => h9) rfl d_M_order_172 ?_
        refine lv_aload_n hx hb d_M_order_175 rfl (lv_at hl 1 rfl) ?_
        refine va_get (D := D) (ci := 4) (C := R_M) (T := F_M) (N := 17) (v := .int (nI (n + 1))) hx hb ht i_M hown hK hP 0 rfl rfl 1 (by decide) (ht _ tk_262) (fun _ h9 => h9) rfl d_M_order_176 ?_
        refine lv_iload hx hb d_M_order_179 (lv_at hl 0 rfl) ?_
        refine lv_if_eq (tgt := 189) hx hb d_M_order_181 (by decide) (fun h9 => absurd h9 (by decide)) (fun _ => ?_)
        refine lv_iload hx hb d_M_order_184 (lv_at hl 5 rfl) ?_
        refine lv_goto (tgt := 190) hx hb d_M_order_186 (by decide) ?_
        refine vi_iast (k := n + 1) (f := T) (x := to) hx hb hK hP hD hS 4 0 rfl rfl (by omega) (by omega) d_M_order_190 (fun H locs hP hD hS => ?_)
        have hP : va_P D classes (mW a cs 0 (n + 1) now (upd K (n + 1) kd) (upd E (n + 1) en) (upd P (n + 1) wh) (upd T (n + 1) to) V F U M O rk wy rg rf rs) H := hP
        have hD : va_D A (mW a cs 0 (n + 1) now (upd K (n + 1) kd) (upd E (n + 1) en) (upd P (n + 1) wh) (upd T (n + 1) to) V F U M O rk wy rg rf rs) := hD
        refine lv_aload_n hx hb d_M_order_191 rfl (lv_at hl 1 rfl) ?_
        refine va_get (D := D) (ci := 4) (C := R_M) (T := F_M) (N := 17) (v := .ref (a 5)) hx hb ht i_M hown hK hP 0 rfl rfl 6 (by decide) (ht _ tk_267) (fun _ h9 => h9) rfl d_M_order_192 ?_
        refine lv_aload_n hx hb d_M_order_195 rfl (lv_at hl 1 rfl) ?_
        refine va_get (D := D) (ci := 4) (C := R_M) (T := F_M) (N := 17) (v := .int (nI (n + 1))) hx hb ht i_M hown hK hP 0 rfl rfl 1 (by decide) (ht _ tk_262) (fun _ h9 => h9) rfl d_M_order_196 ?_
        refine lv_lload hx hb d_M_order_199 (lv_at hl 6 rfl) ?_
        refine vi_last (k := n + 1) (f := F) (x := fm) hx hb hK hP hD hS 5 2 rfl rfl (by omega) (by omega) d_M_order_201 (fun H locs hP hD hS => ?_)
        have hP : va_P D classes (mW a cs 0 (n + 1) now (upd K (n + 1) kd) (upd E (n + 1) en) (upd P (n + 1) wh) (upd T (n + 1) to) V (vp_updL F (n + 1) fm) U M O rk wy rg rf rs) H := hP
        have hD : va_D A (mW a cs 0 (n + 1) now (upd K (n + 1) kd) (upd E (n + 1) en) (upd P (n + 1) wh) (upd T (n + 1) to) V (vp_updL F (n + 1) fm) U M O rk wy rg rf rs) := hD
        refine lv_aload_n hx hb d_M_order_202 rfl (lv_at hl 1 rfl) ?_
        refine va_get (D := D) (ci := 4) (C := R_M) (T := F_M) (N := 17) (v := .ref (a 6)) hx hb ht i_M hown hK hP 0 rfl rfl 7 (by decide) (ht _ tk_268) (fun _ h9 => h9) rfl d_M_order_203 ?_
        refine lv_aload_n hx hb d_M_order_206 rfl (lv_at hl 1 rfl) ?_
        refine va_get (D := D) (ci := 4) (C := R_M) (T := F_M) (N := 17) (v := .int (nI (n + 1))) hx hb ht i_M hown hK hP 0 rfl rfl 1 (by decide) (ht _ tk_262) (fun _ h9 => h9) rfl d_M_order_207 ?_
        refine lv_lload hx hb d_M_order_210 (lv_at hl 7 rfl) ?_
        refine vi_last (k := n + 1) (f := U) (x := un) hx hb hK hP hD hS 6 2 rfl rfl (by omega) (by omega) d_M_order_212 (fun H locs hP hD hS => ?_)
        have hP : va_P D classes (mW a cs 0 (n + 1) now (upd K (n + 1) kd) (upd E (n + 1) en) (upd P (n + 1) wh) (upd T (n + 1) to) V (vp_updL F (n + 1) fm) (vp_updL U (n + 1) un) M O rk wy rg rf rs) H := hP
        have hD : va_D A (mW a cs 0 (n + 1) now (upd K (n + 1) kd) (upd E (n + 1) en) (upd P (n + 1) wh) (upd T (n + 1) to) V (vp_updL F (n + 1) fm) (vp_updL U (n + 1) un) M O rk wy rg rf rs) := hD
        refine lv_aload_n hx hb d_M_order_213 rfl (lv_at hl 1 rfl) ?_
        refine va_get (D := D) (ci := 4) (C := R_M) (T := F_M) (N := 17) (v := .ref (a 7)) hx hb ht i_M hown hK hP 0 rfl rfl 8 (by decide) (ht _ tk_269) (fun _ h9 => h9) rfl d_M_order_214 ?_
        refine lv_aload_n hx hb d_M_order_217 rfl (lv_at hl 1 rfl) ?_
        refine va_get (D := D) (ci := 4) (C := R_M) (T := F_M) (N := 17) (v := .int (nI (n + 1))) hx hb ht i_M hown hK hP 0 rfl rfl 1 (by decide) (ht _ tk_262) (fun _ h9 => h9) rfl d_M_order_218 ?_
        refine lv_aload_n hx hb d_M_order_221 rfl (lv_at hl 1 rfl) ?_
        refine va_get (D := D) (ci := 4) (C := R_M) (T := F_M) (N := 17) (v := .long now) hx hb ht i_M hown hK hP 0 rfl rfl 12 (by decide) (ht _ tk_273) (fun _ h9 => h9) rfl d_M_order_222 ?_
        refine vi_last (k := n + 1) (f := M) (x := now) hx hb hK hP hD hS 7 2 rfl rfl (by omega) (by omega) d_M_order_225 (fun H locs hP hD hS => ?_)
        have hP : va_P D classes (mW a cs 0 (n + 1) now (upd K (n + 1) kd) (upd E (n + 1) en) (upd P (n + 1) wh) (upd T (n + 1) to) V (vp_updL F (n + 1) fm) (vp_updL U (n + 1) un) (vp_updL M (n + 1) now) O rk wy rg rf rs) H := hP
        have hD : va_D A (mW a cs 0 (n + 1) now (upd K (n + 1) kd) (upd E (n + 1) en) (upd P (n + 1) wh) (upd T (n + 1) to) V (vp_updL F (n + 1) fm) (vp_updL U (n + 1) un) (vp_updL M (n + 1) now) O rk wy rg rf rs) := hD
        refine lv_aload_n hx hb d_M_order_226 rfl (lv_at hl 1 rfl) ?_
        refine va_get (D := D) (ci := 4) (C := R_M) (T := F_M) (N := 17) (v := .ref (a 9)) hx hb ht i_M hown hK hP 0 rfl rfl 10 (by decide) (ht _ tk_271) (fun _ h9 => h9) rfl d_M_order_227 ?_
        refine lv_aload_n hx hb d_M_order_230 rfl (lv_at hl 1 rfl) ?_
        refine va_get (D := D) (ci := 4) (C := R_M) (T := F_M) (N := 17) (v := .int (nI (n + 1))) hx hb ht i_M hown hK hP 0 rfl rfl 1 (by decide) (ht _ tk_262) (fun _ h9 => h9) rfl d_M_order_231 ?_
        refine lv_ldc2 (v := (-1)) hx hb hown (ht _ tk_321) d_M_order_234 ?_
        refine vi_last (k := n + 1) (f := O) (x := (-1)) hx hb hK hP hD hS 9 2 rfl rfl (by omega) (by omega) d_M_order_237 (fun H locs hP hD hS => ?_)
        have hP : va_P D classes (mW a cs 0 (n + 1) now (upd K (n + 1) kd) (upd E (n + 1) en) (upd P (n + 1) wh) (upd T (n + 1) to) V (vp_updL F (n + 1) fm) (vp_updL U (n + 1) un) (vp_updL M (n + 1) now) (vp_updL O (n + 1) (-1)) rk wy rg rf rs) H := hP
        have hD : va_D A (mW a cs 0 (n + 1) now (upd K (n + 1) kd) (upd E (n + 1) en) (upd P (n + 1) wh) (upd T (n + 1) to) V (vp_updL F (n + 1) fm) (vp_updL U (n + 1) un) (vp_updL M (n + 1) now) (vp_updL O (n + 1) (-1)) rk wy rg rf rs) := hD
        refine lv_aload_n hx hb d_M_order_238 rfl (lv_at hl 1 rfl) ?_
        refine va_get (D := D) (ci := 4) (C := R_M) (T := F_M) (N := 17) (v := .int (nI (n + 1))) hx hb ht i_M hown hK hP 0 rfl rfl 1 (by decide) (ht _ tk_262) (fun _ h9 => h9) rfl d_M_order_239 ?_
        have hP : va_P D classes (mW a cs 0 (n + 1) now (upd K (n + 1) kd) (upd E (n + 1) en) (upd P (n + 1) wh) (upd T (n + 1) (if kd < 3 then to else 0)) V (vp_updL F (n + 1) fm) (vp_updL U (n + 1) un) (vp_updL M (n + 1) now) (vp_updL O (n + 1) (-1)) rk wy rg rf rs) H := by rw [htv]; exact hP
        have hD : va_D A (mW a cs 0 (n + 1) now (upd K (n + 1) kd) (upd E (n + 1) en) (upd P (n + 1) wh) (upd T (n + 1) (if kd < 3 then to else 0)) V (vp_updL F (n + 1) fm) (vp_updL U (n + 1) un) (vp_updL M (n + 1) now) (vp_updL O (n + 1) (-1)) rk wy rg rf rs) := by rw [htv]; exact hD
        rw [hQe]
        exact W.iret (v := nI (n + 1)) hx hb hr (fun t9 ht9 hW => ⟨⟨nI (n + 1), (n + 1, upd K (n + 1) kd, upd E (n + 1) en, upd P (n + 1) wh, upd T (n + 1) (if kd < 3 then to else 0), vp_updL F (n + 1) fm, vp_updL U (n + 1) un, vp_updL M (n + 1) now, vp_updL O (n + 1) (-1)), rfl, Or.inr (Or.inr (Or.inr ⟨hnu, hno, c_1, rfl, rfl⟩)), by rw [ht9]; exact hP, hD⟩, hS.F ht9⟩) hS.2.2 d_M_order_242
      · have htv : (if kd < 3 then to else 0) = 0 := if_neg (fun h9 => hs ⟨Classical.byContradiction (fun h8 => hno (Or.inl h8)), nle3.mpr h9⟩)
        refine va_put (D := D) (ci := 4) (C := R_M) (T := F_M) (N := 17) (v := .int (nI (n + 1))) (ty := .int) hx hb ht i_M t_M t_M_ok n_M hown hK hP hD hS 0 rfl rfl 1 (by decide) (ht _ tk_262) (fun _ h9 => h9) rfl (by decide +kernel) rfl rfl (Nat.le_of_ble_eq_true rfl) d_M_order_138 (fun H locs hP hD hS => ?_)
        have hP : va_P D classes (mW a cs 0 (n + 1) now K E P T V F U M O rk wy rg rf rs) H := hP
        have hD : va_D A (mW a cs 0 (n + 1) now K E P T V F U M O rk wy rg rf rs) := hD
        refine lv_aload_n hx hb d_M_order_141 rfl (lv_at hl 1 rfl) ?_
        refine va_get (D := D) (ci := 4) (C := R_M) (T := F_M) (N := 17) (v := .ref (a 1)) hx hb ht i_M hown hK hP 0 rfl rfl 2 (by decide) (ht _ tk_263) (fun _ h9 => h9) rfl d_M_order_142 ?_
        refine lv_aload_n hx hb d_M_order_145 rfl (lv_at hl 1 rfl) ?_
        refine va_get (D := D) (ci := 4) (C := R_M) (T := F_M) (N := 17) (v := .int (nI (n + 1))) hx hb ht i_M hown hK hP 0 rfl rfl 1 (by decide) (ht _ tk_262) (fun _ h9 => h9) rfl d_M_order_146 ?_
        refine lv_iload_n hx hb d_M_order_149 rfl (lv_at hl 2 rfl) ?_
        refine vi_iast (k := n + 1) (f := K) (x := kd) hx hb hK hP hD hS 1 0 rfl rfl (by omega) (by omega) d_M_order_150 (fun H locs hP hD hS => ?_)
        have hP : va_P D classes (mW a cs 0 (n + 1) now (upd K (n + 1) kd) E P T V F U M O rk wy rg rf rs) H := hP
        have hD : va_D A (mW a cs 0 (n + 1) now (upd K (n + 1) kd) E P T V F U M O rk wy rg rf rs) := hD
        refine lv_aload_n hx hb d_M_order_151 rfl (lv_at hl 1 rfl) ?_
        refine va_get (D := D) (ci := 4) (C := R_M) (T := F_M) (N := 17) (v := .ref (a 2)) hx hb ht i_M hown hK hP 0 rfl rfl 3 (by decide) (ht _ tk_264) (fun _ h9 => h9) rfl d_M_order_152 ?_
        refine lv_aload_n hx hb d_M_order_155 rfl (lv_at hl 1 rfl) ?_
        refine va_get (D := D) (ci := 4) (C := R_M) (T := F_M) (N := 17) (v := .int (nI (n + 1))) hx hb ht i_M hown hK hP 0 rfl rfl 1 (by decide) (ht _ tk_262) (fun _ h9 => h9) rfl d_M_order_156 ?_
        refine lv_iload_n hx hb d_M_order_159 rfl (lv_at hl 3 rfl) ?_
        refine vi_iast (k := n + 1) (f := E) (x := en) hx hb hK hP hD hS 2 0 rfl rfl (by omega) (by omega) d_M_order_160 (fun H locs hP hD hS => ?_)
        have hP : va_P D classes (mW a cs 0 (n + 1) now (upd K (n + 1) kd) (upd E (n + 1) en) P T V F U M O rk wy rg rf rs) H := hP
        have hD : va_D A (mW a cs 0 (n + 1) now (upd K (n + 1) kd) (upd E (n + 1) en) P T V F U M O rk wy rg rf rs) := hD
        refine lv_aload_n hx hb d_M_order_161 rfl (lv_at hl 1 rfl) ?_
        refine va_get (D := D) (ci := 4) (C := R_M) (T := F_M) (N := 17) (v := .ref (a 3)) hx hb ht i_M hown hK hP 0 rfl rfl 4 (by decide) (ht _ tk_265) (fun _ h9 => h9) rfl d_M_order_162 ?_
        refine lv_aload_n hx hb d_M_order_165 rfl (lv_at hl 1 rfl) ?_
        refine va_get (D := D) (ci := 4) (C := R_M) (T := F_M) (N := 17) (v := .int (nI (n + 1))) hx hb ht i_M hown hK hP 0 rfl rfl 1 (by decide) (ht _ tk_262) (fun _ h9 => h9) rfl d_M_order_166 ?_
        refine lv_iload_n hx hb d_M_order_169 rfl (lv_at hl 4 rfl) ?_
        refine vi_iast (k := n + 1) (f := P) (x := wh) hx hb hK hP hD hS 3 0 rfl rfl (by omega) (by omega) d_M_order_170 (fun H locs hP hD hS => ?_)
        have hP : va_P D classes (mW a cs 0 (n + 1) now (upd K (n + 1) kd) (upd E (n + 1) en) (upd P (n + 1) wh) T V F U M O rk wy rg rf rs) H := hP
        have hD : va_D A (mW a cs 0 (n + 1) now (upd K (n + 1) kd) (upd E (n + 1) en) (upd P (n + 1) wh) T V F U M O rk wy rg rf rs) := hD
        refine lv_aload_n hx hb d_M_order_171 rfl (lv_at hl 1 rfl) ?_
        refine va_get (D := D) (ci := 4) (C := R_M) (T := F_M) (N := 17) (v := .ref (a 4)) hx hb ht i_M hown hK hP 0 rfl rfl 5 (by decide) (ht _ tk_266) (fun _ h9 => h9) rfl d_M_order_172 ?_
        refine lv_aload_n hx hb d_M_order_175 rfl (lv_at hl 1 rfl) ?_
        refine va_get (D := D) (ci := 4) (C := R_M) (T := F_M) (N := 17) (v := .int (nI (n + 1))) hx hb ht i_M hown hK hP 0 rfl rfl 1 (by decide) (ht _ tk_262) (fun _ h9 => h9) rfl d_M_order_176 ?_
        refine lv_iload hx hb d_M_order_179 (lv_at hl 0 rfl) ?_
        refine lv_if_eq (tgt := 189) hx hb d_M_order_181 (by decide) (fun _ => ?_) (fun h9 => absurd (by decide) h9)
        refine lv_iconst (v := 0) hx hb d_M_order_189 (by decide) ?_
        refine vi_iast (k := n + 1) (f := T) (x := 0) hx hb hK hP hD hS 4 0 rfl rfl (by omega) (by omega) d_M_order_190 (fun H locs hP hD hS => ?_)
        have hP : va_P D classes (mW a cs 0 (n + 1) now (upd K (n + 1) kd) (upd E (n + 1) en) (upd P (n + 1) wh) (upd T (n + 1) 0) V F U M O rk wy rg rf rs) H := hP
        have hD : va_D A (mW a cs 0 (n + 1) now (upd K (n + 1) kd) (upd E (n + 1) en) (upd P (n + 1) wh) (upd T (n + 1) 0) V F U M O rk wy rg rf rs) := hD
        refine lv_aload_n hx hb d_M_order_191 rfl (lv_at hl 1 rfl) ?_
        refine va_get (D := D) (ci := 4) (C := R_M) (T := F_M) (N := 17) (v := .ref (a 5)) hx hb ht i_M hown hK hP 0 rfl rfl 6 (by decide) (ht _ tk_267) (fun _ h9 => h9) rfl d_M_order_192 ?_
        refine lv_aload_n hx hb d_M_order_195 rfl (lv_at hl 1 rfl) ?_
        refine va_get (D := D) (ci := 4) (C := R_M) (T := F_M) (N := 17) (v := .int (nI (n + 1))) hx hb ht i_M hown hK hP 0 rfl rfl 1 (by decide) (ht _ tk_262) (fun _ h9 => h9) rfl d_M_order_196 ?_
        refine lv_lload hx hb d_M_order_199 (lv_at hl 6 rfl) ?_
        refine vi_last (k := n + 1) (f := F) (x := fm) hx hb hK hP hD hS 5 2 rfl rfl (by omega) (by omega) d_M_order_201 (fun H locs hP hD hS => ?_)
        have hP : va_P D classes (mW a cs 0 (n + 1) now (upd K (n + 1) kd) (upd E (n + 1) en) (upd P (n + 1) wh) (upd T (n + 1) 0) V (vp_updL F (n + 1) fm) U M O rk wy rg rf rs) H := hP
        have hD : va_D A (mW a cs 0 (n + 1) now (upd K (n + 1) kd) (upd E (n + 1) en) (upd P (n + 1) wh) (upd T (n + 1) 0) V (vp_updL F (n + 1) fm) U M O rk wy rg rf rs) := hD
        refine lv_aload_n hx hb d_M_order_202 rfl (lv_at hl 1 rfl) ?_
        refine va_get (D := D) (ci := 4) (C := R_M) (T := F_M) (N := 17) (v := .ref (a 6)) hx hb ht i_M hown hK hP 0 rfl rfl 7 (by decide) (ht _ tk_268) (fun _ h9 => h9) rfl d_M_order_203 ?_
        refine lv_aload_n hx hb d_M_order_206 rfl (lv_at hl 1 rfl) ?_
        refine va_get (D := D) (ci := 4) (C := R_M) (T := F_M) (N := 17) (v := .int (nI (n + 1))) hx hb ht i_M hown hK hP 0 rfl rfl 1 (by decide) (ht _ tk_262) (fun _ h9 => h9) rfl d_M_order_207 ?_
        refine lv_lload hx hb d_M_order_210 (lv_at hl 7 rfl) ?_
        refine vi_last (k := n + 1) (f := U) (x := un) hx hb hK hP hD hS 6 2 rfl rfl (by omega) (by omega) d_M_order_212 (fun H locs hP hD hS => ?_)
        have hP : va_P D classes (mW a cs 0 (n + 1) now (upd K (n + 1) kd) (upd E (n + 1) en) (upd P (n + 1) wh) (upd T (n + 1) 0) V (vp_updL F (n + 1) fm) (vp_updL U (n + 1) un) M O rk wy rg rf rs) H := hP
        have hD : va_D A (mW a cs 0 (n + 1) now (upd K (n + 1) kd) (upd E (n + 1) en) (upd P (n + 1) wh) (upd T (n + 1) 0) V (vp_updL F (n + 1) fm) (vp_updL U (n + 1) un) M O rk wy rg rf rs) := hD
        refine lv_aload_n hx hb d_M_order_213 rfl (lv_at hl 1 rfl) ?_
        refine va_get (D := D) (ci := 4) (C := R_M) (T := F_M) (N := 17) (v := .ref (a 7)) hx hb ht i_M hown hK hP 0 rfl rfl 8 (by decide) (ht _ tk_269) (fun _ h9 => h9) rfl d_M_order_214 ?_
        refine lv_aload_n hx hb d_M_order_217 rfl (lv_at hl 1 rfl) ?_
        refine va_get (D := D) (ci := 4) (C := R_M) (T := F_M) (N := 17) (v := .int (nI (n + 1))) hx hb ht i_M hown hK hP 0 rfl rfl 1 (by decide) (ht _ tk_262) (fun _ h9 => h9) rfl d_M_order_218 ?_
        refine lv_aload_n hx hb d_M_order_221 rfl (lv_at hl 1 rfl) ?_
        refine va_get (D := D) (ci := 4) (C := R_M) (T := F_M) (N := 17) (v := .long now) hx hb ht i_M hown hK hP 0 rfl rfl 12 (by decide) (ht _ tk_273) (fun _ h9 => h9) rfl d_M_order_222 ?_
        refine vi_last (k := n + 1) (f := M) (x := now) hx hb hK hP hD hS 7 2 rfl rfl (by omega) (by omega) d_M_order_225 (fun H locs hP hD hS => ?_)
        have hP : va_P D classes (mW a cs 0 (n + 1) now (upd K (n + 1) kd) (upd E (n + 1) en) (upd P (n + 1) wh) (upd T (n + 1) 0) V (vp_updL F (n + 1) fm) (vp_updL U (n + 1) un) (vp_updL M (n + 1) now) O rk wy rg rf rs) H := hP
        have hD : va_D A (mW a cs 0 (n + 1) now (upd K (n + 1) kd) (upd E (n + 1) en) (upd P (n + 1) wh) (upd T (n + 1) 0) V (vp_updL F (n + 1) fm) (vp_updL U (n + 1) un) (vp_updL M (n + 1) now) O rk wy rg rf rs) := hD
        refine lv_aload_n hx hb d_M_order_226 rfl (lv_at hl 1 rfl) ?_
        refine va_get (D := D) (ci := 4) (C := R_M) (T := F_M) (N := 17) (v := .ref (a 9)) hx hb ht i_M hown hK hP 0 rfl rfl 10 (by decide) (ht _ tk_271) (fun _ h9 => h9) rfl d_M_order_227 ?_
        refine lv_aload_n hx hb d_M_order_230 rfl (lv_at hl 1 rfl) ?_
        refine va_get (D := D) (ci := 4) (C := R_M) (T := F_M) (N := 17) (v := .int (nI (n + 1))) hx hb ht i_M hown hK hP 0 rfl rfl 1 (by decide) (ht _ tk_262) (fun _ h9 => h9) rfl d_M_order_231 ?_
        refine lv_ldc2 (v := (-1)) hx hb hown (ht _ tk_321) d_M_order_234 ?_
        refine vi_last (k := n + 1) (f := O) (x := (-1)) hx hb hK hP hD hS 9 2 rfl rfl (by omega) (by omega) d_M_order_237 (fun H locs hP hD hS => ?_)
        have hP : va_P D classes (mW a cs 0 (n + 1) now (upd K (n + 1) kd) (upd E (n + 1) en) (upd P (n + 1) wh) (upd T (n + 1) 0) V (vp_updL F (n + 1) fm) (vp_updL U (n + 1) un) (vp_updL M (n + 1) now) (vp_updL O (n + 1) (-1)) rk wy rg rf rs) H := hP
        have hD : va_D A (mW a cs 0 (n + 1) now (upd K (n + 1) kd) (upd E (n + 1) en) (upd P (n + 1) wh) (upd T (n + 1) 0) V (vp_updL F (n + 1) fm) (vp_updL U (n + 1) un) (vp_updL M (n + 1) now) (vp_updL O (n + 1) (-1)) rk wy rg rf rs) := hD
        refine lv_aload_n hx hb d_M_order_238 rfl (lv_at hl 1 rfl) ?_
        refine va_get (D := D) (ci := 4) (C := R_M) (T := F_M) (N := 17) (v := .int (nI (n + 1))) hx hb ht i_M hown hK hP 0 rfl rfl 1 (by decide) (ht _ tk_262) (fun _ h9 => h9) rfl d_M_order_239 ?_
        have hP : va_P D classes (mW a cs 0 (n + 1) now (upd K (n + 1) kd) (upd E (n + 1) en) (upd P (n + 1) wh) (upd T (n + 1) (if kd < 3 then to else 0)) V (vp_updL F (n + 1) fm) (vp_updL U (n + 1) un) (vp_updL M (n + 1) now) (vp_updL O (n + 1) (-1)) rk wy rg rf rs) H := by rw [htv]; exact hP
        have hD : va_D A (mW a cs 0 (n + 1) now (upd K (n + 1) kd) (upd E (n + 1) en) (upd P (n + 1) wh) (upd T (n + 1) (if kd < 3 then to else 0)) V (vp_updL F (n + 1) fm) (vp_updL U (n + 1) un) (vp_updL M (n + 1) now) (vp_updL O (n + 1) (-1)) rk wy rg rf rs) := by rw [htv]; exact hD
        rw [hQe]
        exact W.iret (v := nI (n + 1)) hx hb hr (fun t9 ht9 hW => ⟨⟨nI (n + 1), (n + 1, upd K (n + 1) kd, upd E (n + 1) en, upd P (n + 1) wh, upd T (n + 1) (if kd < 3 then to else 0), vp_updL F (n + 1) fm, vp_updL U (n + 1) un, vp_updL M (n + 1) now, vp_updL O (n + 1) (-1)), rfl, Or.inr (Or.inr (Or.inr ⟨hnu, hno, c_1, rfl, rfl⟩)), by rw [ht9]; exact hP, hD⟩, hS.F ht9⟩) hS.2.2 d_M_order_242
    · refine lv_bipush (v := (-104)) hx hb d_M_order_128 (by decide) ?_
      rw [hQe]
      exact W.iret (v := (-104)) hx hb hr (fun t9 ht9 hW => ⟨⟨(-104), (n, K, E, P, T, F, U, M, O), rfl, Or.inr (Or.inr (Or.inl ⟨hnu, hno, c_1, rfl, rfl⟩)), by rw [ht9]; exact hP, hD⟩, hS.F ht9⟩) hS.2.2 d_M_order_130
  have J21 : ∀ (s9 : Int32) (ls : Array Slot), bl s9 (sndO kd) → lv_has ls 10 [(9, .int s9), (0, .ref (a 0)), (1, .int kd), (2, .int en), (3, .int wh), (4, .int to), (5, .long fm), (7, .long un)] → W p l e ({ frames := 1, cells := 0, slots := 0, locals := 25 } : Room) s m ([.ref (a 0), .int kd, .int en, .int wh, .int to, .long fm, .long un] : List Value).toArray below meth c H locs 0 0 Q (F0 m 21 ls []) := by
    intro s9 ls hs hl
    refine lv_iload_n hx hb d_M_order_21 rfl (lv_at hl 3 rfl) ?_
    refine lv_i2l (v := en.toInt64) hx hb d_M_order_22 rfl ?_
    refine lv_lconst (v := 1) hx hb d_M_order_23 (by decide) ?_
    refine lv_ldc2 (v := 99) hx hb hown (ht _ tk_317) d_M_order_24 ?_
    refine vp_callSi (W.runS (As := [.long en.toInt64, .long 1, .long 99]) (rest := []) ⟨hx, hb, hml, hown, ht⟩ (c_M_isIn l en.toInt64 1 99) (cS_ 3 ht tk_320 tk_318 tk_2 tk_319 hd_M_isIn ⟨Nat.le_of_ble_eq_true rfl, Nat.le_of_ble_eq_true rfl⟩) ⟨fun _ _ _ _ q => q, fun _ _ _ => ⟨rfl, trivial⟩⟩ rfl rfl hl.1 rfl (lv_room (Nat.le_of_ble_eq_true rfl)) d_M_order_27 ⟨Nat.le_of_ble_eq_true rfl, Nat.le_of_ble_eq_true rfl⟩) (fun r_4 hw_5 => ?_)
    refine lv_if_eq (tgt := 65) hx hb d_M_order_30 (by decide) (fun c_6 => ?_) (fun c_6 => ?_)
    · have c_6 := bl_f hw_5 c_6
      refine lv_bipush (v := (-101)) hx hb d_M_order_65 (by decide) ?_
      rw [hQe]
      exact W.iret (v := (-101)) hx hb hr (fun t9 ht9 hW => ⟨⟨(-101), (n, K, E, P, T, F, U, M, O), rfl, Or.inl ⟨Or.inl (fun h9 => c_6 (adrM_iff.mpr h9)), rfl, rfl⟩, by rw [ht9]; exact hP, hD⟩, hS.F ht9⟩) hS.2.2 d_M_order_67
    · have c_6 := bl_t hw_5 c_6
      refine lv_iload_n hx hb d_M_order_33 rfl (lv_at hl 4 rfl) ?_
      refine lv_i2l (v := wh.toInt64) hx hb d_M_order_34 rfl ?_
      refine lv_ldc2 (v := (-1)) hx hb hown (ht _ tk_321) d_M_order_35 ?_
      refine lv_ldc2 (v := 49) hx hb hown (ht _ tk_322) d_M_order_38 ?_
      refine vp_callSi (W.runS (As := [.long wh.toInt64, .long (-1), .long 49]) (rest := []) ⟨hx, hb, hml, hown, ht⟩ (c_M_isIn l wh.toInt64 (-1) 49) (cS_ 3 ht tk_320 tk_318 tk_2 tk_319 hd_M_isIn ⟨Nat.le_of_ble_eq_true rfl, Nat.le_of_ble_eq_true rfl⟩) ⟨fun _ _ _ _ q => q, fun _ _ _ => ⟨rfl, trivial⟩⟩ rfl rfl hl.1 rfl (lv_room (Nat.le_of_ble_eq_true rfl)) d_M_order_41 ⟨Nat.le_of_ble_eq_true rfl, Nat.le_of_ble_eq_true rfl⟩) (fun r_7 hw_8 => ?_)
      refine lv_if_eq (tgt := 65) hx hb d_M_order_44 (by decide) (fun c_9 => ?_) (fun c_9 => ?_)
      · have c_9 := bl_f hw_8 c_9
        refine lv_bipush (v := (-101)) hx hb d_M_order_65 (by decide) ?_
        rw [hQe]
        exact W.iret (v := (-101)) hx hb hr (fun t9 ht9 hW => ⟨⟨(-101), (n, K, E, P, T, F, U, M, O), rfl, Or.inl ⟨Or.inr (Or.inl (Classical.byContradiction (fun h9 => c_9 (inM_iff.mpr h9)))), rfl, rfl⟩, by rw [ht9]; exact hP, hD⟩, hS.F ht9⟩) hS.2.2 d_M_order_67
      · have c_9 := bl_t hw_8 c_9
        refine lv_iload hx hb d_M_order_47 (lv_at hl 0 rfl) ?_
        refine lv_if_eq (tgt := 68) hx hb d_M_order_49 (by decide) (fun c_10 => ?_) (fun c_10 => ?_)
        · have c_10 := bl_f hs c_10
          have hnu : ¬ unkO kd en wh to := fun h9 => h9.elim (fun h8 => h8 (adrM_iff.mp c_6)) (fun h8 => h8.elim (fun h7 => inM_iff.mp c_9 h7) (fun h7 => c_10 h7.1))
          refine lv_iload_n hx hb d_M_order_68 rfl (lv_at hl 2 rfl) ?_
          refine lv_i2l (v := kd.toInt64) hx hb d_M_order_69 rfl ?_
          refine lv_lconst (v := 0) hx hb d_M_order_70 (by decide) ?_
          refine lv_ldc2 (v := 8) hx hb hown (ht _ tk_323) d_M_order_71 ?_
          refine vp_callSi (W.runS (As := [.long kd.toInt64, .long 0, .long 8]) (rest := []) ⟨hx, hb, hml, hown, ht⟩ (c_M_isIn l kd.toInt64 0 8) (cS_ 3 ht tk_320 tk_318 tk_2 tk_319 hd_M_isIn ⟨Nat.le_of_ble_eq_true rfl, Nat.le_of_ble_eq_true rfl⟩) ⟨fun _ _ _ _ q => q, fun _ _ _ => ⟨rfl, trivial⟩⟩ rfl rfl hl.1 rfl (lv_room (Nat.le_of_ble_eq_true rfl)) d_M_order_74 ⟨Nat.le_of_ble_eq_true rfl, Nat.le_of_ble_eq_true rfl⟩) (fun r_11 hw_12 => ?_)
          refine lv_if_eq (tgt := 115) hx hb d_M_order_77 (by decide) (fun c_13 => ?_) (fun c_13 => ?_)
          · have c_13 := bl_f hw_12 c_13
            refine lv_bipush (v := (-102)) hx hb d_M_order_115 (by decide) ?_
            rw [hQe]
            exact W.iret (v := (-102)) hx hb hr (fun t9 ht9 hW => ⟨⟨(-102), (n, K, E, P, T, F, U, M, O), rfl, Or.inr (Or.inl ⟨hnu, Or.inl (fun h9 => c_13 (kndM_iff.mpr h9)), rfl, rfl⟩), by rw [ht9]; exact hP, hD⟩, hS.F ht9⟩) hS.2.2 d_M_order_117
          · have c_13 := bl_t hw_12 c_13
            refine lv_lload hx hb d_M_order_80 (lv_at hl 6 rfl) ?_
            refine lv_lconst (v := 0) hx hb d_M_order_82 (by decide) ?_
            refine lc_lt (tgt := 115) hx hb d_M_order_83 d_M_order_84 (by decide) (fun c_14 => ?_) (fun c_14 => ?_)
            · refine lv_bipush (v := (-102)) hx hb d_M_order_115 (by decide) ?_
              rw [hQe]
              exact W.iret (v := (-102)) hx hb hr (fun t9 ht9 hW => ⟨⟨(-102), (n, K, E, P, T, F, U, M, O), rfl, Or.inr (Or.inl ⟨hnu, Or.inr (Or.inl (Or.inl c_14)), rfl, rfl⟩), by rw [ht9]; exact hP, hD⟩, hS.F ht9⟩) hS.2.2 d_M_order_117
            · refine lv_lload hx hb d_M_order_87 (lv_at hl 6 rfl) ?_
              refine lv_lload hx hb d_M_order_89 (lv_at hl 7 rfl) ?_
              refine lc_gt (tgt := 115) hx hb d_M_order_91 d_M_order_92 (by decide) (fun c_15 => ?_) (fun c_15 => ?_)
              · refine lv_bipush (v := (-102)) hx hb d_M_order_115 (by decide) ?_
                rw [hQe]
                exact W.iret (v := (-102)) hx hb hr (fun t9 ht9 hW => ⟨⟨(-102), (n, K, E, P, T, F, U, M, O), rfl, Or.inr (Or.inl ⟨hnu, Or.inr (Or.inl (Or.inr (nle_lt.mpr c_15))), rfl, rfl⟩), by rw [ht9]; exact hP, hD⟩, hS.F ht9⟩) hS.2.2 d_M_order_117
              · refine lv_lload hx hb d_M_order_95 (lv_at hl 7 rfl) ?_
                refine lv_ldc2 (v := 20000) hx hb hown (ht _ tk_324) d_M_order_97 ?_
                refine lc_gt (tgt := 115) hx hb d_M_order_100 d_M_order_101 (by decide) (fun c_16 => ?_) (fun c_16 => ?_)
                · refine lv_bipush (v := (-102)) hx hb d_M_order_115 (by decide) ?_
                  rw [hQe]
                  exact W.iret (v := (-102)) hx hb hr (fun t9 ht9 hW => ⟨⟨(-102), (n, K, E, P, T, F, U, M, O), rfl, Or.inr (Or.inl ⟨hnu, Or.inr (Or.inr (Or.inl c_16)), rfl, rfl⟩), by rw [ht9]; exact hP, hD⟩, hS.F ht9⟩) hS.2.2 d_M_order_117
                · refine lv_iload hx hb d_M_order_104 (lv_at hl 0 rfl) ?_
                  refine lv_if_eq (tgt := 118) hx hb d_M_order_106 (by decide) (fun c_17 => ?_) (fun c_17 => ?_)
                  · have c_17 := bl_f hs c_17
                    exact J118 s9 ls hs hnu (fun h9 => h9.elim (fun h8 => h8 (kndM_iff.mp c_13)) (fun h8 => h8.elim (fun h7 => h7.elim c_14 (fun h6 => c_15 (nle_lt.mp h6))) (fun h7 => h7.elim c_16 (fun h6 => c_17 h6.1))) ) (lv_sub hl [0, 1, 2, 3, 4, 5, 6, 7] rfl)
                  · have c_17 := bl_t hs c_17
                    refine lv_iload hx hb d_M_order_109 (lv_at hl 5 rfl) ?_
                    refine lv_iload_n hx hb d_M_order_111 rfl (lv_at hl 3 rfl) ?_
                    refine lv_icmp_ne (tgt := 118) hx hb d_M_order_112 (by decide) (fun c_18 => ?_) (fun c_18 => ?_)
                    · exact J118 s9 ls hs hnu (fun h9 => h9.elim (fun h8 => h8 (kndM_iff.mp c_13)) (fun h8 => h8.elim (fun h7 => h7.elim c_14 (fun h6 => c_15 (nle_lt.mp h6))) (fun h7 => h7.elim c_16 (fun h6 => c_18 h6.2))) ) (lv_sub hl [0, 1, 2, 3, 4, 5, 6, 7] rfl)
                    · refine lv_bipush (v := (-102)) hx hb d_M_order_115 (by decide) ?_
                      rw [hQe]
                      exact W.iret (v := (-102)) hx hb hr (fun t9 ht9 hW => ⟨⟨(-102), (n, K, E, P, T, F, U, M, O), rfl, Or.inr (Or.inl ⟨hnu, Or.inr (Or.inr (Or.inr ⟨c_17, c_18⟩)), rfl, rfl⟩), by rw [ht9]; exact hP, hD⟩, hS.F ht9⟩) hS.2.2 d_M_order_117
        · have c_10 := bl_t hs c_10
          refine lv_iload hx hb d_M_order_52 (lv_at hl 5 rfl) ?_
          refine lv_i2l (v := to.toInt64) hx hb d_M_order_54 rfl ?_
          refine lv_lconst (v := 1) hx hb d_M_order_55 (by decide) ?_
          refine lv_ldc2 (v := 99) hx hb hown (ht _ tk_317) d_M_order_56 ?_
          refine vp_callSi (W.runS (As := [.long to.toInt64, .long 1, .long 99]) (rest := []) ⟨hx, hb, hml, hown, ht⟩ (c_M_isIn l to.toInt64 1 99) (cS_ 3 ht tk_320 tk_318 tk_2 tk_319 hd_M_isIn ⟨Nat.le_of_ble_eq_true rfl, Nat.le_of_ble_eq_true rfl⟩) ⟨fun _ _ _ _ q => q, fun _ _ _ => ⟨rfl, trivial⟩⟩ rfl rfl hl.1 rfl (lv_room (Nat.le_of_ble_eq_true rfl)) d_M_order_59 ⟨Nat.le_of_ble_eq_true rfl, Nat.le_of_ble_eq_true rfl⟩) (fun r_19 hw_20 => ?_)
          refine lv_if_ne (tgt := 68) hx hb d_M_order_62 (by decide) (fun c_21 => ?_) (fun c_21 => ?_)
          · have c_21 := bl_t hw_20 c_21
            have hnu : ¬ unkO kd en wh to := fun h9 => h9.elim (fun h8 => h8 (adrM_iff.mp c_6)) (fun h8 => h8.elim (fun h7 => inM_iff.mp c_9 h7) (fun h7 => h7.2 (adrM_iff.mp c_21)))
            refine lv_iload_n hx hb d_M_order_68 rfl (lv_at hl 2 rfl) ?_
            refine lv_i2l (v := kd.toInt64) hx hb d_M_order_69 rfl ?_
            refine lv_lconst (v := 0) hx hb d_M_order_70 (by decide) ?_
            refine lv_ldc2 (v := 8) hx hb hown (ht _ tk_323) d_M_order_71 ?_
            refine vp_callSi (W.runS (As := [.long kd.toInt64, .long 0, .long 8]) (rest := []) ⟨hx, hb, hml, hown, ht⟩ (c_M_isIn l kd.toInt64 0 8) (cS_ 3 ht tk_320 tk_318 tk_2 tk_319 hd_M_isIn ⟨Nat.le_of_ble_eq_true rfl, Nat.le_of_ble_eq_true rfl⟩) ⟨fun _ _ _ _ q => q, fun _ _ _ => ⟨rfl, trivial⟩⟩ rfl rfl hl.1 rfl (lv_room (Nat.le_of_ble_eq_true rfl)) d_M_order_74 ⟨Nat.le_of_ble_eq_true rfl, Nat.le_of_ble_eq_true rfl⟩) (fun r_22 hw_23 => ?_)
            refine lv_if_eq (tgt := 115) hx hb d_M_order_77 (by decide) (fun c_24 => ?_) (fun c_24 => ?_)
            · have c_24 := bl_f hw_23 c_24
              refine lv_bipush (v := (-102)) hx hb d_M_order_115 (by decide) ?_
              rw [hQe]
              exact W.iret (v := (-102)) hx hb hr (fun t9 ht9 hW => ⟨⟨(-102), (n, K, E, P, T, F, U, M, O), rfl, Or.inr (Or.inl ⟨hnu, Or.inl (fun h9 => c_24 (kndM_iff.mpr h9)), rfl, rfl⟩), by rw [ht9]; exact hP, hD⟩, hS.F ht9⟩) hS.2.2 d_M_order_117
            · have c_24 := bl_t hw_23 c_24
              refine lv_lload hx hb d_M_order_80 (lv_at hl 6 rfl) ?_
              refine lv_lconst (v := 0) hx hb d_M_order_82 (by decide) ?_
              refine lc_lt (tgt := 115) hx hb d_M_order_83 d_M_order_84 (by decide) (fun c_25 => ?_) (fun c_25 => ?_)
              · refine lv_bipush (v := (-102)) hx hb d_M_order_115 (by decide) ?_
                rw [hQe]
                exact W.iret (v := (-102)) hx hb hr (fun t9 ht9 hW => ⟨⟨(-102), (n, K, E, P, T, F, U, M, O), rfl, Or.inr (Or.inl ⟨hnu, Or.inr (Or.inl (Or.inl c_25)), rfl, rfl⟩), by rw [ht9]; exact hP, hD⟩, hS.F ht9⟩) hS.2.2 d_M_order_117
              · refine lv_lload hx hb d_M_order_87 (lv_at hl 6 rfl) ?_
                refine lv_lload hx hb d_M_order_89 (lv_at hl 7 rfl) ?_
                refine lc_gt (tgt := 115) hx hb d_M_order_91 d_M_order_92 (by decide) (fun c_26 => ?_) (fun c_26 => ?_)
                · refine lv_bipush (v := (-102)) hx hb d_M_order_115 (by decide) ?_
                  rw [hQe]
                  exact W.iret (v := (-102)) hx hb hr (fun t9 ht9 hW => ⟨⟨(-102), (n, K, E, P, T, F, U, M, O), rfl, Or.inr (Or.inl ⟨hnu, Or.inr (Or.inl (Or.inr (nle_lt.mpr c_26))), rfl, rfl⟩), by rw [ht9]; exact hP, hD⟩, hS.F ht9⟩) hS.2.2 d_M_order_117
                · refine lv_lload hx hb d_M_order_95 (lv_at hl 7 rfl) ?_
                  refine lv_ldc2 (v := 20000) hx hb hown (ht _ tk_324) d_M_order_97 ?_
                  refine lc_gt (tgt := 115) hx hb d_M_order_100 d_M_order_101 (by decide) (fun c_27 => ?_) (fun c_27 => ?_)
                  · refine lv_bipush (v := (-102)) hx hb d_M_order_115 (by decide) ?_
                    rw [hQe]
                    exact W.iret (v := (-102)) hx hb hr (fun t9 ht9 hW => ⟨⟨(-102), (n, K, E, P, T, F, U, M, O), rfl, Or.inr (Or.inl ⟨hnu, Or.inr (Or.inr (Or.inl c_27)), rfl, rfl⟩), by rw [ht9]; exact hP, hD⟩, hS.F ht9⟩) hS.2.2 d_M_order_117
                  · refine lv_iload hx hb d_M_order_104 (lv_at hl 0 rfl) ?_
                    refine lv_if_eq (tgt := 118) hx hb d_M_order_106 (by decide) (fun c_28 => ?_) (fun c_28 => ?_)
                    · have c_28 := bl_f hs c_28
                      exact J118 s9 ls hs hnu (fun h9 => h9.elim (fun h8 => h8 (kndM_iff.mp c_24)) (fun h8 => h8.elim (fun h7 => h7.elim c_25 (fun h6 => c_26 (nle_lt.mp h6))) (fun h7 => h7.elim c_27 (fun h6 => c_28 h6.1))) ) (lv_sub hl [0, 1, 2, 3, 4, 5, 6, 7] rfl)
                    · have c_28 := bl_t hs c_28
                      refine lv_iload hx hb d_M_order_109 (lv_at hl 5 rfl) ?_
                      refine lv_iload_n hx hb d_M_order_111 rfl (lv_at hl 3 rfl) ?_
                      refine lv_icmp_ne (tgt := 118) hx hb d_M_order_112 (by decide) (fun c_29 => ?_) (fun c_29 => ?_)
                      · exact J118 s9 ls hs hnu (fun h9 => h9.elim (fun h8 => h8 (kndM_iff.mp c_24)) (fun h8 => h8.elim (fun h7 => h7.elim c_25 (fun h6 => c_26 (nle_lt.mp h6))) (fun h7 => h7.elim c_27 (fun h6 => c_29 h6.2))) ) (lv_sub hl [0, 1, 2, 3, 4, 5, 6, 7] rfl)
                      · refine lv_bipush (v := (-102)) hx hb d_M_order_115 (by decide) ?_
                        rw [hQe]
                        exact W.iret (v := (-102)) hx hb hr (fun t9 ht9 hW => ⟨⟨(-102), (n, K, E, P, T, F, U, M, O), rfl, Or.inr (Or.inl ⟨hnu, Or.inr (Or.inr (Or.inr ⟨c_28, c_29⟩)), rfl, rfl⟩), by rw [ht9]; exact hP, hD⟩, hS.F ht9⟩) hS.2.2 d_M_order_117
          · have c_21 := bl_f hw_20 c_21
            refine lv_bipush (v := (-101)) hx hb d_M_order_65 (by decide) ?_
            rw [hQe]
            exact W.iret (v := (-101)) hx hb hr (fun t9 ht9 hW => ⟨⟨(-101), (n, K, E, P, T, F, U, M, O), rfl, Or.inl ⟨Or.inr (Or.inr ⟨c_10, fun h9 => c_21 (adrM_iff.mpr h9)⟩), rfl, rfl⟩, by rw [ht9]; exact hP, hD⟩, hS.F ht9⟩) hS.2.2 d_M_order_67
  refine lv_iload_n hx hb d_M_order_5 rfl (lv_at hl 1 rfl) ?_
  refine lv_if_lt (tgt := 18) hx hb d_M_order_6 (by decide) (fun c_30 => ?_) (fun c_30 => ?_)
  · refine lv_iconst (v := 0) hx hb d_M_order_18 (by decide) ?_
    refine lv_istore (lv' := [(9, .int 0), (0, .ref (a 0)), (1, .int kd), (2, .int en), (3, .int wh), (4, .int to), (5, .long fm), (7, .long un)]) hx hb d_M_order_19 hl (by decide) rfl (fun ls hl => ?_)
    exact J21 0 ls (bl_0 (fun h9 => (sndM_iff.mpr h9).1 c_30)) (lv_sub hl [0, 1, 2, 3, 4, 5, 6, 7] rfl)
  · refine lv_iload_n hx hb d_M_order_9 rfl (lv_at hl 1 rfl) ?_
    refine lv_iconst (v := 3) hx hb d_M_order_10 (by decide) ?_
    refine lv_icmp_ge (tgt := 18) hx hb d_M_order_11 (by decide) (fun c_31 => ?_) (fun c_31 => ?_)
    · refine lv_iconst (v := 0) hx hb d_M_order_18 (by decide) ?_
      refine lv_istore (lv' := [(9, .int 0), (0, .ref (a 0)), (1, .int kd), (2, .int en), (3, .int wh), (4, .int to), (5, .long fm), (7, .long un)]) hx hb d_M_order_19 hl (by decide) rfl (fun ls hl => ?_)
      exact J21 0 ls (bl_0 (fun h9 => (sndM_iff.mpr h9).2 c_31)) (lv_sub hl [0, 1, 2, 3, 4, 5, 6, 7] rfl)
    · refine lv_iconst (v := 1) hx hb d_M_order_14 (by decide) ?_
      refine lv_goto (tgt := 19) hx hb d_M_order_15 (by decide) ?_
      refine lv_istore (lv' := [(9, .int 1), (0, .ref (a 0)), (1, .int kd), (2, .int en), (3, .int wh), (4, .int to), (5, .long fm), (7, .long un)]) hx hb d_M_order_19 hl (by decide) rfl (fun ls hl => ?_)
      exact J21 1 ls (bl_1 (sndM_iff.mp ⟨c_30, c_31⟩)) (lv_sub hl [0, 1, 2, 3, 4, 5, 6, 7] rfl)
abbrev QwithM (n : Nat) (now : Int64) (V : Nat → Int32) (F U M O : Nat → Int64) (o : Int32) (t : Int64) (r : Int32) (u : Int64 × (Nat → Int64)) : Prop :=
  (¬ okO n o ∧ r = -101 ∧ u = (now, O)) ∨ (okO n o ∧ badD now t ∧ r = -102 ∧ u = (now, O)) ∨
  (∃ k, 1 ≤ k ∧ k ≤ n ∧ o = nI k ∧ ¬ badD now t ∧
    ((¬ Op n V M O t k < 0 ∧ r = -103 ∧ u = (t, Op n V M O t)) ∨
     (Op n V M O t k < 0 ∧ (∃ f e tt, f ≤ 20000 ∧ e ≤ 20000 ∧ tt ≤ 20000 ∧ F k = lN f ∧ U k = lN e ∧ t = lN tt ∧ r = nI (e + 1 - max f tt)) ∧ u = (t, vp_updL (Op n V M O t) k t))))
theorem day_of {now t : Int64} (hw : ∃ d, d ≤ 20000 ∧ now = lN d) (h : ¬ badD now t) : ∃ d, d ≤ 20000 ∧ t = lN d := by
  obtain ⟨d, h1, rfl⟩ := hw
  have h2 : ¬ t < lN d := fun q => h (Or.inl q)
  have h3 : t ≤ 20000 := Classical.byContradiction (fun q => h (Or.inr q))
  have h4 : ¬ t < 0 := by
    intro q
    apply h2
    rw [Int64.lt_iff_toInt_lt] at q ⊢
    rw [lN_toInt (by omega)]
    have e : (0 : Int64).toInt = 0 := by decide +kernel
    omega
  obtain ⟨k, hk, rfl⟩ := pk_lOf h4
  exact ⟨k, (pk_lLE (b := 20000) hk (by omega)).mp h3, rfl⟩
set_option maxHeartbeats 4000000 in
set_option maxRecDepth 100000 in
/-- the reference: withdraw(o, t) -/
theorem c_M_withdraw (l : Launch) (o : Int32) (t : Int64) (D : va_G) (a cs : Nat → Nat) (th : Int32) (n : Nat) (now : Int64) (K E P T V : Nat → Int32) (F U M O : Nat → Int64) (rk wy rg : Nat → Int32) (rf rs : Int32) (hn : n ≤ 200) (hFU : ∀ k, 1 ≤ k → k ≤ n → ∃ f e, f ≤ 20000 ∧ e ≤ 20000 ∧ F k = lN f ∧ U k = lN e) (hw : ∃ d, d ≤ 20000 ∧ now = lN d) (sz : Nat) : Met l y_M_withdraw (Cond.code y_M_withdraw b_M_withdraw 8 (some .int) :: wt) ({ frames := 2, cells := 0, slots := 0, locals := 47 }) (va_Pc [.ref (a 0), .int o, .long t] (fun S0 => S0.heap.size = sz ∧ va_P D classes (mW a cs th n now K E P T V F U M O rk wy rg rf rs) S0.heap ∧ KK D cs S0 ∧ va_D (fun _ => True) (mW a cs th n now K E P T V F U M O rk wy rg rf rs))) (va_Qi (fun r u => QwithM n now V F U M O o t r u) (fun (u : Int64 × (Nat → Int64)) S1 => va_P D classes (mW a cs 0 n u.1 K E P T V F U M u.2 rk wy rg rf rs) S1.heap ∧ va_D (va_A (mW a cs th n now K E P T V F U M O rk wy rg rf rs) sz) (mW a cs 0 n u.1 K E P T V F U M u.2 rk wy rg rf rs)) (va_A (mW a cs th n now K E P T V F U M O rk wy rg rf rs) sz)) 0 0 (va_A (mW a cs th n now K E P T V F U M O rk wy rg rf rs) sz) := by
  refine Met.ofW (cc := b_M_withdraw) (maxL := 8) (ret := (some .int)) (by decide) rfl ?_
  intro p e s m args below meth c s₁ B hml hv
  obtain ⟨rfl, hsz, hP, ⟨hK, hN⟩, hD0⟩ := hv
  have hx := B.exec
  have hb := B.bytes
  have hr := B.returns
  have ht : ∀ w ∈ wt, w.before _ s = true := fun w h => atoms_spec (ws := _ :: wt) B.pre w (List.mem_cons_of_mem _ h)
  have hown : s.vm.findClass R_M = some m.cls := findClass_of_methodNamed B.named
  have hlocks := B.notSynchronized
  subst hsz
  have hD := hD0.self (sz := s.heap.size)
  generalize hAe : va_A (mW a cs th n now K E P T V F U M O rk wy rg rf rs) s.heap.size = A at hD ⊢
  have hA : ∀ q : Nat, s.heap.size ≤ q → A q := fun q h => by rw [← hAe]; exact Or.inr h
  have hS : va_S A s.heap s.heap [] := va_S.rf
  have hl := lv_entry ([.ref (a 0), .int o, .long t]) (n := 8) (Nat.le_of_ble_eq_true rfl)
  rw [lg_entry_eq]
  generalize (lg_sl ([.ref (a 0), .int o, .long t]) ++ List.replicate (8 - (lg_sl ([.ref (a 0), .int o, .long t])).length) Slot.unset).toArray = ls at hl ⊢
  have hl : lv_has ls 8 [(0, .ref (a 0)), (1, .int o), (2, .long t)] := hl
  refine W.nameQ (fun Q hQe => ?_)
  refine lv_aload_n hx hb d_M_withdraw_0 rfl (lv_at hl 0 rfl) ?_
  refine lv_iconst (v := 0) hx hb d_M_withdraw_1 (by decide) ?_
  refine va_put (D := D) (ci := 4) (C := R_M) (T := F_M) (N := 17) (v := .int 0) (ty := .int) hx hb ht i_M t_M t_M_ok n_M hown hK hP hD hS 0 rfl rfl 0 (by decide) (ht _ tk_261) (fun _ h9 => h9) rfl (by decide +kernel) rfl rfl (Nat.le_of_ble_eq_true rfl) d_M_withdraw_2 (fun H locs hP hD hS => ?_)
  have hP : va_P D classes (mW a cs 0 n now K E P T V F U M O rk wy rg rf rs) H := hP
  have hD : va_D A (mW a cs 0 n now K E P T V F U M O rk wy rg rf rs) := hD
  refine lv_aload_n hx hb d_M_withdraw_5 rfl (lv_at hl 0 rfl) ?_
  refine lv_iload_n hx hb d_M_withdraw_6 rfl (lv_at hl 1 rfl) ?_
  refine vp_callSi (W.runV (C := R_M) (As := [.int o]) (rest := []) ⟨hx, hb, hml, hown, ht⟩ (c_M_isOrder l o D a cs 0 n now K E P T V F U M O rk wy rg rf rs hn) (cV_ 1 ht tk_332 tk_329 tk_2 tk_331 ts_M_isOrder hd_M_isOrder ⟨Nat.le_of_ble_eq_true rfl, Nat.le_of_ble_eq_true rfl⟩) ⟨fun _ _ _ _ q => ⟨q.1, q.2.1, KK.call q.2.2⟩, va_recv (ci := 4) (q0 := 0) hK hP rfl rfl, fun U0 hU hW => ⟨rfl, by rw [hU]; exact hP, KK.warm hK hN hW⟩⟩ rfl rfl hl.1 rfl (lv_room (Nat.le_of_ble_eq_true rfl)) d_M_withdraw_7 ⟨Nat.le_of_ble_eq_true rfl, Nat.le_of_ble_eq_true rfl⟩) (fun r_1 hw_2 => ?_)
  refine lv_if_ne (tgt := 16) hx hb d_M_withdraw_10 (by decide) (fun c_3 => ?_) (fun c_3 => ?_)
  · have c_3 := bl_t hw_2 c_3
    refine lv_aload_n hx hb d_M_withdraw_16 rfl (lv_at hl 0 rfl) ?_
    refine lv_lload_n hx hb d_M_withdraw_17 rfl (lv_at hl 2 rfl) ?_
    refine vp_callSi (W.runV (C := R_M) (As := [.long t]) (rest := []) ⟨hx, hb, hml, hown, ht⟩ (c_M_isDay l t D a cs 0 n now K E P T V F U M O rk wy rg rf rs ) (cV_ 1 ht tk_336 tk_333 tk_2 tk_335 ts_M_isDay hd_M_isDay ⟨Nat.le_of_ble_eq_true rfl, Nat.le_of_ble_eq_true rfl⟩) ⟨fun _ _ _ _ q => ⟨q.1, q.2.1, KK.call q.2.2⟩, va_recv (ci := 4) (q0 := 0) hK hP rfl rfl, fun U0 hU hW => ⟨rfl, by rw [hU]; exact hP, KK.warm hK hN hW⟩⟩ rfl rfl hl.1 rfl (lv_room (Nat.le_of_ble_eq_true rfl)) d_M_withdraw_18 ⟨Nat.le_of_ble_eq_true rfl, Nat.le_of_ble_eq_true rfl⟩) (fun r_4 hw_5 => ?_)
    refine lv_if_ne (tgt := 27) hx hb d_M_withdraw_21 (by decide) (fun c_6 => ?_) (fun c_6 => ?_)
    · have c_6 := bl_t hw_5 c_6
      refine lv_aload_n hx hb d_M_withdraw_27 rfl (lv_at hl 0 rfl) ?_
      refine lv_lload_n hx hb d_M_withdraw_28 rfl (lv_at hl 2 rfl) ?_
      have hFc := freeW hD hS hA
      refine va_calli (va_runV (C := R_M) (As := [.long t]) (rest := []) ⟨hx, hb, hml, hown, ht⟩ (c_M_set l t D a cs 0 n now K E P T V F U M O rk wy rg rf rs hn _) (cV_ 1 ht tk_340 tk_337 tk_2 tk_339 ts_M_set hd_M_set ⟨Nat.le_of_ble_eq_true rfl, Nat.le_of_ble_eq_true rfl⟩) ⟨fun _ _ _ _ q => ⟨q.1, q.2.1, q.2.2.1, KK.call q.2.2.2.1, q.2.2.2.2⟩, va_recv (ci := 4) (q0 := 0) hK hP rfl rfl, fun U0 hU hW => ⟨rfl, by rw [hU], by rw [hU]; exact hP, KK.warm hK hN hW, hD.weaken (fun _ _ _ _ => trivial)⟩⟩ rfl rfl hl.1 rfl (lv_room (Nat.le_of_ble_eq_true rfl)) d_M_withdraw_29 ⟨Nat.le_of_ble_eq_true rfl, Nat.le_of_ble_eq_true rfl⟩) hS (fun q _ h => hFc q h) hFc (fun r_7 u_9 t1 H locs ht1 hvm hw_8 hB hz1 hkp hS => ?_)
      obtain ⟨hP, hD⟩ := hB
      rw [ht1] at hP
      have hD := hD.weaken (fun k q _ h => hFc q.1 h)
      refine lv_istore (lv' := [(4, .int r_7), (0, .ref (a 0)), (1, .int o), (2, .long t)]) hx hb d_M_withdraw_32 hl (by decide) rfl (fun ls hl => ?_)
      have hok := c_3
      obtain ⟨k, hk1, hk2, rfl⟩ := ordk_of hok
      refine lv_aload_n hx hb d_M_withdraw_34 rfl (lv_at hl 1 rfl) ?_
      refine va_get (D := D) (ci := 4) (C := R_M) (T := F_M) (N := 17) (v := .ref (a 9)) hx hb ht i_M hown hK hP 0 rfl rfl 10 (by decide) (ht _ tk_271) (fun _ h9 => h9) rfl d_M_withdraw_35 ?_
      refine lv_iload_n hx hb d_M_withdraw_38 rfl (lv_at hl 2 rfl) ?_
      refine vi_lald (k := k) (f := psX (qM V M O t) (yM M) O n) hx hb hK hP 9 2 rfl rfl (by omega) (by omega) d_M_withdraw_39 ?_
      refine lv_lconst (v := 0) hx hb d_M_withdraw_40 (by decide) ?_
      refine lc_lt (tgt := 48) hx hb d_M_withdraw_41 d_M_withdraw_42 (by decide) (fun c_10 => ?_) (fun c_10 => ?_)
      · refine lv_iconst (v := 0) hx hb d_M_withdraw_48 (by decide) ?_
        refine lv_istore (lv' := [(5, .int 0), (4, .int r_7), (0, .ref (a 0)), (1, .int (nI k)), (2, .long t)]) hx hb d_M_withdraw_49 hl (by decide) rfl (fun ls hl => ?_)
        refine lv_aload_n hx hb d_M_withdraw_51 rfl (lv_at hl 2 rfl) ?_
        refine va_get (D := D) (ci := 4) (C := R_M) (T := F_M) (N := 17) (v := .ref (a 5)) hx hb ht i_M hown hK hP 0 rfl rfl 6 (by decide) (ht _ tk_267) (fun _ h9 => h9) rfl d_M_withdraw_52 ?_
        refine lv_iload_n hx hb d_M_withdraw_55 rfl (lv_at hl 3 rfl) ?_
        refine vi_lald (k := k) (f := F) hx hb hK hP 5 2 rfl rfl (by omega) (by omega) d_M_withdraw_56 ?_
        refine lv_lstore (lv' := [(6, .long (F k)), (5, .int 0), (4, .int r_7), (0, .ref (a 0)), (1, .int (nI k)), (2, .long t)]) hx hb d_M_withdraw_57 hl (by decide) rfl (fun ls hl => ?_)
        obtain ⟨f, en, hf1, hf2, hf3, hf4⟩ := hFU k hk1 hk2
        obtain ⟨tt, ht1, ht2⟩ := day_of hw c_6
        have loop : ∀ (z : Nat) (dd : Nat) (H : Heap) (locs : List Loc) (ls : Array Slot), (dd + z = max f (en + 1)) → (f ≤ dd) → va_P D classes (mW a cs 0 n t K E P T V F U M (psX (qM V M O t) (yM M) O n) rk wy rg rf rs) H → va_D A (mW a cs 0 n t K E P T V F U M (psX (qM V M O t) (yM M) O n) rk wy rg rf rs) → va_S A s.heap H locs → lv_has ls 8 [(5, .int (nI (dd - max f tt))), (6, .long (lN dd)), (0, .ref (a 0)), (1, .int (nI k)), (2, .long t)] → W p l e ({ frames := 2, cells := 0, slots := 0, locals := 47 } : Room) s m ([.ref (a 0), .int (nI k), .long t] : List Value).toArray below meth c H locs 0 0 Q (F0 m 59 ls []) := by
          intro z
          induction z with
          | zero =>
            intro dd H locs ls hd hd2 hP hD hS hl
            refine lv_lload hx hb d_M_withdraw_59 (lv_at hl 1 rfl) ?_
            refine lv_aload_n hx hb d_M_withdraw_61 rfl (lv_at hl 2 rfl) ?_
            refine va_get (D := D) (ci := 4) (C := R_M) (T := F_M) (N := 17) (v := .ref (a 6)) hx hb ht i_M hown hK hP 0 rfl rfl 7 (by decide) (ht _ tk_268) (fun _ h9 => h9) rfl d_M_withdraw_62 ?_
            refine lv_iload_n hx hb d_M_withdraw_65 rfl (lv_at hl 3 rfl) ?_
            refine vi_lald (k := k) (f := U) hx hb hK hP 6 2 rfl rfl (by omega) (by omega) d_M_withdraw_66 ?_
            refine lc_gt (tgt := 98) hx hb d_M_withdraw_67 d_M_withdraw_68 (by decide) (fun c_11 => ?_) (fun c_11 => ?_)
            · have hde : dd - max f tt = en + 1 - max f tt := by omega
              refine lv_aload_n hx hb d_M_withdraw_98 rfl (lv_at hl 2 rfl) ?_
              refine va_get (D := D) (ci := 4) (C := R_M) (T := F_M) (N := 17) (v := .ref (a 9)) hx hb ht i_M hown hK hP 0 rfl rfl 10 (by decide) (ht _ tk_271) (fun _ h9 => h9) rfl d_M_withdraw_99 ?_
              refine lv_iload_n hx hb d_M_withdraw_102 rfl (lv_at hl 3 rfl) ?_
              refine lv_lload_n hx hb d_M_withdraw_103 rfl (lv_at hl 4 rfl) ?_
              refine vi_last (k := k) (f := psX (qM V M O t) (yM M) O n) (x := t) hx hb hK hP hD hS 9 2 rfl rfl (by omega) (by omega) d_M_withdraw_104 (fun H locs hP hD hS => ?_)
              have hP : va_P D classes (mW a cs 0 n t K E P T V F U M (vp_updL (psX (qM V M O t) (yM M) O n) k t) rk wy rg rf rs) H := hP
              have hD : va_D A (mW a cs 0 n t K E P T V F U M (vp_updL (psX (qM V M O t) (yM M) O n) k t) rk wy rg rf rs) := hD
              refine lv_iload hx hb d_M_withdraw_105 (lv_at hl 0 rfl) ?_
              rw [hQe]
              exact W.iret (v := nI (dd - max f tt)) hx hb hr (fun t9 ht9 hW => ⟨⟨nI (dd - max f tt), (t, vp_updL (Op n V M O t) k t), rfl, Or.inr (Or.inr ⟨k, hk1, hk2, rfl, c_6, Or.inr ⟨c_10, ⟨f, en, tt, hf1, hf2, ht1, hf3, hf4, ht2, by rw [hde]⟩, rfl⟩⟩), by rw [ht9]; exact hP, hD⟩, hS.F ht9⟩) hS.2.2 d_M_withdraw_107
            · rw [hf4] at c_11
              exact absurd ((pk_lLT (by omega) (by omega)).mpr (by omega)) c_11
          | succ z ih =>
            intro dd H locs ls hd hd2 hP hD hS hl
            refine lv_lload hx hb d_M_withdraw_59 (lv_at hl 1 rfl) ?_
            refine lv_aload_n hx hb d_M_withdraw_61 rfl (lv_at hl 2 rfl) ?_
            refine va_get (D := D) (ci := 4) (C := R_M) (T := F_M) (N := 17) (v := .ref (a 6)) hx hb ht i_M hown hK hP 0 rfl rfl 7 (by decide) (ht _ tk_268) (fun _ h9 => h9) rfl d_M_withdraw_62 ?_
            refine lv_iload_n hx hb d_M_withdraw_65 rfl (lv_at hl 3 rfl) ?_
            refine vi_lald (k := k) (f := U) hx hb hK hP 6 2 rfl rfl (by omega) (by omega) d_M_withdraw_66 ?_
            refine lc_gt (tgt := 98) hx hb d_M_withdraw_67 d_M_withdraw_68 (by decide) (fun c_12 => ?_) (fun c_12 => ?_)
            · rw [hf4] at c_12
              have := (pk_lLT (by omega) (by omega)).mp c_12
              omega
            · refine lv_lload hx hb d_M_withdraw_71 (lv_at hl 1 rfl) ?_
              refine lv_lload_n hx hb d_M_withdraw_73 rfl (lv_at hl 4 rfl) ?_
              refine lc_lt (tgt := 85) hx hb d_M_withdraw_74 d_M_withdraw_75 (by decide) (fun c_13 => ?_) (fun c_13 => ?_)
              · rw [ht2] at c_13
                have h8 := (pk_lLT (by omega) (by omega)).mp c_13
                refine lv_iload hx hb d_M_withdraw_85 (lv_at hl 0 rfl) ?_
                rw [show dd - max f tt = dd + 1 - max f tt by omega]
                refine lv_istore (lv' := [(5, .int (nI (dd + 1 - max f tt))), (6, .long (lN dd)), (0, .ref (a 0)), (1, .int (nI k)), (2, .long t)]) hx hb d_M_withdraw_87 hl (by decide) rfl (fun ls hl => ?_)
                refine lv_lload hx hb d_M_withdraw_89 (lv_at hl 1 rfl) ?_
                refine lv_lconst (v := 1) hx hb d_M_withdraw_91 (by decide) ?_
                refine lv_ladd hx hb d_M_withdraw_92 ?_
                rw [lN_1]
                refine lv_lstore (lv' := [(6, .long (lN (dd + 1))), (5, .int (nI (dd + 1 - max f tt))), (0, .ref (a 0)), (1, .int (nI k)), (2, .long t)]) hx hb d_M_withdraw_93 hl (by decide) rfl (fun ls hl => ?_)
                refine lv_goto (tgt := 59) hx hb d_M_withdraw_95 (by decide) ?_
                exact ih (dd + 1) H locs ls (by omega) (by omega) hP hD hS (lv_sub hl [1, 0, 2, 3, 4] rfl)
              · rw [ht2] at c_13
                have h8 : tt ≤ dd := Nat.not_lt.mp (fun h7 => c_13 ((pk_lLT (by omega) (by omega)).mpr h7))
                refine lv_iload hx hb d_M_withdraw_78 (lv_at hl 0 rfl) ?_
                refine lv_iconst (v := 1) hx hb d_M_withdraw_80 (by decide) ?_
                refine lv_iadd hx hb d_M_withdraw_81 ?_
                refine lv_goto (tgt := 87) hx hb d_M_withdraw_82 (by decide) ?_
                rw [nI_1, show dd - max f tt + 1 = dd + 1 - max f tt by omega]
                refine lv_istore (lv' := [(5, .int (nI (dd + 1 - max f tt))), (6, .long (lN dd)), (0, .ref (a 0)), (1, .int (nI k)), (2, .long t)]) hx hb d_M_withdraw_87 hl (by decide) rfl (fun ls hl => ?_)
                refine lv_lload hx hb d_M_withdraw_89 (lv_at hl 1 rfl) ?_
                refine lv_lconst (v := 1) hx hb d_M_withdraw_91 (by decide) ?_
                refine lv_ladd hx hb d_M_withdraw_92 ?_
                rw [lN_1]
                refine lv_lstore (lv' := [(6, .long (lN (dd + 1))), (5, .int (nI (dd + 1 - max f tt))), (0, .ref (a 0)), (1, .int (nI k)), (2, .long t)]) hx hb d_M_withdraw_93 hl (by decide) rfl (fun ls hl => ?_)
                refine lv_goto (tgt := 59) hx hb d_M_withdraw_95 (by decide) ?_
                exact ih (dd + 1) H locs ls (by omega) (by omega) hP hD hS (lv_sub hl [1, 0, 2, 3, 4] rfl)
        rw [hf3] at hl
        have h00 : (0 : Int32) = nI (f - max f tt) := by rw [show f - max f tt = 0 by omega]; rfl
        rw [h00] at hl
        exact loop (max f (en + 1) - f) f H locs ls (by omega) (by omega) hP hD hS (lv_sub hl [1, 0, 3, 4, 5] rfl)
      · refine lv_bipush (v := (-103)) hx hb d_M_withdraw_45 (by decide) ?_
        rw [hQe]
        exact W.iret (v := (-103)) hx hb hr (fun t9 ht9 hW => ⟨⟨(-103), (t, Op n V M O t), rfl, Or.inr (Or.inr ⟨k, hk1, hk2, rfl, c_6, Or.inl ⟨c_10, rfl, rfl⟩⟩), by rw [ht9]; exact hP, hD⟩, hS.F ht9⟩) hS.2.2 d_M_withdraw_47
    · have c_6 := bl_f hw_5 c_6
      refine lv_bipush (v := (-102)) hx hb d_M_withdraw_24 (by decide) ?_
      rw [hQe]
      exact W.iret (v := (-102)) hx hb hr (fun t9 ht9 hW => ⟨⟨(-102), (now, O), rfl, Or.inr (Or.inl ⟨c_3, Classical.byContradiction c_6, rfl, rfl⟩), by rw [ht9]; exact hP, hD⟩, hS.F ht9⟩) hS.2.2 d_M_withdraw_26
  · have c_3 := bl_f hw_2 c_3
    refine lv_bipush (v := (-101)) hx hb d_M_withdraw_13 (by decide) ?_
    rw [hQe]
    exact W.iret (v := (-101)) hx hb hr (fun t9 ht9 hW => ⟨⟨(-101), (now, O), rfl, Or.inl ⟨c_3, rfl, rfl⟩, by rw [ht9]; exact hP, hD⟩, hS.F ht9⟩) hS.2.2 d_M_withdraw_15
end
section
set_option maxHeartbeats 4000000 in
set_option maxRecDepth 100000 in
/-- the reference: find(address, who, class, day) -/
theorem c_M_find (l : Launch) (ad w cl : Int32) (d : Int64) (D : va_G) (a cs : Nat → Nat) (th : Int32) (n : Nat) (now : Int64) (K E P T V : Nat → Int32) (F U M O : Nat → Int64) (rk wy rg : Nat → Int32) (rf rs : Int32) (hn : n ≤ 200) (hKr : ∀ k, 1 ≤ k → k ≤ n → vp_in (K k) 9) : Met l y_M_find (Cond.code y_M_find b_M_find 9 (some .int) :: wt) ({ frames := 2, cells := 0, slots := 0, locals := 48 }) (va_Pc [.ref (a 0), .int ad, .int w, .int cl, .long d] (fun S0 => va_P D classes (mW a cs th n now K E P T V F U M O rk wy rg rf rs) S0.heap ∧ KK D cs S0)) (vp_Si (fun r => r = nI (fdR (qG K E P F U O ad w cl d) (rvK K rk) n))) 0 0 (fun _ => False) := by
  refine Met.ofW (cc := b_M_find) (maxL := 9) (ret := (some .int)) (by decide) rfl ?_
  intro p e s m args below meth c s₁ B hml hv
  obtain ⟨rfl, hP, hK, hN⟩ := hv
  have hx := B.exec
  have hb := B.bytes
  have hr := B.returns
  have ht : ∀ w ∈ wt, w.before _ s = true := fun w h => atoms_spec (ws := _ :: wt) B.pre w (List.mem_cons_of_mem _ h)
  have hown : s.vm.findClass R_M = some m.cls := findClass_of_methodNamed B.named
  have hlocks := B.notSynchronized
  have hl := lv_entry ([.ref (a 0), .int ad, .int w, .int cl, .long d]) (n := 9) (Nat.le_of_ble_eq_true rfl)
  rw [lg_entry_eq]
  generalize (lg_sl ([.ref (a 0), .int ad, .int w, .int cl, .long d]) ++ List.replicate (9 - (lg_sl ([.ref (a 0), .int ad, .int w, .int cl, .long d])).length) Slot.unset).toArray = ls at hl ⊢
  have hl : lv_has ls 9 [(0, .ref (a 0)), (1, .int ad), (2, .int w), (3, .int cl), (4, .long d)] := hl
  refine W.nameQ (fun Q hQe => ?_)
  refine lv_iconst (v := 0) hx hb d_M_find_0 (by decide) ?_
  refine lv_istore (lv' := [(6, .int 0), (0, .ref (a 0)), (1, .int ad), (2, .int w), (3, .int cl), (4, .long d)]) hx hb d_M_find_1 hl (by decide) rfl (fun ls hl => ?_)
  refine lv_aload_n hx hb d_M_find_3 rfl (lv_at hl 1 rfl) ?_
  refine va_get (D := D) (ci := 4) (C := R_M) (T := F_M) (N := 17) (v := .int (nI n)) hx hb ht i_M hown hK hP 0 rfl rfl 1 (by decide) (ht _ tk_262) (fun _ h9 => h9) rfl d_M_find_4 ?_
  refine lv_istore (lv' := [(7, .int (nI n)), (6, .int 0), (0, .ref (a 0)), (1, .int ad), (2, .int w), (3, .int cl), (4, .long d)]) hx hb d_M_find_7 hl (by decide) rfl (fun ls hl => ?_)
  have loop : ∀ (z : Nat) (b : Nat) (ls : Array Slot), (Bst (qG K E P F U O ad w cl d) (rvK K rk) z n b) → (z ≤ n) → lv_has ls 9 [(6, .int (nI b)), (7, .int (nI z)), (0, .ref (a 0)), (1, .int ad), (2, .int w), (3, .int cl), (4, .long d)] → W p l e ({ frames := 2, cells := 0, slots := 0, locals := 48 } : Room) s m ([.ref (a 0), .int ad, .int w, .int cl, .long d] : List Value).toArray below meth c s.heap [] 0 0 Q (F0 m 9 ls []) := by
    intro z
    induction z with
    | zero =>
      intro b ls hbs hzn hl
      have hl : lv_has ls 9 [(6, .int (nI b)), (7, .int 0), (0, .ref (a 0)), (1, .int ad), (2, .int w), (3, .int cl), (4, .long d)] := hl
      refine lv_iload hx hb d_M_find_9 (lv_at hl 1 rfl) ?_
      refine lv_if_le (tgt := 129) hx hb d_M_find_11 (by decide) (fun _ => ?_) (fun h9 => absurd (by decide) h9)
      refine lv_iload hx hb d_M_find_129 (lv_at hl 0 rfl) ?_
      rw [hQe]
      exact W.iret (v := nI b) hx hb hr (fun t9 ht9 _ => ⟨nI b, rfl, by rw [Bst_uniq hbs (Bst_fd _ _ n)], ht9⟩) (fun _ h9 => absurd h9 List.not_mem_nil) d_M_find_131
    | succ z ih =>
      intro b ls hbs hzn hl
      refine lv_iload hx hb d_M_find_9 (lv_at hl 1 rfl) ?_
      refine lv_if_le (tgt := 129) hx hb d_M_find_11 (by decide) (fun c_2 => ?_) (fun c_2 => ?_)
      · exact absurd c_2 (nI_nle (by omega) (by omega))
      · refine lv_aload_n hx hb d_M_find_14 rfl (lv_at hl 2 rfl) ?_
        refine va_get (D := D) (ci := 4) (C := R_M) (T := F_M) (N := 17) (v := .ref (a 2)) hx hb ht i_M hown hK hP 0 rfl rfl 3 (by decide) (ht _ tk_264) (fun _ h9 => h9) rfl d_M_find_15 ?_
        refine lv_iload hx hb d_M_find_18 (lv_at hl 1 rfl) ?_
        refine vi_iald (k := z + 1) (f := E) hx hb hK hP 2 0 rfl rfl (by omega) (by omega) d_M_find_20 ?_
        refine lv_iload_n hx hb d_M_find_21 rfl (lv_at hl 3 rfl) ?_
        refine lv_icmp_ne (tgt := 74) hx hb d_M_find_22 (by decide) (fun c_3 => ?_) (fun c_3 => ?_)
        · have hf : qG K E P F U O ad w cl d (z + 1) = false := decide_eq_false (fun h9 => c_3 h9.1)
          refine lv_iconst (v := 0) hx hb d_M_find_74 (by decide) ?_
          refine lv_istore (lv' := [(8, .int 0), (6, .int (nI b)), (7, .int (nI (z + 1))), (0, .ref (a 0)), (1, .int ad), (2, .int w), (3, .int cl), (4, .long d)]) hx hb d_M_find_75 hl (by decide) rfl (fun ls hl => ?_)
          refine lv_iload hx hb d_M_find_77 (lv_at hl 0 rfl) ?_
          refine lv_if_eq (tgt := 119) hx hb d_M_find_79 (by decide) (fun _ => ?_) (fun h9 => absurd (by decide) h9)
          refine lv_iload hx hb d_M_find_119 (lv_at hl 1 rfl) ?_
          refine lv_istore (lv' := [(6, .int (nI b)), (8, .int 0), (7, .int (nI (z + 1))), (0, .ref (a 0)), (1, .int ad), (2, .int w), (3, .int cl), (4, .long d)]) hx hb d_M_find_121 hl (by decide) rfl (fun ls hl => ?_)
          refine lv_iinc (v := nI z) (lv' := [(7, .int (nI z)), (6, .int (nI b)), (8, .int 0), (0, .ref (a 0)), (1, .int ad), (2, .int w), (3, .int cl), (4, .long d)]) hx hb d_M_find_123 hl (k := 2) rfl (pk_m1 z) (by decide) rfl (fun ls hl => ?_)
          refine lv_goto (tgt := 9) hx hb d_M_find_126 (by decide) ?_
          exact ih b ls (Bst_no hbs hf) (by omega) (lv_sub hl [1, 0, 3, 4, 5, 6, 7] rfl)
        · refine lv_aload_n hx hb d_M_find_25 rfl (lv_at hl 2 rfl) ?_
          refine va_get (D := D) (ci := 4) (C := R_M) (T := F_M) (N := 17) (v := .ref (a 3)) hx hb ht i_M hown hK hP 0 rfl rfl 4 (by decide) (ht _ tk_265) (fun _ h9 => h9) rfl d_M_find_26 ?_
          refine lv_iload hx hb d_M_find_29 (lv_at hl 1 rfl) ?_
          refine vi_iald (k := z + 1) (f := P) hx hb hK hP 3 0 rfl rfl (by omega) (by omega) d_M_find_31 ?_
          refine lv_if_lt (tgt := 46) hx hb d_M_find_32 (by decide) (fun c_5 => ?_) (fun c_5 => ?_)
          · refine lv_aload_n hx hb d_M_find_46 rfl (lv_at hl 2 rfl) ?_
            refine va_get (D := D) (ci := 4) (C := R_M) (T := F_M) (N := 17) (v := .ref (a 1)) hx hb ht i_M hown hK hP 0 rfl rfl 2 (by decide) (ht _ tk_263) (fun _ h9 => h9) rfl d_M_find_47 ?_
            refine lv_iload hx hb d_M_find_50 (lv_at hl 1 rfl) ?_
            refine vi_iald (k := z + 1) (f := K) hx hb hK hP 1 0 rfl rfl (by omega) (by omega) d_M_find_52 ?_
            refine lv_iconst (v := 3) hx hb d_M_find_53 (by decide) ?_
            refine lv_irem hx hb d_M_find_54 (by decide) ?_
            refine lv_iload_n hx hb d_M_find_55 rfl (lv_at hl 5 rfl) ?_
            refine lv_icmp_ne (tgt := 74) hx hb d_M_find_56 (by decide) (fun c_6 => ?_) (fun c_6 => ?_)
            · have hf : qG K E P F U O ad w cl d (z + 1) = false := decide_eq_false (fun h9 => c_6 h9.2.2.1)
              refine lv_iconst (v := 0) hx hb d_M_find_74 (by decide) ?_
              refine lv_istore (lv' := [(8, .int 0), (6, .int (nI b)), (7, .int (nI (z + 1))), (0, .ref (a 0)), (1, .int ad), (2, .int w), (3, .int cl), (4, .long d)]) hx hb d_M_find_75 hl (by decide) rfl (fun ls hl => ?_)
              refine lv_iload hx hb d_M_find_77 (lv_at hl 0 rfl) ?_
              refine lv_if_eq (tgt := 119) hx hb d_M_find_79 (by decide) (fun _ => ?_) (fun h9 => absurd (by decide) h9)
              refine lv_iload hx hb d_M_find_119 (lv_at hl 1 rfl) ?_
              refine lv_istore (lv' := [(6, .int (nI b)), (8, .int 0), (7, .int (nI (z + 1))), (0, .ref (a 0)), (1, .int ad), (2, .int w), (3, .int cl), (4, .long d)]) hx hb d_M_find_121 hl (by decide) rfl (fun ls hl => ?_)
              refine lv_iinc (v := nI z) (lv' := [(7, .int (nI z)), (6, .int (nI b)), (8, .int 0), (0, .ref (a 0)), (1, .int ad), (2, .int w), (3, .int cl), (4, .long d)]) hx hb d_M_find_123 hl (k := 2) rfl (pk_m1 z) (by decide) rfl (fun ls hl => ?_)
              refine lv_goto (tgt := 9) hx hb d_M_find_126 (by decide) ?_
              exact ih b ls (Bst_no hbs hf) (by omega) (lv_sub hl [1, 0, 3, 4, 5, 6, 7] rfl)
            · refine lv_aload_n hx hb d_M_find_59 rfl (lv_at hl 2 rfl) ?_
              refine lv_iload hx hb d_M_find_60 (lv_at hl 1 rfl) ?_
              refine lv_lload hx hb d_M_find_62 (lv_at hl 6 rfl) ?_
              refine vp_callSi (W.runV (C := R_M) (As := [.int (nI (z + 1)), .long d]) (rest := []) ⟨hx, hb, hml, hown, ht⟩ (c_M_isForce l (z + 1) d D a cs th n now K E P T V F U M O rk wy rg rf rs (by omega)) (cV_ 2 ht tk_359 tk_356 tk_2 tk_358 ts_M_isForce hd_M_isForce ⟨Nat.le_of_ble_eq_true rfl, Nat.le_of_ble_eq_true rfl⟩) ⟨fun _ _ _ _ q => ⟨q.1, q.2.1, KK.call q.2.2⟩, va_recv (ci := 4) (q0 := 0) hK hP rfl rfl, fun U0 hU hW => ⟨rfl, by rw [hU]; exact hP, KK.warm hK hN hW⟩⟩ rfl rfl hl.1 rfl (lv_room (Nat.le_of_ble_eq_true rfl)) d_M_find_64 ⟨Nat.le_of_ble_eq_true rfl, Nat.le_of_ble_eq_true rfl⟩) (fun r_8 hw_9 => ?_)
              refine lv_if_eq (tgt := 74) hx hb d_M_find_67 (by decide) (fun c_10 => ?_) (fun c_10 => ?_)
              · have c_10 := bl_f hw_9 c_10
                have hf : qG K E P F U O ad w cl d (z + 1) = false := decide_eq_false (fun h9 => c_10 h9.2.2.2)
                refine lv_iconst (v := 0) hx hb d_M_find_74 (by decide) ?_
                refine lv_istore (lv' := [(8, .int 0), (6, .int (nI b)), (7, .int (nI (z + 1))), (0, .ref (a 0)), (1, .int ad), (2, .int w), (3, .int cl), (4, .long d)]) hx hb d_M_find_75 hl (by decide) rfl (fun ls hl => ?_)
                refine lv_iload hx hb d_M_find_77 (lv_at hl 0 rfl) ?_
                refine lv_if_eq (tgt := 119) hx hb d_M_find_79 (by decide) (fun _ => ?_) (fun h9 => absurd (by decide) h9)
                refine lv_iload hx hb d_M_find_119 (lv_at hl 1 rfl) ?_
                refine lv_istore (lv' := [(6, .int (nI b)), (8, .int 0), (7, .int (nI (z + 1))), (0, .ref (a 0)), (1, .int ad), (2, .int w), (3, .int cl), (4, .long d)]) hx hb d_M_find_121 hl (by decide) rfl (fun ls hl => ?_)
                refine lv_iinc (v := nI z) (lv' := [(7, .int (nI z)), (6, .int (nI b)), (8, .int 0), (0, .ref (a 0)), (1, .int ad), (2, .int w), (3, .int cl), (4, .long d)]) hx hb d_M_find_123 hl (k := 2) rfl (pk_m1 z) (by decide) rfl (fun ls hl => ?_)
                refine lv_goto (tgt := 9) hx hb d_M_find_126 (by decide) ?_
                exact ih b ls (Bst_no hbs hf) (by omega) (lv_sub hl [1, 0, 3, 4, 5, 6, 7] rfl)
              · have c_10 := bl_t hw_9 c_10
                have hf : qG K E P F U O ad w cl d (z + 1) = true := decide_eq_true ⟨c_3, (Or.inl c_5), c_6, c_10⟩
                refine lv_iconst (v := 1) hx hb d_M_find_70 (by decide) ?_
                refine lv_goto (tgt := 75) hx hb d_M_find_71 (by decide) ?_
                refine lv_istore (lv' := [(8, .int 1), (6, .int (nI b)), (7, .int (nI (z + 1))), (0, .ref (a 0)), (1, .int ad), (2, .int w), (3, .int cl), (4, .long d)]) hx hb d_M_find_75 hl (by decide) rfl (fun ls hl => ?_)
                refine lv_iload hx hb d_M_find_77 (lv_at hl 0 rfl) ?_
                refine lv_if_eq (tgt := 119) hx hb d_M_find_79 (by decide) (fun h9 => absurd h9 (by decide)) (fun _ => ?_)
                refine lv_iload hx hb d_M_find_82 (lv_at hl 1 rfl) ?_
                refine lv_if_eq (tgt := 114) hx hb d_M_find_84 (by decide) (fun c_13 => ?_) (fun c_13 => ?_)
                · have hb0 : b = 0 := by rcases hbs with h9 | h9; exact h9.1; exact absurd c_13 (nI_ne0 (by omega) (by omega))
                  refine lv_iload hx hb d_M_find_114 (lv_at hl 2 rfl) ?_
                  refine lv_goto (tgt := 121) hx hb d_M_find_116 (by decide) ?_
                  refine lv_istore (lv' := [(6, .int (nI (z + 1))), (8, .int 1), (7, .int (nI (z + 1))), (0, .ref (a 0)), (1, .int ad), (2, .int w), (3, .int cl), (4, .long d)]) hx hb d_M_find_121 hl (by decide) rfl (fun ls hl => ?_)
                  refine lv_iinc (v := nI z) (lv' := [(7, .int (nI z)), (6, .int (nI (z + 1))), (8, .int 1), (0, .ref (a 0)), (1, .int ad), (2, .int w), (3, .int cl), (4, .long d)]) hx hb d_M_find_123 hl (k := 2) rfl (pk_m1 z) (by decide) rfl (fun ls hl => ?_)
                  refine lv_goto (tgt := 9) hx hb d_M_find_126 (by decide) ?_
                  exact ih (z + 1) ls (Bst_new (by omega) hbs hf (Or.inl hb0)) (by omega) (lv_sub hl [1, 0, 3, 4, 5, 6, 7] rfl)
                · have hb0 : ¬ b = 0 := fun h9 => c_13 (by rw [h9]; rfl)
                  have hbn : b ≤ n := by rcases hbs with h9 | h9; exact absurd h9.1 hb0; exact h9.2.1
                  refine lv_aload_n hx hb d_M_find_87 rfl (lv_at hl 3 rfl) ?_
                  refine va_get (D := D) (ci := 4) (C := R_M) (T := F_M) (N := 17) (v := .ref (a 10)) hx hb ht i_M hown hK hP 0 rfl rfl 11 (by decide) (ht _ tk_272) (fun _ h9 => h9) rfl d_M_find_88 ?_
                  refine lv_aload_n hx hb d_M_find_91 rfl (lv_at hl 3 rfl) ?_
                  refine va_get (D := D) (ci := 4) (C := R_M) (T := F_M) (N := 17) (v := .ref (a 1)) hx hb ht i_M hown hK hP 0 rfl rfl 2 (by decide) (ht _ tk_263) (fun _ h9 => h9) rfl d_M_find_92 ?_
                  refine lv_iload hx hb d_M_find_95 (lv_at hl 2 rfl) ?_
                  refine vi_iald (k := z + 1) (f := K) hx hb hK hP 1 0 rfl rfl (by omega) (by omega) d_M_find_97 ?_
                  refine va_iald (f := rk) hx hb hK hP 10 0 rfl rfl (hKr (z + 1) (by omega) (by omega)) d_M_find_98 ?_
                  refine lv_aload_n hx hb d_M_find_99 rfl (lv_at hl 3 rfl) ?_
                  refine va_get (D := D) (ci := 4) (C := R_M) (T := F_M) (N := 17) (v := .ref (a 10)) hx hb ht i_M hown hK hP 0 rfl rfl 11 (by decide) (ht _ tk_272) (fun _ h9 => h9) rfl d_M_find_100 ?_
                  refine lv_aload_n hx hb d_M_find_103 rfl (lv_at hl 3 rfl) ?_
                  refine va_get (D := D) (ci := 4) (C := R_M) (T := F_M) (N := 17) (v := .ref (a 1)) hx hb ht i_M hown hK hP 0 rfl rfl 2 (by decide) (ht _ tk_263) (fun _ h9 => h9) rfl d_M_find_104 ?_
                  refine lv_iload hx hb d_M_find_107 (lv_at hl 1 rfl) ?_
                  refine vi_iald (k := b) (f := K) hx hb hK hP 1 0 rfl rfl (by omega) (by omega) d_M_find_109 ?_
                  refine va_iald (f := rk) hx hb hK hP 10 0 rfl rfl (hKr b (by omega) hbn) d_M_find_110 ?_
                  refine lv_icmp_le (tgt := 119) hx hb d_M_find_111 (by decide) (fun c_14 => ?_) (fun c_14 => ?_)
                  · refine lv_iload hx hb d_M_find_119 (lv_at hl 1 rfl) ?_
                    refine lv_istore (lv' := [(6, .int (nI b)), (8, .int 1), (7, .int (nI (z + 1))), (0, .ref (a 0)), (1, .int ad), (2, .int w), (3, .int cl), (4, .long d)]) hx hb d_M_find_121 hl (by decide) rfl (fun ls hl => ?_)
                    refine lv_iinc (v := nI z) (lv' := [(7, .int (nI z)), (6, .int (nI b)), (8, .int 1), (0, .ref (a 0)), (1, .int ad), (2, .int w), (3, .int cl), (4, .long d)]) hx hb d_M_find_123 hl (k := 2) rfl (pk_m1 z) (by decide) rfl (fun ls hl => ?_)
                    refine lv_goto (tgt := 9) hx hb d_M_find_126 (by decide) ?_
                    exact ih b ls (Bst_old hbs hb0 c_14) (by omega) (lv_sub hl [1, 0, 3, 4, 5, 6, 7] rfl)
                  · refine lv_iload hx hb d_M_find_114 (lv_at hl 2 rfl) ?_
                    refine lv_goto (tgt := 121) hx hb d_M_find_116 (by decide) ?_
                    refine lv_istore (lv' := [(6, .int (nI (z + 1))), (8, .int 1), (7, .int (nI (z + 1))), (0, .ref (a 0)), (1, .int ad), (2, .int w), (3, .int cl), (4, .long d)]) hx hb d_M_find_121 hl (by decide) rfl (fun ls hl => ?_)
                    refine lv_iinc (v := nI z) (lv' := [(7, .int (nI z)), (6, .int (nI (z + 1))), (8, .int 1), (0, .ref (a 0)), (1, .int ad), (2, .int w), (3, .int cl), (4, .long d)]) hx hb d_M_find_123 hl (k := 2) rfl (pk_m1 z) (by decide) rfl (fun ls hl => ?_)
                    refine lv_goto (tgt := 9) hx hb d_M_find_126 (by decide) ?_
                    exact ih (z + 1) ls (Bst_new (by omega) hbs hf (Or.inr c_14)) (by omega) (lv_sub hl [1, 0, 3, 4, 5, 6, 7] rfl)
          · refine lv_aload_n hx hb d_M_find_35 rfl (lv_at hl 2 rfl) ?_
            refine va_get (D := D) (ci := 4) (C := R_M) (T := F_M) (N := 17) (v := .ref (a 3)) hx hb ht i_M hown hK hP 0 rfl rfl 4 (by decide) (ht _ tk_265) (fun _ h9 => h9) rfl d_M_find_36 ?_
            refine lv_iload hx hb d_M_find_39 (lv_at hl 1 rfl) ?_
            refine vi_iald (k := z + 1) (f := P) hx hb hK hP 3 0 rfl rfl (by omega) (by omega) d_M_find_41 ?_
            refine lv_iload_n hx hb d_M_find_42 rfl (lv_at hl 4 rfl) ?_
            refine lv_icmp_ne (tgt := 74) hx hb d_M_find_43 (by decide) (fun c_15 => ?_) (fun c_15 => ?_)
            · have hf : qG K E P F U O ad w cl d (z + 1) = false := decide_eq_false (fun h9 => h9.2.1.elim c_5 c_15)
              refine lv_iconst (v := 0) hx hb d_M_find_74 (by decide) ?_
              refine lv_istore (lv' := [(8, .int 0), (6, .int (nI b)), (7, .int (nI (z + 1))), (0, .ref (a 0)), (1, .int ad), (2, .int w), (3, .int cl), (4, .long d)]) hx hb d_M_find_75 hl (by decide) rfl (fun ls hl => ?_)
              refine lv_iload hx hb d_M_find_77 (lv_at hl 0 rfl) ?_
              refine lv_if_eq (tgt := 119) hx hb d_M_find_79 (by decide) (fun _ => ?_) (fun h9 => absurd (by decide) h9)
              refine lv_iload hx hb d_M_find_119 (lv_at hl 1 rfl) ?_
              refine lv_istore (lv' := [(6, .int (nI b)), (8, .int 0), (7, .int (nI (z + 1))), (0, .ref (a 0)), (1, .int ad), (2, .int w), (3, .int cl), (4, .long d)]) hx hb d_M_find_121 hl (by decide) rfl (fun ls hl => ?_)
              refine lv_iinc (v := nI z) (lv' := [(7, .int (nI z)), (6, .int (nI b)), (8, .int 0), (0, .ref (a 0)), (1, .int ad), (2, .int w), (3, .int cl), (4, .long d)]) hx hb d_M_find_123 hl (k := 2) rfl (pk_m1 z) (by decide) rfl (fun ls hl => ?_)
              refine lv_goto (tgt := 9) hx hb d_M_find_126 (by decide) ?_
              exact ih b ls (Bst_no hbs hf) (by omega) (lv_sub hl [1, 0, 3, 4, 5, 6, 7] rfl)
            · refine lv_aload_n hx hb d_M_find_46 rfl (lv_at hl 2 rfl) ?_
              refine va_get (D := D) (ci := 4) (C := R_M) (T := F_M) (N := 17) (v := .ref (a 1)) hx hb ht i_M hown hK hP 0 rfl rfl 2 (by decide) (ht _ tk_263) (fun _ h9 => h9) rfl d_M_find_47 ?_
              refine lv_iload hx hb d_M_find_50 (lv_at hl 1 rfl) ?_
              refine vi_iald (k := z + 1) (f := K) hx hb hK hP 1 0 rfl rfl (by omega) (by omega) d_M_find_52 ?_
              refine lv_iconst (v := 3) hx hb d_M_find_53 (by decide) ?_
              refine lv_irem hx hb d_M_find_54 (by decide) ?_
              refine lv_iload_n hx hb d_M_find_55 rfl (lv_at hl 5 rfl) ?_
              refine lv_icmp_ne (tgt := 74) hx hb d_M_find_56 (by decide) (fun c_17 => ?_) (fun c_17 => ?_)
              · have hf : qG K E P F U O ad w cl d (z + 1) = false := decide_eq_false (fun h9 => c_17 h9.2.2.1)
                refine lv_iconst (v := 0) hx hb d_M_find_74 (by decide) ?_
                refine lv_istore (lv' := [(8, .int 0), (6, .int (nI b)), (7, .int (nI (z + 1))), (0, .ref (a 0)), (1, .int ad), (2, .int w), (3, .int cl), (4, .long d)]) hx hb d_M_find_75 hl (by decide) rfl (fun ls hl => ?_)
                refine lv_iload hx hb d_M_find_77 (lv_at hl 0 rfl) ?_
                refine lv_if_eq (tgt := 119) hx hb d_M_find_79 (by decide) (fun _ => ?_) (fun h9 => absurd (by decide) h9)
                refine lv_iload hx hb d_M_find_119 (lv_at hl 1 rfl) ?_
                refine lv_istore (lv' := [(6, .int (nI b)), (8, .int 0), (7, .int (nI (z + 1))), (0, .ref (a 0)), (1, .int ad), (2, .int w), (3, .int cl), (4, .long d)]) hx hb d_M_find_121 hl (by decide) rfl (fun ls hl => ?_)
                refine lv_iinc (v := nI z) (lv' := [(7, .int (nI z)), (6, .int (nI b)), (8, .int 0), (0, .ref (a 0)), (1, .int ad), (2, .int w), (3, .int cl), (4, .long d)]) hx hb d_M_find_123 hl (k := 2) rfl (pk_m1 z) (by decide) rfl (fun ls hl => ?_)
                refine lv_goto (tgt := 9) hx hb d_M_find_126 (by decide) ?_
                exact ih b ls (Bst_no hbs hf) (by omega) (lv_sub hl [1, 0, 3, 4, 5, 6, 7] rfl)
              · refine lv_aload_n hx hb d_M_find_59 rfl (lv_at hl 2 rfl) ?_
                refine lv_iload hx hb d_M_find_60 (lv_at hl 1 rfl) ?_
                refine lv_lload hx hb d_M_find_62 (lv_at hl 6 rfl) ?_
                refine vp_callSi (W.runV (C := R_M) (As := [.int (nI (z + 1)), .long d]) (rest := []) ⟨hx, hb, hml, hown, ht⟩ (c_M_isForce l (z + 1) d D a cs th n now K E P T V F U M O rk wy rg rf rs (by omega)) (cV_ 2 ht tk_359 tk_356 tk_2 tk_358 ts_M_isForce hd_M_isForce ⟨Nat.le_of_ble_eq_true rfl, Nat.le_of_ble_eq_true rfl⟩) ⟨fun _ _ _ _ q => ⟨q.1, q.2.1, KK.call q.2.2⟩, va_recv (ci := 4) (q0 := 0) hK hP rfl rfl, fun U0 hU hW => ⟨rfl, by rw [hU]; exact hP, KK.warm hK hN hW⟩⟩ rfl rfl hl.1 rfl (lv_room (Nat.le_of_ble_eq_true rfl)) d_M_find_64 ⟨Nat.le_of_ble_eq_true rfl, Nat.le_of_ble_eq_true rfl⟩) (fun r_19 hw_20 => ?_)
                refine lv_if_eq (tgt := 74) hx hb d_M_find_67 (by decide) (fun c_21 => ?_) (fun c_21 => ?_)
                · have c_21 := bl_f hw_20 c_21
                  have hf : qG K E P F U O ad w cl d (z + 1) = false := decide_eq_false (fun h9 => c_21 h9.2.2.2)
                  refine lv_iconst (v := 0) hx hb d_M_find_74 (by decide) ?_
                  refine lv_istore (lv' := [(8, .int 0), (6, .int (nI b)), (7, .int (nI (z + 1))), (0, .ref (a 0)), (1, .int ad), (2, .int w), (3, .int cl), (4, .long d)]) hx hb d_M_find_75 hl (by decide) rfl (fun ls hl => ?_)
                  refine lv_iload hx hb d_M_find_77 (lv_at hl 0 rfl) ?_
                  refine lv_if_eq (tgt := 119) hx hb d_M_find_79 (by decide) (fun _ => ?_) (fun h9 => absurd (by decide) h9)
                  refine lv_iload hx hb d_M_find_119 (lv_at hl 1 rfl) ?_
                  refine lv_istore (lv' := [(6, .int (nI b)), (8, .int 0), (7, .int (nI (z + 1))), (0, .ref (a 0)), (1, .int ad), (2, .int w), (3, .int cl), (4, .long d)]) hx hb d_M_find_121 hl (by decide) rfl (fun ls hl => ?_)
                  refine lv_iinc (v := nI z) (lv' := [(7, .int (nI z)), (6, .int (nI b)), (8, .int 0), (0, .ref (a 0)), (1, .int ad), (2, .int w), (3, .int cl), (4, .long d)]) hx hb d_M_find_123 hl (k := 2) rfl (pk_m1 z) (by decide) rfl (fun ls hl => ?_)
                  refine lv_goto (tgt := 9) hx hb d_M_find_126 (by decide) ?_
                  exact ih b ls (Bst_no hbs hf) (by omega) (lv_sub hl [1, 0, 3, 4, 5, 6, 7] rfl)
                · have c_21 := bl_t hw_20 c_21
                  have hf : qG K E P F U O ad w cl d (z + 1) = true := decide_eq_true ⟨c_3, (Or.inr c_15), c_17, c_21⟩
                  refine lv_iconst (v := 1) hx hb d_M_find_70 (by decide) ?_
                  refine lv_goto (tgt := 75) hx hb d_M_find_71 (by decide) ?_
                  refine lv_istore (lv' := [(8, .int 1), (6, .int (nI b)), (7, .int (nI (z + 1))), (0, .ref (a 0)), (1, .int ad), (2, .int w), (3, .int cl), (4, .long d)]) hx hb d_M_find_75 hl (by decide) rfl (fun ls hl => ?_)
                  refine lv_iload hx hb d_M_find_77 (lv_at hl 0 rfl) ?_
                  refine lv_if_eq (tgt := 119) hx hb d_M_find_79 (by decide) (fun h9 => absurd h9 (by decide)) (fun _ => ?_)
                  refine lv_iload hx hb d_M_find_82 (lv_at hl 1 rfl) ?_
                  refine lv_if_eq (tgt := 114) hx hb d_M_find_84 (by decide) (fun c_24 => ?_) (fun c_24 => ?_)
                  · have hb0 : b = 0 := by rcases hbs with h9 | h9; exact h9.1; exact absurd c_24 (nI_ne0 (by omega) (by omega))
                    refine lv_iload hx hb d_M_find_114 (lv_at hl 2 rfl) ?_
                    refine lv_goto (tgt := 121) hx hb d_M_find_116 (by decide) ?_
                    refine lv_istore (lv' := [(6, .int (nI (z + 1))), (8, .int 1), (7, .int (nI (z + 1))), (0, .ref (a 0)), (1, .int ad), (2, .int w), (3, .int cl), (4, .long d)]) hx hb d_M_find_121 hl (by decide) rfl (fun ls hl => ?_)
                    refine lv_iinc (v := nI z) (lv' := [(7, .int (nI z)), (6, .int (nI (z + 1))), (8, .int 1), (0, .ref (a 0)), (1, .int ad), (2, .int w), (3, .int cl), (4, .long d)]) hx hb d_M_find_123 hl (k := 2) rfl (pk_m1 z) (by decide) rfl (fun ls hl => ?_)
                    refine lv_goto (tgt := 9) hx hb d_M_find_126 (by decide) ?_
                    exact ih (z + 1) ls (Bst_new (by omega) hbs hf (Or.inl hb0)) (by omega) (lv_sub hl [1, 0, 3, 4, 5, 6, 7] rfl)
                  · have hb0 : ¬ b = 0 := fun h9 => c_24 (by rw [h9]; rfl)
                    have hbn : b ≤ n := by rcases hbs with h9 | h9; exact absurd h9.1 hb0; exact h9.2.1
                    refine lv_aload_n hx hb d_M_find_87 rfl (lv_at hl 3 rfl) ?_
                    refine va_get (D := D) (ci := 4) (C := R_M) (T := F_M) (N := 17) (v := .ref (a 10)) hx hb ht i_M hown hK hP 0 rfl rfl 11 (by decide) (ht _ tk_272) (fun _ h9 => h9) rfl d_M_find_88 ?_
                    refine lv_aload_n hx hb d_M_find_91 rfl (lv_at hl 3 rfl) ?_
                    refine va_get (D := D) (ci := 4) (C := R_M) (T := F_M) (N := 17) (v := .ref (a 1)) hx hb ht i_M hown hK hP 0 rfl rfl 2 (by decide) (ht _ tk_263) (fun _ h9 => h9) rfl d_M_find_92 ?_
                    refine lv_iload hx hb d_M_find_95 (lv_at hl 2 rfl) ?_
                    refine vi_iald (k := z + 1) (f := K) hx hb hK hP 1 0 rfl rfl (by omega) (by omega) d_M_find_97 ?_
                    refine va_iald (f := rk) hx hb hK hP 10 0 rfl rfl (hKr (z + 1) (by omega) (by omega)) d_M_find_98 ?_
                    refine lv_aload_n hx hb d_M_find_99 rfl (lv_at hl 3 rfl) ?_
                    refine va_get (D := D) (ci := 4) (C := R_M) (T := F_M) (N := 17) (v := .ref (a 10)) hx hb ht i_M hown hK hP 0 rfl rfl 11 (by decide) (ht _ tk_272) (fun _ h9 => h9) rfl d_M_find_100 ?_
                    refine lv_aload_n hx hb d_M_find_103 rfl (lv_at hl 3 rfl) ?_
                    refine va_get (D := D) (ci := 4) (C := R_M) (T := F_M) (N := 17) (v := .ref (a 1)) hx hb ht i_M hown hK hP 0 rfl rfl 2 (by decide) (ht _ tk_263) (fun _ h9 => h9) rfl d_M_find_104 ?_
                    refine lv_iload hx hb d_M_find_107 (lv_at hl 1 rfl) ?_
                    refine vi_iald (k := b) (f := K) hx hb hK hP 1 0 rfl rfl (by omega) (by omega) d_M_find_109 ?_
                    refine va_iald (f := rk) hx hb hK hP 10 0 rfl rfl (hKr b (by omega) hbn) d_M_find_110 ?_
                    refine lv_icmp_le (tgt := 119) hx hb d_M_find_111 (by decide) (fun c_25 => ?_) (fun c_25 => ?_)
                    · refine lv_iload hx hb d_M_find_119 (lv_at hl 1 rfl) ?_
                      refine lv_istore (lv' := [(6, .int (nI b)), (8, .int 1), (7, .int (nI (z + 1))), (0, .ref (a 0)), (1, .int ad), (2, .int w), (3, .int cl), (4, .long d)]) hx hb d_M_find_121 hl (by decide) rfl (fun ls hl => ?_)
                      refine lv_iinc (v := nI z) (lv' := [(7, .int (nI z)), (6, .int (nI b)), (8, .int 1), (0, .ref (a 0)), (1, .int ad), (2, .int w), (3, .int cl), (4, .long d)]) hx hb d_M_find_123 hl (k := 2) rfl (pk_m1 z) (by decide) rfl (fun ls hl => ?_)
                      refine lv_goto (tgt := 9) hx hb d_M_find_126 (by decide) ?_
                      exact ih b ls (Bst_old hbs hb0 c_25) (by omega) (lv_sub hl [1, 0, 3, 4, 5, 6, 7] rfl)
                    · refine lv_iload hx hb d_M_find_114 (lv_at hl 2 rfl) ?_
                      refine lv_goto (tgt := 121) hx hb d_M_find_116 (by decide) ?_
                      refine lv_istore (lv' := [(6, .int (nI (z + 1))), (8, .int 1), (7, .int (nI (z + 1))), (0, .ref (a 0)), (1, .int ad), (2, .int w), (3, .int cl), (4, .long d)]) hx hb d_M_find_121 hl (by decide) rfl (fun ls hl => ?_)
                      refine lv_iinc (v := nI z) (lv' := [(7, .int (nI z)), (6, .int (nI (z + 1))), (8, .int 1), (0, .ref (a 0)), (1, .int ad), (2, .int w), (3, .int cl), (4, .long d)]) hx hb d_M_find_123 hl (k := 2) rfl (pk_m1 z) (by decide) rfl (fun ls hl => ?_)
                      refine lv_goto (tgt := 9) hx hb d_M_find_126 (by decide) ?_
                      exact ih (z + 1) ls (Bst_new (by omega) hbs hf (Or.inr c_25)) (by omega) (lv_sub hl [1, 0, 3, 4, 5, 6, 7] rfl)
  exact loop n 0 ls Bst_top (Nat.le_refl n) (lv_sub hl [1, 0, 2, 3, 4, 5, 6] rfl)
set_option maxHeartbeats 4000000 in
set_option maxRecDepth 100000 in
/-- the reference: told(sender, i) -/
theorem c_M_told (l : Launch) (sd : Int32) (i : Int32) (D : va_G) (a cs : Nat → Nat) (th : Int32) (n : Nat) (now : Int64) (K E P T V : Nat → Int32) (F U M O : Nat → Int64) (rk wy rg : Nat → Int32) (rf rs : Int32) (hn : n ≤ 200) (sz : Nat) : Met l y_M_told (Cond.code y_M_told b_M_told 6 (some .int) :: wt) ({ frames := 2, cells := 0, slots := 0, locals := 48 }) (va_Pc [.ref (a 0), .int sd, .int i] (fun S0 => S0.heap.size = sz ∧ va_P D classes (mW a cs th n now K E P T V F U M O rk wy rg rf rs) S0.heap ∧ KK D cs S0 ∧ va_D (fun _ => True) (mW a cs th n now K E P T V F U M O rk wy rg rf rs))) (va_Qi (fun (r : Int32) (_ : Unit) => ((sd.toInt64 < 0 ∨ ¬ sd.toInt64 ≤ 49) ∧ r = -101) ∨ (¬ (sd.toInt64 < 0 ∨ ¬ sd.toInt64 ≤ 49) ∧ TD (qU K P V F U O now sd) n i r)) (fun (_ : Unit) S1 => va_P D classes (mW a cs 0 n now K E P T V F U M O rk wy rg rf rs) S1.heap ∧ va_D (va_A (mW a cs th n now K E P T V F U M O rk wy rg rf rs) sz) (mW a cs 0 n now K E P T V F U M O rk wy rg rf rs)) (va_A (mW a cs th n now K E P T V F U M O rk wy rg rf rs) sz)) 0 0 (va_A (mW a cs th n now K E P T V F U M O rk wy rg rf rs) sz) := by
  refine Met.ofW (cc := b_M_told) (maxL := 6) (ret := (some .int)) (by decide) rfl ?_
  intro p e s m args below meth c s₁ B hml hv
  obtain ⟨rfl, hsz, hP, ⟨hK, hN⟩, hD0⟩ := hv
  have hx := B.exec
  have hb := B.bytes
  have hr := B.returns
  have ht : ∀ w ∈ wt, w.before _ s = true := fun w h => atoms_spec (ws := _ :: wt) B.pre w (List.mem_cons_of_mem _ h)
  have hown : s.vm.findClass R_M = some m.cls := findClass_of_methodNamed B.named
  have hlocks := B.notSynchronized
  subst hsz
  have hD := hD0.self (sz := s.heap.size)
  generalize hAe : va_A (mW a cs th n now K E P T V F U M O rk wy rg rf rs) s.heap.size = A at hD ⊢
  have hA : ∀ q : Nat, s.heap.size ≤ q → A q := fun q h => by rw [← hAe]; exact Or.inr h
  have hS : va_S A s.heap s.heap [] := va_S.rf
  have hl := lv_entry ([.ref (a 0), .int sd, .int i]) (n := 6) (Nat.le_of_ble_eq_true rfl)
  rw [lg_entry_eq]
  generalize (lg_sl ([.ref (a 0), .int sd, .int i]) ++ List.replicate (6 - (lg_sl ([.ref (a 0), .int sd, .int i])).length) Slot.unset).toArray = ls at hl ⊢
  have hl : lv_has ls 6 [(0, .ref (a 0)), (1, .int sd), (2, .int i)] := hl
  refine W.nameQ (fun Q hQe => ?_)
  refine lv_aload_n hx hb d_M_told_0 rfl (lv_at hl 0 rfl) ?_
  refine lv_iconst (v := 0) hx hb d_M_told_1 (by decide) ?_
  refine va_put (D := D) (ci := 4) (C := R_M) (T := F_M) (N := 17) (v := .int 0) (ty := .int) hx hb ht i_M t_M t_M_ok n_M hown hK hP hD hS 0 rfl rfl 0 (by decide) (ht _ tk_261) (fun _ h9 => h9) rfl (by decide +kernel) rfl rfl (Nat.le_of_ble_eq_true rfl) d_M_told_2 (fun H locs hP hD hS => ?_)
  have hP : va_P D classes (mW a cs 0 n now K E P T V F U M O rk wy rg rf rs) H := hP
  have hD : va_D A (mW a cs 0 n now K E P T V F U M O rk wy rg rf rs) := hD
  refine lv_iload_n hx hb d_M_told_5 rfl (lv_at hl 1 rfl) ?_
  refine lv_i2l (v := sd.toInt64) hx hb d_M_told_6 rfl ?_
  refine lv_lconst (v := 0) hx hb d_M_told_7 (by decide) ?_
  refine lv_ldc2 (v := 49) hx hb hown (ht _ tk_322) d_M_told_8 ?_
  refine vp_callSi (W.runS (As := [.long sd.toInt64, .long 0, .long 49]) (rest := []) ⟨hx, hb, hml, hown, ht⟩ (c_M_isIn l sd.toInt64 0 49) (cS_ 3 ht tk_320 tk_318 tk_2 tk_319 hd_M_isIn ⟨Nat.le_of_ble_eq_true rfl, Nat.le_of_ble_eq_true rfl⟩) ⟨fun _ _ _ _ q => q, fun _ _ _ => ⟨rfl, trivial⟩⟩ rfl rfl hl.1 rfl (lv_room (Nat.le_of_ble_eq_true rfl)) d_M_told_11 ⟨Nat.le_of_ble_eq_true rfl, Nat.le_of_ble_eq_true rfl⟩) (fun r_1 hw_2 => ?_)
  refine lv_if_ne (tgt := 20) hx hb d_M_told_14 (by decide) (fun c_3 => ?_) (fun c_3 => ?_)
  · have c_3 := bl_t hw_2 c_3
    refine lv_iconst (v := 0) hx hb d_M_told_20 (by decide) ?_
    refine lv_istore_n (lv' := [(3, .int 0), (0, .ref (a 0)), (1, .int sd), (2, .int i)]) hx hb d_M_told_21 rfl hl (by decide) rfl (fun ls hl => ?_)
    refine lv_iconst (v := 1) hx hb d_M_told_22 (by decide) ?_
    refine lv_istore (lv' := [(4, .int 1), (3, .int 0), (0, .ref (a 0)), (1, .int sd), (2, .int i)]) hx hb d_M_told_23 hl (by decide) rfl (fun ls hl => ?_)
    have hsd := inM_iff.mp c_3
    have loop : ∀ (z : Nat) (j : Nat) (H : Heap) (locs : List Loc) (ls : Array Slot), (j + z = n) → (∀ j1, j1 < j → qU K P V F U O now sd (j1 + 1) = true → ¬ nI (cnt (qU K P V F U O now sd) j1) = i) → va_P D classes (mW a cs 0 n now K E P T V F U M O rk wy rg rf rs) H → va_D A (mW a cs 0 n now K E P T V F U M O rk wy rg rf rs) → va_S A s.heap H locs → lv_has ls 6 [(3, .int (nI (cnt (qU K P V F U O now sd) j))), (4, .int (nI (j + 1))), (0, .ref (a 0)), (1, .int sd), (2, .int i)] → W p l e ({ frames := 2, cells := 0, slots := 0, locals := 48 } : Room) s m ([.ref (a 0), .int sd, .int i] : List Value).toArray below meth c H locs 0 0 Q (F0 m 25 ls []) := by
      intro z
      induction z with
      | zero =>
        intro j H locs ls hj hno hP hD hS hl
        refine lv_iload hx hb d_M_told_25 (lv_at hl 1 rfl) ?_
        refine lv_aload_n hx hb d_M_told_27 rfl (lv_at hl 2 rfl) ?_
        refine va_get (D := D) (ci := 4) (C := R_M) (T := F_M) (N := 17) (v := .int (nI n)) hx hb ht i_M hown hK hP 0 rfl rfl 1 (by decide) (ht _ tk_262) (fun _ h9 => h9) rfl d_M_told_28 ?_
        refine lv_icmp_gt (tgt := 118) hx hb d_M_told_31 (by decide) (fun c_4 => ?_) (fun c_4 => ?_)
        · refine lv_iconst (v := 0) hx hb d_M_told_118 (by decide) ?_
          rw [hQe]
          exact W.iret (v := 0) hx hb hr (fun t9 ht9 hW => ⟨⟨0, (), rfl, Or.inr ⟨hsd, Or.inr ⟨fun j1 h1 => hno j1 (by omega), rfl⟩⟩, by rw [ht9]; exact hP, hD⟩, hS.F ht9⟩) hS.2.2 d_M_told_119
        · exact absurd (nI_lt (by omega) (by omega)) c_4
      | succ z ih =>
        intro j H locs ls hj hno hP hD hS hl
        refine lv_iload hx hb d_M_told_25 (lv_at hl 1 rfl) ?_
        refine lv_aload_n hx hb d_M_told_27 rfl (lv_at hl 2 rfl) ?_
        refine va_get (D := D) (ci := 4) (C := R_M) (T := F_M) (N := 17) (v := .int (nI n)) hx hb ht i_M hown hK hP 0 rfl rfl 1 (by decide) (ht _ tk_262) (fun _ h9 => h9) rfl d_M_told_28 ?_
        refine lv_icmp_gt (tgt := 118) hx hb d_M_told_31 (by decide) (fun c_5 => ?_) (fun c_5 => ?_)
        · exact absurd c_5 (nI_nlt (by omega) (by omega))
        · refine lv_aload_n hx hb d_M_told_34 rfl (lv_at hl 2 rfl) ?_
          refine va_get (D := D) (ci := 4) (C := R_M) (T := F_M) (N := 17) (v := .ref (a 3)) hx hb ht i_M hown hK hP 0 rfl rfl 4 (by decide) (ht _ tk_265) (fun _ h9 => h9) rfl d_M_told_35 ?_
          refine lv_iload hx hb d_M_told_38 (lv_at hl 1 rfl) ?_
          refine vi_iald (k := j + 1) (f := P) hx hb hK hP 3 0 rfl rfl (by omega) (by omega) d_M_told_40 ?_
          refine lv_iload_n hx hb d_M_told_41 rfl (lv_at hl 3 rfl) ?_
          refine lv_icmp_ne (tgt := 83) hx hb d_M_told_42 (by decide) (fun c_6 => ?_) (fun c_6 => ?_)
          · have hf : qU K P V F U O now sd (j + 1) = false := decide_eq_false (fun h9 => c_6 h9.1)
            refine lv_iconst (v := 0) hx hb d_M_told_83 (by decide) ?_
            refine lv_istore (lv' := [(5, .int 0), (3, .int (nI (cnt (qU K P V F U O now sd) j))), (4, .int (nI (j + 1))), (0, .ref (a 0)), (1, .int sd), (2, .int i)]) hx hb d_M_told_84 hl (by decide) rfl (fun ls hl => ?_)
            refine lv_iload hx hb d_M_told_86 (lv_at hl 0 rfl) ?_
            refine lv_if_eq (tgt := 99) hx hb d_M_told_88 (by decide) (fun _ => ?_) (fun h9 => absurd (by decide) h9)
            refine lv_iload hx hb d_M_told_99 (lv_at hl 0 rfl) ?_
            refine lv_if_eq (tgt := 110) hx hb d_M_told_101 (by decide) (fun _ => ?_) (fun h9 => absurd (by decide) h9)
            refine lv_iload_n hx hb d_M_told_110 rfl (lv_at hl 1 rfl) ?_
            refine lv_istore_n (lv' := [(3, .int (nI (cnt (qU K P V F U O now sd) j))), (5, .int 0), (4, .int (nI (j + 1))), (0, .ref (a 0)), (1, .int sd), (2, .int i)]) hx hb d_M_told_111 rfl hl (by decide) rfl (fun ls hl => ?_)
            refine lv_iinc (v := nI (j + 2)) (lv' := [(4, .int (nI (j + 2))), (3, .int (nI (cnt (qU K P V F U O now sd) j))), (5, .int 0), (0, .ref (a 0)), (1, .int sd), (2, .int i)]) hx hb d_M_told_112 hl (k := 2) rfl (show nI (j + 1) + 1 = _ from nI_1 (j + 1)) (by decide) rfl (fun ls hl => ?_)
            refine lv_goto (tgt := 25) hx hb d_M_told_115 (by decide) ?_
            refine ih (j + 1) H locs ls (by omega) (fun j1 h1 e1 => ?_) hP hD hS (by rw [cnt_f hf]; exact lv_sub hl [1, 0, 3, 4, 5] rfl)
            rcases Nat.lt_or_ge j1 j with h2 | h2
            · exact hno j1 h2 e1
            · have h3 : j1 = j := by omega
              rw [h3, hf] at e1
              exact absurd e1 (by decide)
          · refine lv_aload_n hx hb d_M_told_45 rfl (lv_at hl 2 rfl) ?_
            refine va_get (D := D) (ci := 4) (C := R_M) (T := F_M) (N := 17) (v := .ref (a 8)) hx hb ht i_M hown hK hP 0 rfl rfl 9 (by decide) (ht _ tk_270) (fun _ h9 => h9) rfl d_M_told_46 ?_
            refine lv_iload hx hb d_M_told_49 (lv_at hl 1 rfl) ?_
            refine vi_zald (k := j + 1) (f := V) hx hb hK hP 8 1 rfl rfl (by omega) (by omega) d_M_told_51 ?_
            refine lv_if_eq (tgt := 83) hx hb d_M_told_52 (by decide) (fun c_9 => ?_) (fun c_9 => ?_)
            · have hf : qU K P V F U O now sd (j + 1) = false := decide_eq_false (fun h9 => h9.2.1 c_9)
              refine lv_iconst (v := 0) hx hb d_M_told_83 (by decide) ?_
              refine lv_istore (lv' := [(5, .int 0), (3, .int (nI (cnt (qU K P V F U O now sd) j))), (4, .int (nI (j + 1))), (0, .ref (a 0)), (1, .int sd), (2, .int i)]) hx hb d_M_told_84 hl (by decide) rfl (fun ls hl => ?_)
              refine lv_iload hx hb d_M_told_86 (lv_at hl 0 rfl) ?_
              refine lv_if_eq (tgt := 99) hx hb d_M_told_88 (by decide) (fun _ => ?_) (fun h9 => absurd (by decide) h9)
              refine lv_iload hx hb d_M_told_99 (lv_at hl 0 rfl) ?_
              refine lv_if_eq (tgt := 110) hx hb d_M_told_101 (by decide) (fun _ => ?_) (fun h9 => absurd (by decide) h9)
              refine lv_iload_n hx hb d_M_told_110 rfl (lv_at hl 1 rfl) ?_
              refine lv_istore_n (lv' := [(3, .int (nI (cnt (qU K P V F U O now sd) j))), (5, .int 0), (4, .int (nI (j + 1))), (0, .ref (a 0)), (1, .int sd), (2, .int i)]) hx hb d_M_told_111 rfl hl (by decide) rfl (fun ls hl => ?_)
              refine lv_iinc (v := nI (j + 2)) (lv' := [(4, .int (nI (j + 2))), (3, .int (nI (cnt (qU K P V F U O now sd) j))), (5, .int 0), (0, .ref (a 0)), (1, .int sd), (2, .int i)]) hx hb d_M_told_112 hl (k := 2) rfl (show nI (j + 1) + 1 = _ from nI_1 (j + 1)) (by decide) rfl (fun ls hl => ?_)
              refine lv_goto (tgt := 25) hx hb d_M_told_115 (by decide) ?_
              refine ih (j + 1) H locs ls (by omega) (fun j1 h1 e1 => ?_) hP hD hS (by rw [cnt_f hf]; exact lv_sub hl [1, 0, 3, 4, 5] rfl)
              rcases Nat.lt_or_ge j1 j with h2 | h2
              · exact hno j1 h2 e1
              · have h3 : j1 = j := by omega
                rw [h3, hf] at e1
                exact absurd e1 (by decide)
            · refine lv_aload_n hx hb d_M_told_55 rfl (lv_at hl 2 rfl) ?_
              refine va_get (D := D) (ci := 4) (C := R_M) (T := F_M) (N := 17) (v := .ref (a 1)) hx hb ht i_M hown hK hP 0 rfl rfl 2 (by decide) (ht _ tk_263) (fun _ h9 => h9) rfl d_M_told_56 ?_
              refine lv_iload hx hb d_M_told_59 (lv_at hl 1 rfl) ?_
              refine vi_iald (k := j + 1) (f := K) hx hb hK hP 1 0 rfl rfl (by omega) (by omega) d_M_told_61 ?_
              refine lv_iconst (v := 3) hx hb d_M_told_62 (by decide) ?_
              refine lv_icmp_ge (tgt := 83) hx hb d_M_told_63 (by decide) (fun c_12 => ?_) (fun c_12 => ?_)
              · have hf : qU K P V F U O now sd (j + 1) = false := decide_eq_false (fun h9 => h9.2.2.1 c_12)
                refine lv_iconst (v := 0) hx hb d_M_told_83 (by decide) ?_
                refine lv_istore (lv' := [(5, .int 0), (3, .int (nI (cnt (qU K P V F U O now sd) j))), (4, .int (nI (j + 1))), (0, .ref (a 0)), (1, .int sd), (2, .int i)]) hx hb d_M_told_84 hl (by decide) rfl (fun ls hl => ?_)
                refine lv_iload hx hb d_M_told_86 (lv_at hl 0 rfl) ?_
                refine lv_if_eq (tgt := 99) hx hb d_M_told_88 (by decide) (fun _ => ?_) (fun h9 => absurd (by decide) h9)
                refine lv_iload hx hb d_M_told_99 (lv_at hl 0 rfl) ?_
                refine lv_if_eq (tgt := 110) hx hb d_M_told_101 (by decide) (fun _ => ?_) (fun h9 => absurd (by decide) h9)
                refine lv_iload_n hx hb d_M_told_110 rfl (lv_at hl 1 rfl) ?_
                refine lv_istore_n (lv' := [(3, .int (nI (cnt (qU K P V F U O now sd) j))), (5, .int 0), (4, .int (nI (j + 1))), (0, .ref (a 0)), (1, .int sd), (2, .int i)]) hx hb d_M_told_111 rfl hl (by decide) rfl (fun ls hl => ?_)
                refine lv_iinc (v := nI (j + 2)) (lv' := [(4, .int (nI (j + 2))), (3, .int (nI (cnt (qU K P V F U O now sd) j))), (5, .int 0), (0, .ref (a 0)), (1, .int sd), (2, .int i)]) hx hb d_M_told_112 hl (k := 2) rfl (show nI (j + 1) + 1 = _ from nI_1 (j + 1)) (by decide) rfl (fun ls hl => ?_)
                refine lv_goto (tgt := 25) hx hb d_M_told_115 (by decide) ?_
                refine ih (j + 1) H locs ls (by omega) (fun j1 h1 e1 => ?_) hP hD hS (by rw [cnt_f hf]; exact lv_sub hl [1, 0, 3, 4, 5] rfl)
                rcases Nat.lt_or_ge j1 j with h2 | h2
                · exact hno j1 h2 e1
                · have h3 : j1 = j := by omega
                  rw [h3, hf] at e1
                  exact absurd e1 (by decide)
              · refine lv_aload_n hx hb d_M_told_66 rfl (lv_at hl 2 rfl) ?_
                refine lv_iload hx hb d_M_told_67 (lv_at hl 1 rfl) ?_
                refine lv_aload_n hx hb d_M_told_69 rfl (lv_at hl 2 rfl) ?_
                refine va_get (D := D) (ci := 4) (C := R_M) (T := F_M) (N := 17) (v := .long now) hx hb ht i_M hown hK hP 0 rfl rfl 12 (by decide) (ht _ tk_273) (fun _ h9 => h9) rfl d_M_told_70 ?_
                refine vp_callSi (W.runV (C := R_M) (As := [.int (nI (j + 1)), .long now]) (rest := []) ⟨hx, hb, hml, hown, ht⟩ (c_M_isForce l (j + 1) now D a cs 0 n now K E P T V F U M O rk wy rg rf rs (by omega)) (cV_ 2 ht tk_359 tk_356 tk_2 tk_358 ts_M_isForce hd_M_isForce ⟨Nat.le_of_ble_eq_true rfl, Nat.le_of_ble_eq_true rfl⟩) ⟨fun _ _ _ _ q => ⟨q.1, q.2.1, KK.call q.2.2⟩, va_recv (ci := 4) (q0 := 0) hK hP rfl rfl, fun U0 hU hW => ⟨rfl, by rw [hU]; exact hP, KK.warm hK hN hW⟩⟩ rfl rfl hl.1 rfl (lv_room (Nat.le_of_ble_eq_true rfl)) d_M_told_73 ⟨Nat.le_of_ble_eq_true rfl, Nat.le_of_ble_eq_true rfl⟩) (fun r_15 hw_16 => ?_)
                refine lv_if_eq (tgt := 83) hx hb d_M_told_76 (by decide) (fun c_17 => ?_) (fun c_17 => ?_)
                · have c_17 := bl_f hw_16 c_17
                  have hf : qU K P V F U O now sd (j + 1) = false := decide_eq_false (fun h9 => c_17 h9.2.2.2)
                  refine lv_iconst (v := 0) hx hb d_M_told_83 (by decide) ?_
                  refine lv_istore (lv' := [(5, .int 0), (3, .int (nI (cnt (qU K P V F U O now sd) j))), (4, .int (nI (j + 1))), (0, .ref (a 0)), (1, .int sd), (2, .int i)]) hx hb d_M_told_84 hl (by decide) rfl (fun ls hl => ?_)
                  refine lv_iload hx hb d_M_told_86 (lv_at hl 0 rfl) ?_
                  refine lv_if_eq (tgt := 99) hx hb d_M_told_88 (by decide) (fun _ => ?_) (fun h9 => absurd (by decide) h9)
                  refine lv_iload hx hb d_M_told_99 (lv_at hl 0 rfl) ?_
                  refine lv_if_eq (tgt := 110) hx hb d_M_told_101 (by decide) (fun _ => ?_) (fun h9 => absurd (by decide) h9)
                  refine lv_iload_n hx hb d_M_told_110 rfl (lv_at hl 1 rfl) ?_
                  refine lv_istore_n (lv' := [(3, .int (nI (cnt (qU K P V F U O now sd) j))), (5, .int 0), (4, .int (nI (j + 1))), (0, .ref (a 0)), (1, .int sd), (2, .int i)]) hx hb d_M_told_111 rfl hl (by decide) rfl (fun ls hl => ?_)
                  refine lv_iinc (v := nI (j + 2)) (lv' := [(4, .int (nI (j + 2))), (3, .int (nI (cnt (qU K P V F U O now sd) j))), (5, .int 0), (0, .ref (a 0)), (1, .int sd), (2, .int i)]) hx hb d_M_told_112 hl (k := 2) rfl (show nI (j + 1) + 1 = _ from nI_1 (j + 1)) (by decide) rfl (fun ls hl => ?_)
                  refine lv_goto (tgt := 25) hx hb d_M_told_115 (by decide) ?_
                  refine ih (j + 1) H locs ls (by omega) (fun j1 h1 e1 => ?_) hP hD hS (by rw [cnt_f hf]; exact lv_sub hl [1, 0, 3, 4, 5] rfl)
                  rcases Nat.lt_or_ge j1 j with h2 | h2
                  · exact hno j1 h2 e1
                  · have h3 : j1 = j := by omega
                    rw [h3, hf] at e1
                    exact absurd e1 (by decide)
                · have c_17 := bl_t hw_16 c_17
                  have hf : qU K P V F U O now sd (j + 1) = true := decide_eq_true ⟨c_6, c_9, c_12, c_17⟩
                  refine lv_iconst (v := 1) hx hb d_M_told_79 (by decide) ?_
                  refine lv_goto (tgt := 84) hx hb d_M_told_80 (by decide) ?_
                  refine lv_istore (lv' := [(5, .int 1), (3, .int (nI (cnt (qU K P V F U O now sd) j))), (4, .int (nI (j + 1))), (0, .ref (a 0)), (1, .int sd), (2, .int i)]) hx hb d_M_told_84 hl (by decide) rfl (fun ls hl => ?_)
                  refine lv_iload hx hb d_M_told_86 (lv_at hl 0 rfl) ?_
                  refine lv_if_eq (tgt := 99) hx hb d_M_told_88 (by decide) (fun h9 => absurd h9 (by decide)) (fun _ => ?_)
                  refine lv_iload_n hx hb d_M_told_91 rfl (lv_at hl 1 rfl) ?_
                  refine lv_iload_n hx hb d_M_told_92 rfl (lv_at hl 5 rfl) ?_
                  refine lv_icmp_ne (tgt := 99) hx hb d_M_told_93 (by decide) (fun c_21 => ?_) (fun c_21 => ?_)
                  · refine lv_iload hx hb d_M_told_99 (lv_at hl 0 rfl) ?_
                    refine lv_if_eq (tgt := 110) hx hb d_M_told_101 (by decide) (fun h9 => absurd h9 (by decide)) (fun _ => ?_)
                    refine lv_iload_n hx hb d_M_told_104 rfl (lv_at hl 1 rfl) ?_
                    refine lv_iconst (v := 1) hx hb d_M_told_105 (by decide) ?_
                    refine lv_iadd hx hb d_M_told_106 ?_
                    refine lv_goto (tgt := 111) hx hb d_M_told_107 (by decide) ?_
                    rw [nI_1, ← cnt_t hf]
                    refine lv_istore_n (lv' := [(3, .int (nI (cnt (qU K P V F U O now sd) (j + 1)))), (5, .int 1), (4, .int (nI (j + 1))), (0, .ref (a 0)), (1, .int sd), (2, .int i)]) hx hb d_M_told_111 rfl hl (by decide) rfl (fun ls hl => ?_)
                    refine lv_iinc (v := nI (j + 2)) (lv' := [(4, .int (nI (j + 2))), (3, .int (nI (cnt (qU K P V F U O now sd) (j + 1)))), (5, .int 1), (0, .ref (a 0)), (1, .int sd), (2, .int i)]) hx hb d_M_told_112 hl (k := 2) rfl (show nI (j + 1) + 1 = _ from nI_1 (j + 1)) (by decide) rfl (fun ls hl => ?_)
                    refine lv_goto (tgt := 25) hx hb d_M_told_115 (by decide) ?_
                    refine ih (j + 1) H locs ls (by omega) (fun j1 h1 e1 => ?_) hP hD hS (lv_sub hl [1, 0, 3, 4, 5] rfl)
                    rcases Nat.lt_or_ge j1 j with h2 | h2
                    · exact hno j1 h2 e1
                    · have h3 : j1 = j := by omega
                      rw [h3]
                      exact c_21
                  · refine lv_iload hx hb d_M_told_96 (lv_at hl 2 rfl) ?_
                    rw [hQe]
                    exact W.iret (v := nI (j + 1)) hx hb hr (fun t9 ht9 hW => ⟨⟨nI (j + 1), (), rfl, Or.inr ⟨hsd, Or.inl ⟨j, by omega, hf, c_21, rfl⟩⟩, by rw [ht9]; exact hP, hD⟩, hS.F ht9⟩) hS.2.2 d_M_told_98
    exact loop n 0 H locs ls (by omega) (fun j1 h1 => absurd h1 (by omega)) hP hD hS (lv_sub hl [1, 0, 2, 3, 4] rfl)
  · have c_3 := bl_f hw_2 c_3
    refine lv_bipush (v := (-101)) hx hb d_M_told_17 (by decide) ?_
    rw [hQe]
    exact W.iret (v := (-101)) hx hb hr (fun t9 ht9 hW => ⟨⟨(-101), (), rfl, Or.inl ⟨Classical.byContradiction (fun h9 => c_3 (inM_iff.mpr h9)), rfl⟩, by rw [ht9]; exact hP, hD⟩, hS.F ht9⟩) hS.2.2 d_M_told_19
/-- the reference: the order that counts for an address -/
def fzM (n : Nat) (K E P : Nat → Int32) (F U O : Nat → Int64) (rk : Nat → Int32) (wh kd : Int32) (dy : Int64) (a : Int32) : Nat := fdR (qG K E P F U O a wh kd dy) (rvK K rk) n
theorem fzM_le {n : Nat} {K E P : Nat → Int32} {F U O : Nat → Int64} {rk : Nat → Int32} {wh kd : Int32} {dy : Int64} {a : Int32} : fzM n K E P F U O rk wh kd dy a ≤ n := fdR_le _ _ _
abbrev QeffM (n : Nat) (K E P T : Nat → Int32) (F U O : Nat → Int64) (rk rg : Nat → Int32) (rs en wh kd : Int32) (dy : Int64) (r : Int32) (rg1 : Nat → Int32) (rs1 : Int32) : Prop :=
  (unkE en wh ∧ r = -101 ∧ rg1 = rg ∧ rs1 = rs) ∨ (¬ unkE en wh ∧ outE kd dy ∧ r = -102 ∧ rg1 = rg ∧ rs1 = rs) ∨ (¬ unkE en wh ∧ ¬ outE kd dy ∧ EFF (fzM n K E P F U O rk wh kd dy) K T rg rs en r rg1 rs1)
/-- the first j of the ring are told -/
def cpl (wy rg : Nat → Int32) (f j : Nat) : Nat → Int32 := fun x => if x < j then wy (f + x) else rg x
theorem cpl_0 {wy rg : Nat → Int32} {f : Nat} : cpl wy rg f 0 = rg := by
  funext x
  exact if_neg (by omega)
theorem cpl_s {wy rg : Nat → Int32} {f j : Nat} : upd (cpl wy rg f j) j (wy (f + j)) = cpl wy rg f (j + 1) := by
  funext x
  by_cases h : x = j
  · subst h
    rw [pk_us]
    exact (if_pos (by omega)).symm
  · rw [pk_un h]
    unfold cpl
    by_cases c : x < j
    · rw [if_pos c, if_pos (by omega)]
    · rw [if_neg c, if_neg (by omega)]
set_option maxHeartbeats 4000000 in
set_option maxRecDepth 100000 in
/-- the reference: effective(entry, who, class, day) -/
theorem c_M_effective (l : Launch) (en : Int32) (wh : Int32) (kd : Int32) (dy : Int64) (D : va_G) (a cs : Nat → Nat) (th : Int32) (n : Nat) (now : Int64) (K E P T V : Nat → Int32) (F U M O : Nat → Int64) (rk wy rg : Nat → Int32) (rf rs : Int32) (hn : n ≤ 200) (hKr : ∀ k, 1 ≤ k → k ≤ n → vp_in (K k) 9) (hT : ∀ k, 1 ≤ k → k ≤ n → K k < 3 → ∃ x, 1 ≤ x ∧ x ≤ 99 ∧ T k = nI x) (sz : Nat) : Met l y_M_effective (Cond.code y_M_effective b_M_effective 10 (some .int) :: wt) ({ frames := 3, cells := 0, slots := 0, locals := 76 }) (va_Pc [.ref (a 0), .int en, .int wh, .int kd, .long dy] (fun S0 => S0.heap.size = sz ∧ va_P D classes (mW a cs th n now K E P T V F U M O rk wy rg rf rs) S0.heap ∧ KK D cs S0 ∧ va_D (fun _ => True) (mW a cs th n now K E P T V F U M O rk wy rg rf rs))) (va_Qi (fun r u => QeffM n K E P T F U O rk rg rs en wh kd dy r u.2.1 u.2.2) (fun (u : (Nat → Int32) × (Nat → Int32) × Int32) S1 => va_P D classes (mW a cs 0 n now K E P T V F U M O rk u.1 u.2.1 rf u.2.2) S1.heap ∧ va_D (va_A (mW a cs th n now K E P T V F U M O rk wy rg rf rs) sz) (mW a cs 0 n now K E P T V F U M O rk u.1 u.2.1 rf u.2.2)) (va_A (mW a cs th n now K E P T V F U M O rk wy rg rf rs) sz)) 0 0 (va_A (mW a cs th n now K E P T V F U M O rk wy rg rf rs) sz) := by
  refine Met.ofW (cc := b_M_effective) (maxL := 10) (ret := (some .int)) (by decide) rfl ?_
  intro p e s m args below meth c s₁ B hml hv
  obtain ⟨rfl, hsz, hP, ⟨hK, hN⟩, hD0⟩ := hv
  have hx := B.exec
  have hb := B.bytes
  have hr := B.returns
  have ht : ∀ w ∈ wt, w.before _ s = true := fun w h => atoms_spec (ws := _ :: wt) B.pre w (List.mem_cons_of_mem _ h)
  have hown : s.vm.findClass R_M = some m.cls := findClass_of_methodNamed B.named
  have hlocks := B.notSynchronized
  subst hsz
  have hD := hD0.self (sz := s.heap.size)
  generalize hAe : va_A (mW a cs th n now K E P T V F U M O rk wy rg rf rs) s.heap.size = A at hD ⊢
  have hA : ∀ q : Nat, s.heap.size ≤ q → A q := fun q h => by rw [← hAe]; exact Or.inr h
  have hS : va_S A s.heap s.heap [] := va_S.rf
  have hl := lv_entry ([.ref (a 0), .int en, .int wh, .int kd, .long dy]) (n := 10) (Nat.le_of_ble_eq_true rfl)
  rw [lg_entry_eq]
  generalize (lg_sl ([.ref (a 0), .int en, .int wh, .int kd, .long dy]) ++ List.replicate (10 - (lg_sl ([.ref (a 0), .int en, .int wh, .int kd, .long dy])).length) Slot.unset).toArray = ls at hl ⊢
  have hl : lv_has ls 10 [(0, .ref (a 0)), (1, .int en), (2, .int wh), (3, .int kd), (4, .long dy)] := hl
  refine W.nameQ (fun Q hQe => ?_)
  refine lv_aload_n hx hb d_M_effective_0 rfl (lv_at hl 0 rfl) ?_
  refine lv_iconst (v := 0) hx hb d_M_effective_1 (by decide) ?_
  refine va_put (D := D) (ci := 4) (C := R_M) (T := F_M) (N := 17) (v := .int 0) (ty := .int) hx hb ht i_M t_M t_M_ok n_M hown hK hP hD hS 0 rfl rfl 0 (by decide) (ht _ tk_261) (fun _ h9 => h9) rfl (by decide +kernel) rfl rfl (Nat.le_of_ble_eq_true rfl) d_M_effective_2 (fun H locs hP hD hS => ?_)
  have hP : va_P D classes (mW a cs 0 n now K E P T V F U M O rk wy rg rf rs) H := hP
  have hD : va_D A (mW a cs 0 n now K E P T V F U M O rk wy rg rf rs) := hD
  refine lv_iload_n hx hb d_M_effective_5 rfl (lv_at hl 1 rfl) ?_
  refine lv_i2l (v := en.toInt64) hx hb d_M_effective_6 rfl ?_
  refine lv_lconst (v := 1) hx hb d_M_effective_7 (by decide) ?_
  refine lv_ldc2 (v := 99) hx hb hown (ht _ tk_317) d_M_effective_8 ?_
  refine vp_callSi (W.runS (As := [.long en.toInt64, .long 1, .long 99]) (rest := []) ⟨hx, hb, hml, hown, ht⟩ (c_M_isIn l en.toInt64 1 99) (cS_ 3 ht tk_320 tk_318 tk_2 tk_319 hd_M_isIn ⟨Nat.le_of_ble_eq_true rfl, Nat.le_of_ble_eq_true rfl⟩) ⟨fun _ _ _ _ q => q, fun _ _ _ => ⟨rfl, trivial⟩⟩ rfl rfl hl.1 rfl (lv_room (Nat.le_of_ble_eq_true rfl)) d_M_effective_11 ⟨Nat.le_of_ble_eq_true rfl, Nat.le_of_ble_eq_true rfl⟩) (fun r_1 hw_2 => ?_)
  refine lv_if_eq (tgt := 29) hx hb d_M_effective_14 (by decide) (fun c_3 => ?_) (fun c_3 => ?_)
  · have c_3 := bl_f hw_2 c_3
    refine lv_bipush (v := (-101)) hx hb d_M_effective_29 (by decide) ?_
    rw [hQe]
    exact W.iret (v := (-101)) hx hb hr (fun t9 ht9 hW => ⟨⟨(-101), (wy, rg, rs), rfl, Or.inl ⟨Or.inl (fun h9 => c_3 (adrM_iff.mpr h9)), rfl, rfl, rfl⟩, by rw [ht9]; exact hP, hD⟩, hS.F ht9⟩) hS.2.2 d_M_effective_31
  · have c_3 := bl_t hw_2 c_3
    refine lv_iload_n hx hb d_M_effective_17 rfl (lv_at hl 2 rfl) ?_
    refine lv_i2l (v := wh.toInt64) hx hb d_M_effective_18 rfl ?_
    refine lv_lconst (v := 0) hx hb d_M_effective_19 (by decide) ?_
    refine lv_ldc2 (v := 49) hx hb hown (ht _ tk_322) d_M_effective_20 ?_
    refine vp_callSi (W.runS (As := [.long wh.toInt64, .long 0, .long 49]) (rest := []) ⟨hx, hb, hml, hown, ht⟩ (c_M_isIn l wh.toInt64 0 49) (cS_ 3 ht tk_320 tk_318 tk_2 tk_319 hd_M_isIn ⟨Nat.le_of_ble_eq_true rfl, Nat.le_of_ble_eq_true rfl⟩) ⟨fun _ _ _ _ q => q, fun _ _ _ => ⟨rfl, trivial⟩⟩ rfl rfl hl.1 rfl (lv_room (Nat.le_of_ble_eq_true rfl)) d_M_effective_23 ⟨Nat.le_of_ble_eq_true rfl, Nat.le_of_ble_eq_true rfl⟩) (fun r_4 hw_5 => ?_)
    refine lv_if_ne (tgt := 32) hx hb d_M_effective_26 (by decide) (fun c_6 => ?_) (fun c_6 => ?_)
    · have c_6 := bl_t hw_5 c_6
      refine lv_iload_n hx hb d_M_effective_32 rfl (lv_at hl 3 rfl) ?_
      refine lv_i2l (v := kd.toInt64) hx hb d_M_effective_33 rfl ?_
      refine lv_lconst (v := 0) hx hb d_M_effective_34 (by decide) ?_
      refine lv_ldc2 (v := 2) hx hb hown (ht _ tk_351) d_M_effective_35 ?_
      refine vp_callSi (W.runS (As := [.long kd.toInt64, .long 0, .long 2]) (rest := []) ⟨hx, hb, hml, hown, ht⟩ (c_M_isIn l kd.toInt64 0 2) (cS_ 3 ht tk_320 tk_318 tk_2 tk_319 hd_M_isIn ⟨Nat.le_of_ble_eq_true rfl, Nat.le_of_ble_eq_true rfl⟩) ⟨fun _ _ _ _ q => q, fun _ _ _ => ⟨rfl, trivial⟩⟩ rfl rfl hl.1 rfl (lv_room (Nat.le_of_ble_eq_true rfl)) d_M_effective_38 ⟨Nat.le_of_ble_eq_true rfl, Nat.le_of_ble_eq_true rfl⟩) (fun r_7 hw_8 => ?_)
      refine lv_if_eq (tgt := 56) hx hb d_M_effective_41 (by decide) (fun c_9 => ?_) (fun c_9 => ?_)
      · have c_9 := bl_f hw_8 c_9
        refine lv_bipush (v := (-102)) hx hb d_M_effective_56 (by decide) ?_
        rw [hQe]
        exact W.iret (v := (-102)) hx hb hr (fun t9 ht9 hW => ⟨⟨(-102), (wy, rg, rs), rfl, Or.inr (Or.inl ⟨(fun h9 => h9.elim (fun h8 => h8 (adrM_iff.mp c_3)) (fun h8 => inM_iff.mp c_6 h8)), Or.inl (Classical.byContradiction (fun h9 => c_9 (inM_iff.mpr h9))), rfl, rfl, rfl⟩), by rw [ht9]; exact hP, hD⟩, hS.F ht9⟩) hS.2.2 d_M_effective_58
      · have c_9 := bl_t hw_8 c_9
        refine lv_lload hx hb d_M_effective_44 (lv_at hl 4 rfl) ?_
        refine lv_lconst (v := 0) hx hb d_M_effective_46 (by decide) ?_
        refine lv_ldc2 (v := 20000) hx hb hown (ht _ tk_324) d_M_effective_47 ?_
        refine vp_callSi (W.runS (As := [.long dy, .long 0, .long 20000]) (rest := []) ⟨hx, hb, hml, hown, ht⟩ (c_M_isIn l dy 0 20000) (cS_ 3 ht tk_320 tk_318 tk_2 tk_319 hd_M_isIn ⟨Nat.le_of_ble_eq_true rfl, Nat.le_of_ble_eq_true rfl⟩) ⟨fun _ _ _ _ q => q, fun _ _ _ => ⟨rfl, trivial⟩⟩ rfl rfl hl.1 rfl (lv_room (Nat.le_of_ble_eq_true rfl)) d_M_effective_50 ⟨Nat.le_of_ble_eq_true rfl, Nat.le_of_ble_eq_true rfl⟩) (fun r_10 hw_11 => ?_)
        refine lv_if_ne (tgt := 59) hx hb d_M_effective_53 (by decide) (fun c_12 => ?_) (fun c_12 => ?_)
        · have c_12 := bl_t hw_11 c_12
          have hnu : ¬ unkE en wh := fun h9 => h9.elim (fun h8 => h8 (adrM_iff.mp c_3)) (fun h8 => inM_iff.mp c_6 h8)
          have hno : ¬ outE kd dy := fun h9 => h9.elim (fun h8 => inM_iff.mp c_9 h8) (fun h8 => inM_iff.mp c_12 h8)
          have hen := adr_of (adrM_iff.mp c_3)
          have loop3 : ∀ (z : Nat) (j f q : Nat) (wy : Nat → Int32) (H : Heap) (locs : List Loc) (ls : Array Slot), (j + z = q) → (f + q ≤ 100) → (∃ i, (∀ j, j < i → go1 (fzM n K E P F U O rk wh kd dy) K T en j) ∧ f < i ∧ pth (fzM n K E P F U O rk wh kd dy) T en f = pth (fzM n K E P F U O rk wh kd dy) T en i ∧ q = i - f ∧ i ≤ 99 ∧ ∀ x, x < q → wy (f + x) = pth (fzM n K E P F U O rk wh kd dy) T en (f + x)) → va_P D classes (mW a cs 0 n now K E P T V F U M O rk wy (cpl wy rg f j) rf (nI q)) H → va_D A (mW a cs 0 n now K E P T V F U M O rk wy (cpl wy rg f j) rf (nI q)) → va_S A s.heap H locs → lv_has ls 10 [(9, .int (nI j)), (8, .int (nI f)), (0, .ref (a 0))] → W p l e ({ frames := 3, cells := 0, slots := 0, locals := 76 } : Room) s m ([.ref (a 0), .int en, .int wh, .int kd, .long dy] : List Value).toArray below meth c H locs 0 0 Q (F0 m 206 ls []) := by
            intro z
            induction z with
            | zero =>
              intro j f q wy H locs ls hj hfq hend hP hD hS hl
              refine lv_iload hx hb d_M_effective_206 (lv_at hl 0 rfl) ?_
              refine lv_aload_n hx hb d_M_effective_208 rfl (lv_at hl 2 rfl) ?_
              refine va_get (D := D) (ci := 4) (C := R_M) (T := F_M) (N := 17) (v := .int (nI q)) hx hb ht i_M hown hK hP 0 rfl rfl 15 (by decide) (ht _ tk_275) (fun _ h9 => h9) rfl d_M_effective_209 ?_
              refine lv_icmp_ge (tgt := 238) hx hb d_M_effective_212 (by decide) (fun c_13 => ?_) (fun c_13 => ?_)
              · have hjq : j = q := by omega
                rw [hjq] at hP hD
                obtain ⟨i, hi1, hi2, hi3, hi4, hi5, hi6⟩ := hend
                refine lv_iconst (v := (-1)) hx hb d_M_effective_238 (by decide) ?_
                rw [hQe]
                exact W.iret (v := (-1)) hx hb hr (fun t9 ht9 hW => ⟨⟨(-1), (wy, cpl wy rg f q, nI q), rfl, Or.inr (Or.inr ⟨hnu, hno, i, hi1, Or.inr (Or.inr ⟨f, hi2, hi3, rfl, by rw [hi4], hi5, fun x hx9 => by rw [← hi4] at hx9; exact (if_pos hx9).trans (hi6 x hx9)⟩)⟩), by rw [ht9]; exact hP, hD⟩, hS.F ht9⟩) hS.2.2 d_M_effective_239
              · exact absurd (nI_le (by omega) (by omega)) c_13
            | succ z ih =>
              intro j f q wy H locs ls hj hfq hend hP hD hS hl
              refine lv_iload hx hb d_M_effective_206 (lv_at hl 0 rfl) ?_
              refine lv_aload_n hx hb d_M_effective_208 rfl (lv_at hl 2 rfl) ?_
              refine va_get (D := D) (ci := 4) (C := R_M) (T := F_M) (N := 17) (v := .int (nI q)) hx hb ht i_M hown hK hP 0 rfl rfl 15 (by decide) (ht _ tk_275) (fun _ h9 => h9) rfl d_M_effective_209 ?_
              refine lv_icmp_ge (tgt := 238) hx hb d_M_effective_212 (by decide) (fun c_14 => ?_) (fun c_14 => ?_)
              · exact absurd c_14 (nI_ge (by omega) (by omega))
              · refine lv_aload_n hx hb d_M_effective_215 rfl (lv_at hl 2 rfl) ?_
                refine va_get (D := D) (ci := 4) (C := R_M) (T := F_M) (N := 17) (v := .ref (a 12)) hx hb ht i_M hown hK hP 0 rfl rfl 16 (by decide) (ht _ tk_276) (fun _ h9 => h9) rfl d_M_effective_216 ?_
                refine lv_iload hx hb d_M_effective_219 (lv_at hl 0 rfl) ?_
                refine lv_aload_n hx hb d_M_effective_221 rfl (lv_at hl 2 rfl) ?_
                refine va_get (D := D) (ci := 4) (C := R_M) (T := F_M) (N := 17) (v := .ref (a 11)) hx hb ht i_M hown hK hP 0 rfl rfl 13 (by decide) (ht _ tk_274) (fun _ h9 => h9) rfl d_M_effective_222 ?_
                refine lv_iload hx hb d_M_effective_225 (lv_at hl 1 rfl) ?_
                refine lv_iload hx hb d_M_effective_227 (lv_at hl 0 rfl) ?_
                refine lv_iadd hx hb d_M_effective_229 ?_
                rw [nI_add]
                refine vi_iald (k := f + j) (f := wy) hx hb hK hP 11 0 rfl rfl (by omega) (by omega) d_M_effective_230 ?_
                refine vi_iast (k := j) (f := cpl wy rg f j) (x := wy (f + j)) hx hb hK hP hD hS 12 0 rfl rfl (by omega) (by omega) d_M_effective_231 (fun H locs hP hD hS => ?_)
                have hP : va_P D classes (mW a cs 0 n now K E P T V F U M O rk wy (upd (cpl wy rg f j) j (wy (f + j))) rf (nI q)) H := hP
                have hD : va_D A (mW a cs 0 n now K E P T V F U M O rk wy (upd (cpl wy rg f j) j (wy (f + j))) rf (nI q)) := hD
                rw [cpl_s] at hP hD
                refine lv_iinc (v := nI (j + 1)) (lv' := [(9, .int (nI (j + 1))), (8, .int (nI f)), (0, .ref (a 0))]) hx hb d_M_effective_232 hl (k := 0) rfl (show nI (j) + 1 = _ from nI_1 (j)) (by decide) rfl (fun ls hl => ?_)
                refine lv_goto (tgt := 206) hx hb d_M_effective_235 (by decide) ?_
                exact ih (j + 1) f q wy H locs ls (by omega) hfq hend hP hD hS (lv_sub hl [0, 1, 2] rfl)
          have loop1 : ∀ (z : Nat) (i : Nat) (wy : Nat → Int32) (H : Heap) (locs : List Loc) (ls : Array Slot), (i + z = 100) → (∀ j, j < i → go1 (fzM n K E P F U O rk wh kd dy) K T en j) → (∀ k, k < i → ¬ pth (fzM n K E P F U O rk wh kd dy) T en k = pth (fzM n K E P F U O rk wh kd dy) T en i) → (∀ j, j ≤ i → wy j = pth (fzM n K E P F U O rk wh kd dy) T en j) → (∀ j, j ≤ i → ∃ x, 1 ≤ x ∧ x ≤ 99 ∧ pth (fzM n K E P F U O rk wh kd dy) T en j = nI x) → va_P D classes (mW a cs 0 n now K E P T V F U M O rk wy rg rf rs) H → va_D A (mW a cs 0 n now K E P T V F U M O rk wy rg rf rs) → va_S A s.heap H locs → lv_has ls 10 [(6, .int (nI (i + 1))), (0, .ref (a 0)), (2, .int wh), (3, .int kd), (4, .long dy)] → W p l e ({ frames := 3, cells := 0, slots := 0, locals := 76 } : Room) s m ([.ref (a 0), .int en, .int wh, .int kd, .long dy] : List Value).toArray below meth c H locs 0 0 Q (F0 m 69 ls []) := by
            intro z
            induction z with
            | zero =>
              intro i wy H locs ls hi hgo hdis hwy hrg hP hD hS hl
              have hi99 : i + 1 ≤ 99 := pth_le (fun j hj => hrg j (by omega)) (fun j hj => by
                rcases Nat.lt_or_ge j i with h9 | h9
                · exact (hgo j h9).2.2
                · rw [show j = i by omega]; exact hdis)
              omega
            | succ z ih =>
              intro i wy H locs ls hi hgo hdis hwy hrg hP hD hS hl
              have hi99 : i + 1 ≤ 99 := pth_le (fun j hj => hrg j (by omega)) (fun j hj => by
                rcases Nat.lt_or_ge j i with h9 | h9
                · exact (hgo j h9).2.2
                · rw [show j = i by omega]; exact hdis)
              refine lv_iload hx hb d_M_effective_69 (lv_at hl 0 rfl) ?_
              refine lv_bipush (v := 101) hx hb d_M_effective_71 (by decide) ?_
              refine lv_icmp_ge (tgt := 246) hx hb d_M_effective_73 (by decide) (fun c_15 => ?_) (fun c_15 => ?_)
              · exact absurd c_15 (show ¬ (101 : Int32) ≤ nI (i + 1) from nI_ge (b := 101) (by omega) (by omega))
              · refine lv_aload_n hx hb d_M_effective_76 rfl (lv_at hl 1 rfl) ?_
                refine lv_aload_n hx hb d_M_effective_77 rfl (lv_at hl 1 rfl) ?_
                refine va_get (D := D) (ci := 4) (C := R_M) (T := F_M) (N := 17) (v := .ref (a 11)) hx hb ht i_M hown hK hP 0 rfl rfl 13 (by decide) (ht _ tk_274) (fun _ h9 => h9) rfl d_M_effective_78 ?_
                refine lv_iload hx hb d_M_effective_81 (lv_at hl 0 rfl) ?_
                refine lv_iconst (v := 1) hx hb d_M_effective_83 (by decide) ?_
                refine lv_isub hx hb d_M_effective_84 ?_
                rw [nI_pred]
                refine vi_iald (k := i) (f := wy) hx hb hK hP 11 0 rfl rfl (by omega) (by omega) d_M_effective_85 ?_
                rw [hwy i (Nat.le_refl i)]
                refine lv_iload_n hx hb d_M_effective_86 rfl (lv_at hl 2 rfl) ?_
                refine lv_iload_n hx hb d_M_effective_87 rfl (lv_at hl 3 rfl) ?_
                refine lv_lload hx hb d_M_effective_88 (lv_at hl 4 rfl) ?_
                refine vp_callSi (W.runV (C := R_M) (As := [.int (pth (fzM n K E P F U O rk wh kd dy) T en i), .int wh, .int kd, .long dy]) (rest := []) ⟨hx, hb, hml, hown, ht⟩ (c_M_find l (pth (fzM n K E P F U O rk wh kd dy) T en i) wh kd dy D a cs 0 n now K E P T V F U M O rk wy rg rf rs hn hKr) (cV_ 4 ht tk_355 tk_352 tk_2 tk_354 ts_M_find hd_M_find ⟨Nat.le_of_ble_eq_true rfl, Nat.le_of_ble_eq_true rfl⟩) ⟨fun _ _ _ _ q => ⟨q.1, q.2.1, KK.call q.2.2⟩, va_recv (ci := 4) (q0 := 0) hK hP rfl rfl, fun U0 hU hW => ⟨rfl, by rw [hU]; exact hP, KK.warm hK hN hW⟩⟩ rfl rfl hl.1 rfl (lv_room (Nat.le_of_ble_eq_true rfl)) d_M_effective_90 ⟨Nat.le_of_ble_eq_true rfl, Nat.le_of_ble_eq_true rfl⟩) (fun r_16 hw_17 => ?_)
                subst hw_17
                obtain ⟨b, hbe⟩ : ∃ b, b = fzM n K E P F U O rk wh kd dy (pth (fzM n K E P F U O rk wh kd dy) T en i) := ⟨_, rfl⟩
                have hbn : b ≤ n := by rw [hbe]; exact fzM_le
                show W p l e _ s m _ below meth c H locs 0 0 Q (F0 m 93 ls [.int (nI (fzM n K E P F U O rk wh kd dy (pth (fzM n K E P F U O rk wh kd dy) T en i)))])
                rw [← hbe]
                refine lv_istore (lv' := [(7, .int (nI b)), (6, .int (nI (i + 1))), (0, .ref (a 0)), (2, .int wh), (3, .int kd), (4, .long dy)]) hx hb d_M_effective_93 hl (by decide) rfl (fun ls hl => ?_)
                refine lv_iload hx hb d_M_effective_95 (lv_at hl 0 rfl) ?_
                refine lv_if_eq (tgt := 111) hx hb d_M_effective_97 (by decide) (fun c_18 => ?_) (fun c_18 => ?_)
                · have hb0 : b = 0 := by rcases Nat.eq_zero_or_pos b with h9 | h9; exact h9; exact absurd c_18 (nI_ne0 h9 (by omega))
                  refine lv_iload hx hb d_M_effective_111 (lv_at hl 0 rfl) ?_
                  refine lv_if_ne (tgt := 128) hx hb d_M_effective_113 (by decide) (fun c_19 => ?_) (fun c_19 => ?_)
                  · exact absurd c_18 c_19
                  · refine lv_aload_n hx hb d_M_effective_116 rfl (lv_at hl 2 rfl) ?_
                    refine va_get (D := D) (ci := 4) (C := R_M) (T := F_M) (N := 17) (v := .ref (a 11)) hx hb ht i_M hown hK hP 0 rfl rfl 13 (by decide) (ht _ tk_274) (fun _ h9 => h9) rfl d_M_effective_117 ?_
                    refine lv_iload hx hb d_M_effective_120 (lv_at hl 1 rfl) ?_
                    refine lv_iconst (v := 1) hx hb d_M_effective_122 (by decide) ?_
                    refine lv_isub hx hb d_M_effective_123 ?_
                    rw [nI_pred]
                    refine vi_iald (k := i) (f := wy) hx hb hK hP 11 0 rfl rfl (by omega) (by omega) d_M_effective_124 ?_
                    rw [hwy i (Nat.le_refl i)]
                    refine lv_goto (tgt := 146) hx hb d_M_effective_125 (by decide) ?_
                    rw [hQe]
                    exact W.iret (v := pth (fzM n K E P F U O rk wh kd dy) T en i) hx hb hr (fun t9 ht9 hW => ⟨⟨pth (fzM n K E P F U O rk wh kd dy) T en i, (wy, rg, rs), rfl, Or.inr (Or.inr ⟨hnu, hno, i, hgo, Or.inl ⟨hdis, hbe ▸ hb0, rfl, rfl, rfl⟩⟩), by rw [ht9]; exact hP, hD⟩, hS.F ht9⟩) hS.2.2 d_M_effective_146
                · have hb0 : ¬ b = 0 := fun h9 => c_18 (by rw [h9]; rfl)
                  refine lv_aload_n hx hb d_M_effective_100 rfl (lv_at hl 2 rfl) ?_
                  refine va_get (D := D) (ci := 4) (C := R_M) (T := F_M) (N := 17) (v := .ref (a 1)) hx hb ht i_M hown hK hP 0 rfl rfl 2 (by decide) (ht _ tk_263) (fun _ h9 => h9) rfl d_M_effective_101 ?_
                  refine lv_iload hx hb d_M_effective_104 (lv_at hl 0 rfl) ?_
                  refine vi_iald (k := b) (f := K) hx hb hK hP 1 0 rfl rfl (by omega) (by omega) d_M_effective_106 ?_
                  refine lv_iconst (v := 2) hx hb d_M_effective_107 (by decide) ?_
                  refine lv_icmp_le (tgt := 147) hx hb d_M_effective_108 (by decide) (fun c_20 => ?_) (fun c_20 => ?_)
                  · have hk3 : K b < 3 := lt3.mp c_20
                    have hnx : pth (fzM n K E P F U O rk wh kd dy) T en (i + 1) = T b := by show T ((fzM n K E P F U O rk wh kd dy) (pth (fzM n K E P F U O rk wh kd dy) T en i)) = T b; rw [hbe]
                    have hgi : ∀ j, j < i + 1 → go1 (fzM n K E P F U O rk wh kd dy) K T en j := fun j hj => by
                      rcases Nat.lt_or_ge j i with h9 | h9
                      · exact hgo j h9
                      · rw [show j = i by omega]; exact ⟨hbe ▸ hb0, hbe ▸ hk3, hdis⟩
                    refine lv_aload_n hx hb d_M_effective_147 rfl (lv_at hl 2 rfl) ?_
                    refine va_get (D := D) (ci := 4) (C := R_M) (T := F_M) (N := 17) (v := .ref (a 11)) hx hb ht i_M hown hK hP 0 rfl rfl 13 (by decide) (ht _ tk_274) (fun _ h9 => h9) rfl d_M_effective_148 ?_
                    refine lv_iload hx hb d_M_effective_151 (lv_at hl 1 rfl) ?_
                    refine lv_aload_n hx hb d_M_effective_153 rfl (lv_at hl 2 rfl) ?_
                    refine va_get (D := D) (ci := 4) (C := R_M) (T := F_M) (N := 17) (v := .ref (a 4)) hx hb ht i_M hown hK hP 0 rfl rfl 5 (by decide) (ht _ tk_266) (fun _ h9 => h9) rfl d_M_effective_154 ?_
                    refine lv_iload hx hb d_M_effective_157 (lv_at hl 0 rfl) ?_
                    refine vi_iald (k := b) (f := T) hx hb hK hP 4 0 rfl rfl (by omega) (by omega) d_M_effective_159 ?_
                    refine vi_iast (k := i + 1) (f := wy) (x := T b) hx hb hK hP hD hS 11 0 rfl rfl (by omega) (by omega) d_M_effective_160 (fun H locs hP hD hS => ?_)
                    have hP : va_P D classes (mW a cs 0 n now K E P T V F U M O rk (upd wy (i + 1) (T b)) rg rf rs) H := hP
                    have hD : va_D A (mW a cs 0 n now K E P T V F U M O rk (upd wy (i + 1) (T b)) rg rf rs) := hD
                    refine lv_iconst (v := 0) hx hb d_M_effective_161 (by decide) ?_
                    refine lv_istore (lv' := [(8, .int 0), (7, .int (nI b)), (6, .int (nI (i + 1))), (0, .ref (a 0)), (2, .int wh), (3, .int kd), (4, .long dy)]) hx hb d_M_effective_162 hl (by decide) rfl (fun ls hl => ?_)
                    have hwy1 : ∀ j, j ≤ i + 1 → upd wy (i + 1) (T b) j = pth (fzM n K E P F U O rk wh kd dy) T en j := fun j hj => by
                      rcases Nat.lt_or_ge j (i + 1) with h9 | h9
                      · rw [pk_un (by omega)]; exact hwy j (by omega)
                      · rw [show j = i + 1 by omega, pk_us, hnx]
                    generalize upd wy (i + 1) (T b) = wz at hP hD hwy1
                    have loop2 : ∀ (z2 f : Nat) (ls : Array Slot), f + z2 = i + 1 → (∀ j, j < f → ¬ pth (fzM n K E P F U O rk wh kd dy) T en j = pth (fzM n K E P F U O rk wh kd dy) T en (i + 1)) → lv_has ls 10 [(8, .int (nI f)), (6, .int (nI (i + 1))), (0, .ref (a 0)), (2, .int wh), (3, .int kd), (4, .long dy)] → W p l e ({ frames := 3, cells := 0, slots := 0, locals := 76 } : Room) s m ([.ref (a 0), .int en, .int wh, .int kd, .long dy] : List Value).toArray below meth c H locs 0 0 Q (F0 m 164 ls []) := by
                      intro z2
                      induction z2 with
                      | zero =>
                        intro f ls hf hnf hl
                        refine lv_aload_n hx hb d_M_effective_164 rfl (lv_at hl 2 rfl) ?_
                        refine va_get (D := D) (ci := 4) (C := R_M) (T := F_M) (N := 17) (v := .ref (a 11)) hx hb ht i_M hown hK hP 0 rfl rfl 13 (by decide) (ht _ tk_274) (fun _ h9 => h9) rfl d_M_effective_165 ?_
                        refine lv_iload hx hb d_M_effective_168 (lv_at hl 0 rfl) ?_
                        refine vi_iald (k := f) (f := wz) hx hb hK hP 11 0 rfl rfl (by omega) (by omega) d_M_effective_170 ?_
                        refine lv_aload_n hx hb d_M_effective_171 rfl (lv_at hl 2 rfl) ?_
                        refine va_get (D := D) (ci := 4) (C := R_M) (T := F_M) (N := 17) (v := .ref (a 11)) hx hb ht i_M hown hK hP 0 rfl rfl 13 (by decide) (ht _ tk_274) (fun _ h9 => h9) rfl d_M_effective_172 ?_
                        refine lv_iload hx hb d_M_effective_175 (lv_at hl 1 rfl) ?_
                        refine vi_iald (k := i + 1) (f := wz) hx hb hK hP 11 0 rfl rfl (by omega) (by omega) d_M_effective_177 ?_
                        refine lv_icmp_eq (tgt := 187) hx hb d_M_effective_178 (by decide) (fun c_23 => ?_) (fun c_23 => ?_)
                        · rw [hwy1 f (by omega), hwy1 (i + 1) (Nat.le_refl _)] at c_23
                          refine lv_iload hx hb d_M_effective_187 (lv_at hl 0 rfl) ?_
                          refine lv_iload hx hb d_M_effective_189 (lv_at hl 1 rfl) ?_
                          refine lv_icmp_ge (tgt := 240) hx hb d_M_effective_191 (by decide) (fun c_24 => ?_) (fun c_24 => ?_)
                          · have hfi : f = i + 1 := by omega
                            refine lv_iinc (v := nI (i + 2)) (lv' := [(6, .int (nI (i + 2))), (8, .int (nI f)), (0, .ref (a 0)), (2, .int wh), (3, .int kd), (4, .long dy)]) hx hb d_M_effective_240 hl (k := 1) rfl (show nI (i + 1) + 1 = _ from nI_1 (i + 1)) (by decide) rfl (fun ls hl => ?_)
                            refine lv_goto (tgt := 69) hx hb d_M_effective_243 (by decide) ?_
                            refine ih (i + 1) wz H locs ls (by omega) hgi (fun k hk => hnf k (by omega)) (fun j hj => hwy1 j hj) (fun j hj => ?_) hP hD hS (lv_sub hl [0, 2, 3, 4, 5] rfl)
                            rcases Nat.lt_or_ge j (i + 1) with h9 | h9
                            · exact hrg j (by omega)
                            · rw [show j = i + 1 by omega, hnx]
                              exact hT b (by omega) hbn hk3
                          · exact absurd (nI_le (by omega) (by omega)) c_24
                        · rw [hwy1 f (by omega), hwy1 (i + 1) (Nat.le_refl _)] at c_23
                          exact absurd (by rw [show f = i + 1 by omega]) c_23
                      | succ z2 ih2 =>
                        intro f ls hf hnf hl
                        refine lv_aload_n hx hb d_M_effective_164 rfl (lv_at hl 2 rfl) ?_
                        refine va_get (D := D) (ci := 4) (C := R_M) (T := F_M) (N := 17) (v := .ref (a 11)) hx hb ht i_M hown hK hP 0 rfl rfl 13 (by decide) (ht _ tk_274) (fun _ h9 => h9) rfl d_M_effective_165 ?_
                        refine lv_iload hx hb d_M_effective_168 (lv_at hl 0 rfl) ?_
                        refine vi_iald (k := f) (f := wz) hx hb hK hP 11 0 rfl rfl (by omega) (by omega) d_M_effective_170 ?_
                        refine lv_aload_n hx hb d_M_effective_171 rfl (lv_at hl 2 rfl) ?_
                        refine va_get (D := D) (ci := 4) (C := R_M) (T := F_M) (N := 17) (v := .ref (a 11)) hx hb ht i_M hown hK hP 0 rfl rfl 13 (by decide) (ht _ tk_274) (fun _ h9 => h9) rfl d_M_effective_172 ?_
                        refine lv_iload hx hb d_M_effective_175 (lv_at hl 1 rfl) ?_
                        refine vi_iald (k := i + 1) (f := wz) hx hb hK hP 11 0 rfl rfl (by omega) (by omega) d_M_effective_177 ?_
                        refine lv_icmp_eq (tgt := 187) hx hb d_M_effective_178 (by decide) (fun c_25 => ?_) (fun c_25 => ?_)
                        · rw [hwy1 f (by omega), hwy1 (i + 1) (Nat.le_refl _)] at c_25
                          refine lv_iload hx hb d_M_effective_187 (lv_at hl 0 rfl) ?_
                          refine lv_iload hx hb d_M_effective_189 (lv_at hl 1 rfl) ?_
                          refine lv_icmp_ge (tgt := 240) hx hb d_M_effective_191 (by decide) (fun c_26 => ?_) (fun c_26 => ?_)
                          · exact absurd c_26 (nI_ge (by omega) (by omega))
                          · refine lv_aload_n hx hb d_M_effective_194 rfl (lv_at hl 2 rfl) ?_
                            refine lv_iload hx hb d_M_effective_195 (lv_at hl 1 rfl) ?_
                            refine lv_iload hx hb d_M_effective_197 (lv_at hl 0 rfl) ?_
                            refine lv_isub hx hb d_M_effective_199 ?_
                            rw [pk_sub (show f ≤ i + 1 by omega)]
                            refine va_put (D := D) (ci := 4) (C := R_M) (T := F_M) (N := 17) (v := .int (nI (i + 1 - f))) (ty := .int) hx hb ht i_M t_M t_M_ok n_M hown hK hP hD hS 0 rfl rfl 15 (by decide) (ht _ tk_275) (fun _ h9 => h9) rfl (by decide +kernel) rfl rfl (Nat.le_of_ble_eq_true rfl) d_M_effective_200 (fun H locs hP hD hS => ?_)
                            have hP : va_P D classes (mW a cs 0 n now K E P T V F U M O rk wz rg rf (nI (i + 1 - f))) H := hP
                            have hD : va_D A (mW a cs 0 n now K E P T V F U M O rk wz rg rf (nI (i + 1 - f))) := hD
                            refine lv_iconst (v := 0) hx hb d_M_effective_203 (by decide) ?_
                            refine lv_istore (lv' := [(9, .int 0), (8, .int (nI f)), (6, .int (nI (i + 1))), (0, .ref (a 0)), (2, .int wh), (3, .int kd), (4, .long dy)]) hx hb d_M_effective_204 hl (by decide) rfl (fun ls hl => ?_)
                            exact loop3 (i + 1 - f) 0 f (i + 1 - f) wz H locs ls (by omega) (by omega) ⟨i + 1, hgi, by omega, c_25, rfl, hi99, fun x hx9 => hwy1 (f + x) (by omega)⟩ (by rw [cpl_0]; exact hP) (by rw [cpl_0]; exact hD) hS (lv_sub hl [0, 1, 3] rfl)
                        · rw [hwy1 f (by omega), hwy1 (i + 1) (Nat.le_refl _)] at c_25
                          refine lv_iinc (v := nI (f + 1)) (lv' := [(8, .int (nI (f + 1))), (6, .int (nI (i + 1))), (0, .ref (a 0)), (2, .int wh), (3, .int kd), (4, .long dy)]) hx hb d_M_effective_181 hl (k := 0) rfl (show nI (f) + 1 = _ from nI_1 (f)) (by decide) rfl (fun ls hl => ?_)
                          refine lv_goto (tgt := 164) hx hb d_M_effective_184 (by decide) ?_
                          refine ih2 (f + 1) ls (by omega) (fun j hj => ?_) (lv_sub hl [0, 1, 2, 3, 4, 5] rfl)
                          rcases Nat.lt_or_ge j f with h9 | h9
                          · exact hnf j h9
                          · rw [show j = f by omega]; exact c_25
                    exact loop2 (i + 1) 0 ls (by omega) (fun j hj => absurd hj (by omega)) (lv_sub hl [0, 2, 3, 4, 5, 6] rfl)
                  · have hk3 : ¬ K b < 3 := fun h9 => c_20 (lt3.mpr h9)
                    refine lv_iload hx hb d_M_effective_111 (lv_at hl 0 rfl) ?_
                    refine lv_if_ne (tgt := 128) hx hb d_M_effective_113 (by decide) (fun c_21 => ?_) (fun c_21 => ?_)
                    · refine lv_aload_n hx hb d_M_effective_128 rfl (lv_at hl 2 rfl) ?_
                      refine va_get (D := D) (ci := 4) (C := R_M) (T := F_M) (N := 17) (v := .ref (a 1)) hx hb ht i_M hown hK hP 0 rfl rfl 2 (by decide) (ht _ tk_263) (fun _ h9 => h9) rfl d_M_effective_129 ?_
                      refine lv_iload hx hb d_M_effective_132 (lv_at hl 0 rfl) ?_
                      refine vi_iald (k := b) (f := K) hx hb hK hP 1 0 rfl rfl (by omega) (by omega) d_M_effective_134 ?_
                      refine lv_bipush (v := 6) hx hb d_M_effective_135 (by decide) ?_
                      refine lv_icmp_ge (tgt := 144) hx hb d_M_effective_137 (by decide) (fun c_22 => ?_) (fun c_22 => ?_)
                      · refine lv_bipush (v := (-2)) hx hb d_M_effective_144 (by decide) ?_
                        rw [hQe]
                        exact W.iret (v := (-2)) hx hb hr (fun t9 ht9 hW => ⟨⟨(-2), (wy, rg, rs), rfl, Or.inr (Or.inr ⟨hnu, hno, i, hgo, Or.inr (Or.inl ⟨hdis, hbe ▸ hb0, hbe ▸ hk3, hbe ▸ (if_neg (fun h8 => nle6.mpr h8 c_22)).symm, rfl, rfl⟩)⟩), by rw [ht9]; exact hP, hD⟩, hS.F ht9⟩) hS.2.2 d_M_effective_146
                      · refine lv_iconst (v := 0) hx hb d_M_effective_140 (by decide) ?_
                        refine lv_goto (tgt := 146) hx hb d_M_effective_141 (by decide) ?_
                        rw [hQe]
                        exact W.iret (v := 0) hx hb hr (fun t9 ht9 hW => ⟨⟨0, (wy, rg, rs), rfl, Or.inr (Or.inr ⟨hnu, hno, i, hgo, Or.inr (Or.inl ⟨hdis, hbe ▸ hb0, hbe ▸ hk3, hbe ▸ (if_pos (nle6.mp c_22)).symm, rfl, rfl⟩)⟩), by rw [ht9]; exact hP, hD⟩, hS.F ht9⟩) hS.2.2 d_M_effective_146
                    · exact absurd c_21 c_18
          refine lv_aload_n hx hb d_M_effective_59 rfl (lv_at hl 0 rfl) ?_
          refine va_get (D := D) (ci := 4) (C := R_M) (T := F_M) (N := 17) (v := .ref (a 11)) hx hb ht i_M hown hK hP 0 rfl rfl 13 (by decide) (ht _ tk_274) (fun _ h9 => h9) rfl d_M_effective_60 ?_
          refine lv_iconst (v := 0) hx hb d_M_effective_63 (by decide) ?_
          refine lv_iload_n hx hb d_M_effective_64 rfl (lv_at hl 1 rfl) ?_
          show W p l e _ s m _ below meth c H locs 0 0 Q (F0 m 65 ls [.int en, .int (nI 0), .ref (a 11)])
          refine vi_iast (k := 0) (f := wy) (x := en) hx hb hK hP hD hS 11 0 rfl rfl (by omega) (by omega) d_M_effective_65 (fun H locs hP hD hS => ?_)
          have hP : va_P D classes (mW a cs 0 n now K E P T V F U M O rk (upd wy 0 en) rg rf rs) H := hP
          have hD : va_D A (mW a cs 0 n now K E P T V F U M O rk (upd wy 0 en) rg rf rs) := hD
          refine lv_iconst (v := 1) hx hb d_M_effective_66 (by decide) ?_
          refine lv_istore (lv' := [(6, .int 1), (0, .ref (a 0)), (1, .int en), (2, .int wh), (3, .int kd), (4, .long dy)]) hx hb d_M_effective_67 hl (by decide) rfl (fun ls hl => ?_)
          obtain ⟨x0, hx1, hx2, hx3⟩ := hen
          refine loop1 100 0 _ H locs ls (by omega) (fun j hj => absurd hj (by omega)) (fun k hk => absurd hk (by omega)) (fun j hj => ?_) (fun j hj => ?_) hP hD hS (lv_sub hl [0, 1, 3, 4, 5] rfl)
          · rw [show j = 0 by omega, pk_us]; rfl
          · rw [show j = 0 by omega]
            exact ⟨x0, hx1, hx2, hx3⟩
        · have c_12 := bl_f hw_11 c_12
          refine lv_bipush (v := (-102)) hx hb d_M_effective_56 (by decide) ?_
          rw [hQe]
          exact W.iret (v := (-102)) hx hb hr (fun t9 ht9 hW => ⟨⟨(-102), (wy, rg, rs), rfl, Or.inr (Or.inl ⟨(fun h9 => h9.elim (fun h8 => h8 (adrM_iff.mp c_3)) (fun h8 => inM_iff.mp c_6 h8)), Or.inr (Classical.byContradiction (fun h9 => c_12 (inM_iff.mpr h9))), rfl, rfl, rfl⟩), by rw [ht9]; exact hP, hD⟩, hS.F ht9⟩) hS.2.2 d_M_effective_58
    · have c_6 := bl_f hw_5 c_6
      refine lv_bipush (v := (-101)) hx hb d_M_effective_29 (by decide) ?_
      rw [hQe]
      exact W.iret (v := (-101)) hx hb hr (fun t9 ht9 hW => ⟨⟨(-101), (wy, rg, rs), rfl, Or.inl ⟨Or.inr (Classical.byContradiction (fun h9 => c_6 (inM_iff.mpr h9))), rfl, rfl, rfl⟩, by rw [ht9]; exact hP, hD⟩, hS.F ht9⟩) hS.2.2 d_M_effective_31
end
section
/-! THE PLAIN LAW: no program in sight. What ties the class's picture to the reference's, and that each call keeps it and answers alike -/
theorem l_lit (k : Nat) : lN k = Int64.ofNat k := rfl
theorem lsub_toInt {a b : Nat} (ha : a < 2 ^ 31) (hb : b < 2 ^ 31) : (lN a - lN b).toInt = (a : Int) - b := by
  rw [Int64.toInt_sub, lN_toInt ha, lN_toInt hb]
  exact Int.bmod_eq_of_le_mul_two (by omega) (by omega)
/-- over: the class's day, the reference's day -/
def OX (x o : Int64) : Prop := (o = -1 ∧ x = 1000000) ∨ ∃ d, d ≤ 30000 ∧ o = lN d ∧ x = lN d
theorem ox_ge {x o : Int64} (h : OX x o) : 1000000 ≤ x ↔ o < 0 := by
  rcases h with ⟨rfl, rfl⟩ | ⟨d, hd, rfl, rfl⟩
  · exact ⟨fun _ => by decide, fun _ => by decide⟩
  · refine ⟨fun h => ?_, fun h => ?_⟩
    · have := (pk_lLE (a := 1000000) (b := d) (by omega) (by omega)).mp h
      omega
    · have := (pk_lLT (a := d) (b := 0) (by omega) (by omega)).mp h
      omega
theorem ox_m1 {x o : Int64} (h : OX x o) (g : o < 0) : o = -1 ∧ x = 1000000 := by
  rcases h with h | ⟨d, hd, rfl, rfl⟩
  · exact h
  · have := (pk_lLT (a := d) (b := 0) (by omega) (by omega)).mp g
    omega
theorem nlt0 {o : Int64} : ¬ 0 ≤ o ↔ o < 0 := Int64.not_le
theorem ox_in {x o : Int64} {d : Nat} (h : OX x o) (hd : d ≤ 20000) : ¬ x ≤ lN d ↔ (o < 0 ∨ ¬ o ≤ lN d) := by
  rcases h with ⟨rfl, rfl⟩ | ⟨e, he, rfl, rfl⟩
  · refine ⟨fun _ => Or.inl (by decide), fun _ h => ?_⟩
    have := (pk_lLE (a := 1000000) (b := d) (by omega) (by omega)).mp h
    omega
  · refine ⟨fun h => Or.inr h, fun h => ?_⟩
    rcases h with h | h
    · have := (pk_lLT (a := e) (b := 0) (by omega) (by omega)).mp h
      omega
    · exact h
/-- what is known of an order, on day d -/
def Row (d : Nat) (K P T : Nat → Int32) (F U M X O : Nat → Int64) (k : Nat) : Prop :=
  (∃ x, x < 9 ∧ K k = nI x) ∧ (P k = -1 ∨ ∃ x, x ≤ 49 ∧ P k = nI x) ∧ (K k < 3 → ∃ x, 1 ≤ x ∧ x ≤ 99 ∧ T k = nI x) ∧ (∃ f, f ≤ 20000 ∧ F k = lN f) ∧ (∃ u, u ≤ 20000 ∧ U k = lN u) ∧ (∃ m, m ≤ d ∧ M k = lN m) ∧ OX (X k) (O k)
def Inv (n : Nat) (now : Int64) (K P T V : Nat → Int32) (F U M X O : Nat → Int64) (rc rm : Nat → Int32) (rs : Int32) : Prop :=
  n ≤ 200 ∧ (∃ d, d ≤ 20000 ∧ now = lN d ∧ ∀ k, 1 ≤ k → k ≤ n → Row d K P T F U M X O k) ∧ (∀ k, n < k → V k = 0) ∧ ∃ q, q ≤ 99 ∧ rs = nI q ∧ ∀ j, j < q → rc j = rm j
section PURE
variable {n : Nat} {now : Int64} {K E P T V : Nat → Int32} {F U M X O : Nat → Int64} {rk rc rm : Nat → Int32} {rs : Int32}
theorem Inv.kr (h : Inv n now K P T V F U M X O rc rm rs) : ∀ k, 1 ≤ k → k ≤ n → vp_in (K k) 9 := by
  intro k h1 h2
  obtain ⟨-, ⟨d, -, -, hr⟩, -⟩ := h
  obtain ⟨⟨x, hx, e⟩, -⟩ := hr k h1 h2
  rw [e]
  exact vp_in_nI hx (by omega)
theorem Inv.to (h : Inv n now K P T V F U M X O rc rm rs) : ∀ k, 1 ≤ k → k ≤ n → K k < 3 → ∃ x, 1 ≤ x ∧ x ≤ 99 ∧ T k = nI x := by
  intro k h1 h2
  obtain ⟨-, ⟨d, -, -, hr⟩, -⟩ := h
  exact (hr k h1 h2).2.2.1
theorem Inv.fu (h : Inv n now K P T V F U M X O rc rm rs) : ∀ k, 1 ≤ k → k ≤ n → ∃ f e, f ≤ 20000 ∧ e ≤ 20000 ∧ F k = lN f ∧ U k = lN e := by
  intro k h1 h2
  obtain ⟨-, ⟨d, -, -, hr⟩, -⟩ := h
  obtain ⟨-, -, -, ⟨f, a1, a2⟩, ⟨e, b1, b2⟩, -⟩ := hr k h1 h2
  exact ⟨f, e, a1, b1, a2, b2⟩
theorem Inv.day (h : Inv n now K P T V F U M X O rc rm rs) : ∃ d, d ≤ 20000 ∧ now = lN d := by
  obtain ⟨-, ⟨d, h1, h2, -⟩, -⟩ := h
  exact ⟨d, h1, h2⟩
theorem cnt_congr {q q' : Nat → Bool} : ∀ n, (∀ k, 1 ≤ k → k ≤ n → q k = q' k) → cnt q n = cnt q' n
  | 0, _ => rfl
  | n + 1, h => by
    have ih := cnt_congr n (fun k h1 h2 => h k h1 (by omega))
    unfold cnt
    rw [ih, h (n + 1) (by omega) (by omega)]
theorem psX_in {q : Nat → Bool} {Y X : Nat → Int64} {n k : Nat} (h1 : 1 ≤ k) (h2 : k ≤ n) : psX q Y X n k = if q k = true then Y k else X k := by
  unfold psX
  by_cases h : q k = true
  · rw [if_pos ⟨h1, h2, h⟩, if_pos h]
  · rw [if_neg (fun c => h c.2.2), if_neg h]
/-- the later day, of one that may be -/
theorem day_le {d : Nat} {t : Int64} (hd : d ≤ 20000) (h : ¬ badD (lN d) t) : ∃ e, d ≤ e ∧ e ≤ 20000 ∧ t = lN e := by
  obtain ⟨e, h1, rfl⟩ := day_of ⟨d, hd, rfl⟩ h
  refine ⟨e, ?_, h1, rfl⟩
  rcases Nat.lt_or_ge e d with c | c
  · exact absurd (Or.inl ((pk_lLT (by omega) (by omega)).mpr c)) h
  · exact c
theorem qCM {d e k : Nat} (hr : Row d K P T F U M X O k) (hde : d ≤ e) (he : e ≤ 20000) : qC V M X (lN e) k = qM V M O (lN e) k := by
  obtain ⟨-, -, -, -, -, ⟨m, hm, em⟩, ox⟩ := hr
  have e1 : ¬ ¬ 1000000 ≤ X k ↔ ¬ 0 ≤ O k := by
    rw [nlt0, ← ox_ge ox]
    exact Decidable.not_not
  have e2 : ¬ lN e ≤ M k + 14 ↔ ¬ lN e - M k ≤ 14 := by
    rw [em, show lN m + 14 = lN (m + 14) from lN_add m 14, lN_sub (show m ≤ e by omega)]
    have a := pk_lLE (a := e) (b := m + 14) (by omega) (by omega)
    have b := pk_lLE (a := e - m) (b := 14) (by omega) (by omega)
    rw [a]
    rw [show (lN (e - m) ≤ 14) ↔ (e - m ≤ 14) from b]
    omega
  unfold qC qM
  exact decide_eq_decide.mpr ⟨fun h => ⟨h.1, e1.mp h.2.1, e2.mp h.2.2⟩, fun h => ⟨h.1, e1.mpr h.2.1, e2.mpr h.2.2⟩⟩
/-- the days of all go on to e -/
theorem pass_row {d e k : Nat} (hr : Row d K P T F U M X O k) (hde : d ≤ e) (he : e ≤ 20000) (h1 : 1 ≤ k) (h2 : k ≤ n) : Row e K P T F U M (Xp n V M X (lN e)) (Op n V M O (lN e)) k := by
  have hq := qCM (V := V) hr hde he
  obtain ⟨a1, a2, a3, a4, a5, ⟨m, hm, em⟩, ox⟩ := hr
  refine ⟨a1, a2, a3, a4, a5, ⟨m, by omega, em⟩, ?_⟩
  show OX (psX _ _ _ _ _) (psX _ _ _ _ _)
  rw [psX_in h1 h2, psX_in h1 h2, hq]
  by_cases c : qM V M O (lN e) k = true
  · rw [if_pos c, if_pos c]
    refine Or.inr ⟨m + 15, by omega, ?_, ?_⟩
    · show M k + 15 = _
      rw [em]
      exact lN_add m 15
    · show M k + 14 + 1 = _
      rw [em, show lN m + 14 = lN (m + 14) from lN_add m 14]
      exact lN_1 (m + 14)
  · rw [if_neg c, if_neg c]
    exact ox
theorem pass_inv {e : Nat} {t : Int64} (h : Inv n now K P T V F U M X O rc rm rs) (hb : ¬ badD now t) : Inv n t K P T V F U M (Xp n V M X t) (Op n V M O t) rc rm rs ∧ cnt (qC V M X t) n = cnt (qM V M O t) n := by
  obtain ⟨hn, ⟨d, hd, rfl, hr⟩, hv, hq⟩ := h
  obtain ⟨e, h1, h2, rfl⟩ := day_le hd hb
  exact ⟨⟨hn, ⟨e, h2, rfl, fun k k1 k2 => pass_row (hr k k1 k2) h1 h2 k1 k2⟩, hv, hq⟩, cnt_congr n (fun k k1 k2 => qCM (hr k k1 k2) h1 h2)⟩
/-- tick -/
theorem p_tick {t : Int64} {r1 r2 : Int32} {u1 u2 : Int64 × (Nat → Int64)} (h : Inv n now K P T V F U M X O rc rm rs) (h1 : QtickC n now V M X t r1 u1) (h2 : QtickM n now V M O t r2 u2) : r1 = r2 ∧ ∃ (n1 : Int64) (X1 O1 : Nat → Int64), u1 = (n1, X1) ∧ u2 = (n1, O1) ∧ Inv n n1 K P T V F U M X1 O1 rc rm rs := by
  rcases h1 with ⟨a1, a2, a3⟩ | ⟨a1, a2, a3⟩ <;> rcases h2 with ⟨b1, b2, b3⟩ | ⟨b1, b2, b3⟩
  · exact ⟨by rw [a2, b2], now, X, O, a3, b3, h⟩
  · exact absurd a1 b1
  · exact absurd b1 a1
  · obtain ⟨c1, c2⟩ := pass_inv (e := 0) h a1
    exact ⟨by rw [a2, b2, c2], t, _, _, a3, b3, c1⟩
theorem upd_self {f : Nat → Int32} {k : Nat} {v : Int32} (h : f k = v) : upd f k v = f := by
  funext j
  by_cases hj : j = k
  · rw [hj, pk_us, h]
  · rw [pk_un hj]
theorem row_X {d k : Nat} {x o : Int64} (h : ∀ j, 1 ≤ j → j ≤ n → Row d K P T F U M X O j) (hx : OX x o) : ∀ j, 1 ≤ j → j ≤ n → Row d K P T F U M (vp_updL X k x) (vp_updL O k o) j := by
  intro j h1 h2
  obtain ⟨a1, a2, a3, a4, a5, a6, ox⟩ := h j h1 h2
  refine ⟨a1, a2, a3, a4, a5, a6, ?_⟩
  by_cases hj : j = k
  · rw [hj, pk_uLs, pk_uLs]; exact hx
  · rw [pk_uLn hj, pk_uLn hj]; exact ox
/-- proof -/
theorem p_proof {o gd r1 r2 : Int32} {t : Int64} {u1 u2 : Int64 × (Nat → Int32) × (Nat → Int64)} (h : Inv n now K P T V F U M X O rc rm rs) (h1 : QproofC n now V M X o gd t r1 u1) (h2 : QproofM n now V M O o gd t r2 u2) : r1 = r2 ∧ ∃ (n1 : Int64) (V1 : Nat → Int32) (X1 O1 : Nat → Int64), u1 = (n1, V1, X1) ∧ u2 = (n1, V1, O1) ∧ Inv n n1 K P T V1 F U M X1 O1 rc rm rs := by
  have same : ∀ {k j : Nat}, k ≤ n → j ≤ n → nI k = nI j → k = j := fun {k j} hk hj e => (nI_eq (by have := h.1; omega) (by have := h.1; omega)).mp e
  rcases h1 with ⟨a1, a2, a3⟩ | ⟨a1, a2, a3, a4⟩ | ⟨k, k1, k2, k3, k4, k5⟩ <;> rcases h2 with ⟨b1, b2, b3⟩ | ⟨b1, b2, b3, b4⟩ | ⟨j, j1, j2, j3, j4, j5⟩
  · exact ⟨by rw [a2, b2], now, V, X, O, a3, b3, h⟩
  · exact absurd b1 a1
  · exact absurd (show okO n o by rw [j3]; exact ⟨nI_nle (by omega) (by have := h.1; omega), nI_nlt j2 (by have := h.1; omega)⟩) a1
  · exact absurd a1 b1
  · exact ⟨by rw [a3, b3], now, V, X, O, a4, b4, h⟩
  · exact absurd a2 j4
  · exact absurd (show okO n o by rw [k3]; exact ⟨nI_nle (by omega) (by have := h.1; omega), nI_nlt k2 (by have := h.1; omega)⟩) b1
  · exact absurd b2 k4
  · have e : j = k := same j2 k2 (by rw [← j3, ← k3])
    subst e
    obtain ⟨c1, -⟩ := pass_inv (e := 0) h k4
    obtain ⟨hn, ⟨d, hd, ed, hr⟩, hv, hq⟩ := id c1
    have ox := (hr j j1 j2).2.2.2.2.2.2
    have og := ox_ge ox
    rcases k5 with ⟨x1, x2, x3⟩ | ⟨x0, x1, x2, x3⟩ | ⟨x0, x1, x2⟩ <;> rcases j5 with ⟨y1, y2, y3⟩ | ⟨y0, y1, y2, y3⟩ | ⟨y0, y1, y2⟩
    · exact ⟨by rw [x2, y2], t, V, _, _, x3, y3, c1⟩
    · exact ⟨by rw [x2, y2], t, V, _, _, x3, y3, c1⟩
    · exact absurd (og.mpr (nlt0.mp y0)) x1
    · exact ⟨by rw [x2, y2], t, V, _, _, x3, y3, c1⟩
    · exact ⟨by rw [x2, y2], t, V, _, _, x3, y3, c1⟩
    · exact absurd y1 x1
    · exact absurd (og.mp (Decidable.not_not.mp x0)) (Int64.not_lt.mpr y1)
    · exact absurd x1 y1
    · have hm := ox_m1 ox (nlt0.mp y0)
      rcases x2 with ⟨g1, x2, x3⟩ | ⟨g1, x2, x3⟩ <;> rcases y2 with ⟨g2, y2, y3⟩ | ⟨g2, y2, y3⟩
      · refine ⟨by rw [x2, y2], t, _, _, _, x3, y3, hn, ⟨d, hd, ed, ?_⟩, fun i hi => ?_, hq⟩
        · intro i i1 i2
          have hh := row_X (k := j) hr (Or.inl ⟨rfl, rfl⟩) i i1 i2
          rw [show vp_updL (Xp n V M X t) j 1000000 = Xp n V M X t by rw [← hm.2]; exact updL_self] at hh
          exact hh
        · rw [pk_un (by omega)]; exact hv i hi
      · rw [g1] at g2; exact absurd g2 (by decide)
      · rw [g1] at g2; exact absurd g2 (by decide)
      · refine ⟨by rw [x2, y2], t, V, _, _, x3, by rw [y3, upd_self y1], hn, ⟨d, hd, ed, ?_⟩, hv, hq⟩
        rw [ed]
        rw [ed] at hr
        exact row_X hr (Or.inr ⟨d, by omega, rfl, rfl⟩)
theorem cut_eq {f e d : Nat} (hf : f ≤ 20000) (he : e ≤ 20000) (hd : d ≤ 20000) : (lmax 0 (lN e + 1 - lmax (lN f) (lN d))).toInt32 = nI (e + 1 - max f d) := by
  have h1 : lmax (lN f) (lN d) = lN (max f d) := by
    unfold lmax
    by_cases c : d < f
    · rw [if_pos ((pk_lLT (by omega) (by omega)).mpr c), show max f d = f by omega]
    · rw [if_neg (fun q => c ((pk_lLT (by omega) (by omega)).mp q)), show max f d = d by omega]
  rw [h1, lN_1]
  rcases Nat.lt_or_ge (e + 1) (max f d) with c | c
  · have h2 : lN (e + 1) - lN (max f d) < 0 := by
      rw [Int64.lt_iff_toInt_lt, lsub_toInt (by omega) (by omega)]
      have e0 : (0 : Int64).toInt = 0 := by decide +kernel
      rw [e0]
      omega
    unfold lmax
    rw [if_pos h2, show e + 1 - max f d = 0 by omega]
    rfl
  · rw [lN_sub c]
    unfold lmax
    rw [if_neg (fun q => by have := (pk_lLT (a := e + 1 - max f d) (b := 0) (by omega) (by omega)).mp q; omega)]
    exact lN_i _
/-- withdraw -/
theorem p_with {o r1 r2 : Int32} {t : Int64} {u1 u2 : Int64 × (Nat → Int64)} (h : Inv n now K P T V F U M X O rc rm rs) (h1 : QwithC n now V F U M X o t r1 u1) (h2 : QwithM n now V F U M O o t r2 u2) : r1 = r2 ∧ ∃ (n1 : Int64) (X1 O1 : Nat → Int64), u1 = (n1, X1) ∧ u2 = (n1, O1) ∧ Inv n n1 K P T V F U M X1 O1 rc rm rs := by
  have same : ∀ {k j : Nat}, k ≤ n → j ≤ n → nI k = nI j → k = j := fun {k j} hk hj e => (nI_eq (by have := h.1; omega) (by have := h.1; omega)).mp e
  rcases h1 with ⟨a1, a2, a3⟩ | ⟨a1, a2, a3, a4⟩ | ⟨k, k1, k2, k3, k4, k5⟩ <;> rcases h2 with ⟨b1, b2, b3⟩ | ⟨b1, b2, b3, b4⟩ | ⟨j, j1, j2, j3, j4, j5⟩
  · exact ⟨by rw [a2, b2], now, X, O, a3, b3, h⟩
  · exact absurd b1 a1
  · exact absurd (show okO n o by rw [j3]; exact ⟨nI_nle (by omega) (by have := h.1; omega), nI_nlt j2 (by have := h.1; omega)⟩) a1
  · exact absurd a1 b1
  · exact ⟨by rw [a3, b3], now, X, O, a4, b4, h⟩
  · exact absurd a2 j4
  · exact absurd (show okO n o by rw [k3]; exact ⟨nI_nle (by omega) (by have := h.1; omega), nI_nlt k2 (by have := h.1; omega)⟩) b1
  · exact absurd b2 k4
  · have e : j = k := same j2 k2 (by rw [← j3, ← k3])
    subst e
    obtain ⟨c1, -⟩ := pass_inv (e := 0) h k4
    obtain ⟨hn, ⟨d, hd, ed, hr⟩, hv, hq⟩ := id c1
    have ox := (hr j j1 j2).2.2.2.2.2.2
    have og := ox_ge ox
    rcases k5 with ⟨x1, x2, x3⟩ | ⟨x1, x2, x3⟩ <;> rcases j5 with ⟨y1, y2, y3⟩ | ⟨y1, y2, y3⟩
    · exact ⟨by rw [x2, y2], t, _, _, x3, y3, c1⟩
    · exact absurd (og.mpr y1) x1
    · exact absurd (og.mp (Decidable.not_not.mp x1)) y1
    · obtain ⟨f, e, tt, f1, f2, f3, f4, f5, f6, f7⟩ := y2
      refine ⟨by rw [x2, f7, f4, f5, f6]; exact cut_eq f1 f2 f3, t, _, _, x3, y3, hn, ⟨d, hd, ed, ?_⟩, hv, hq⟩
      rw [ed]
      rw [ed] at hr
      exact row_X hr (Or.inr ⟨d, by omega, rfl, rfl⟩)
/-- extend -/
theorem p_ext {o r1 r2 : Int32} {t : Int64} {u1 u2 : Nat → Int64} (h : Inv n now K P T V F U M X O rc rm rs) (h1 : QextC n U X o t r1 u1) (h2 : QextM n U O o t r2 u2) : r1 = r2 ∧ u1 = u2 ∧ Inv n now K P T V F u1 M X O rc rm rs := by
  have same : ∀ {k j : Nat}, k ≤ n → j ≤ n → nI k = nI j → k = j := fun {k j} hk hj e => (nI_eq (by have := h.1; omega) (by have := h.1; omega)).mp e
  rcases h1 with ⟨a1, a2, a3⟩ | ⟨a1, a2, a3, a4⟩ | ⟨k, k1, k2, k3, k4, k5⟩ <;> rcases h2 with ⟨b1, b2, b3⟩ | ⟨b1, b2, b3, b4⟩ | ⟨j, j1, j2, j3, j4, j5⟩
  · exact ⟨by rw [a2, b2], by rw [a3, b3], by rw [a3]; exact h⟩
  · exact absurd b1 a1
  · exact absurd (show okO n o by rw [j3]; exact ⟨nI_nle (by omega) (by have := h.1; omega), nI_nlt j2 (by have := h.1; omega)⟩) a1
  · exact absurd a1 b1
  · exact ⟨by rw [a3, b3], by rw [a4, b4], by rw [a4]; exact h⟩
  · exact absurd a2 j4
  · exact absurd (show okO n o by rw [k3]; exact ⟨nI_nle (by omega) (by have := h.1; omega), nI_nlt k2 (by have := h.1; omega)⟩) b1
  · exact absurd b2 k4
  · have e : j = k := same j2 k2 (by rw [← j3, ← k3])
    subst e
    obtain ⟨hn, ⟨d, hd, ed, hr⟩, hv, hq⟩ := id h
    have og := ox_ge (hr j j1 j2).2.2.2.2.2.2
    rcases k5 with ⟨x1, x2, x3⟩ | ⟨x0, x1, x2, x3⟩ | ⟨x0, x1, x2, x3⟩ <;> rcases j5 with ⟨y1, y2, y3⟩ | ⟨y0, y1, y2, y3⟩ | ⟨y0, y1, y2, y3⟩
    · exact ⟨by rw [x2, y2], by rw [x3, y3], by rw [x3]; exact h⟩
    · exact absurd (og.mpr y0) x1
    · exact absurd (og.mpr y0) x1
    · exact absurd (og.mp (Decidable.not_not.mp x0)) y1
    · refine ⟨by rw [x2, y2], by rw [x3, y3], ?_⟩
      obtain ⟨e, e1, e2⟩ := day_of ⟨0, by omega, rfl⟩ k4
      rw [x3]
      refine ⟨hn, ⟨d, hd, ed, fun i i1 i2 => ?_⟩, hv, hq⟩
      obtain ⟨a1, a2, a3, a4, a5, a6⟩ := hr i i1 i2
      refine ⟨a1, a2, a3, a4, ?_, a6⟩
      by_cases hi : i = j
      · rw [hi, pk_uLs]; exact ⟨e, e1, e2⟩
      · rw [pk_uLn hi]; exact a5
    · exact absurd y1 (Int64.not_le.mpr x1)
    · exact absurd (og.mp (Decidable.not_not.mp x0)) y1
    · exact absurd (Int64.not_lt.mp x1) y1
    · exact ⟨by rw [x2, y2], by rw [x3, y3], by rw [x3]; exact h⟩
/-- rank -/
theorem p_rank {o x r1 r2 : Int32} {u1 u2 : Nat → Int32} (h1 : QrankC rk o x r1 u1) (h2 : QrankC rk o x r2 u2) : r1 = r2 ∧ u1 = u2 := by
  rcases h1 with ⟨a1, a2, a3⟩ | ⟨a1, a2, a3, a4⟩ | ⟨k, k1, k3, k4, k5, k6⟩ <;> rcases h2 with ⟨b1, b2, b3⟩ | ⟨b1, b2, b3, b4⟩ | ⟨j, j1, j3, j4, j5, j6⟩
  · exact ⟨by rw [a2, b2], by rw [a3, b3]⟩
  · exact absurd b1 a1
  · exact absurd (show ¬ o < 0 ∧ ¬ 9 ≤ o by rw [j3]; exact ⟨nI_pos (by omega), nI_ge (b := 9) j1 (by omega)⟩) a1
  · exact absurd a1 b1
  · exact ⟨by rw [a3, b3], by rw [a4, b4]⟩
  · exact absurd a2 j4
  · exact absurd (show ¬ o < 0 ∧ ¬ 9 ≤ o by rw [k3]; exact ⟨nI_pos (by omega), nI_ge (b := 9) k1 (by omega)⟩) b1
  · exact absurd b2 k4
  · have e : j = k := (nI_eq (by omega) (by omega)).mp (by rw [← j3, ← k3])
    subst e
    exact ⟨by rw [k5, j5], by rw [k6, j6]⟩
/-- ring -/
theorem p_ring {i r1 r2 : Int32} (h : Inv n now K P T V F U M X O rc rm rs) (h1 : ((i < 0 ∨ rs ≤ i) ∧ r1 = 0) ∨ (¬ i < 0 ∧ ¬ rs ≤ i ∧ r1 = rc i.toNatClampNeg)) (h2 : ((i < 0 ∨ rs ≤ i) ∧ r2 = 0) ∨ (¬ i < 0 ∧ ¬ rs ≤ i ∧ r2 = rm i.toNatClampNeg)) : r1 = r2 := by
  obtain ⟨-, -, -, q, q1, q2, q3⟩ := h
  rcases h1 with ⟨a1, a2⟩ | ⟨a1, a2, a3⟩ <;> rcases h2 with ⟨b1, b2⟩ | ⟨b1, b2, b3⟩
  · rw [a2, b2]
  · exact absurd a1 (fun c => c.elim b1 b2)
  · exact absurd b1 (fun c => c.elim a1 a2)
  · obtain ⟨j, hj, rfl⟩ := nI_of a1
    rw [a3, b3, nI_clamp hj]
    refine q3 j ?_
    rcases Nat.lt_or_ge j q with c | c
    · exact c
    · exact absurd (by rw [q2]; exact nI_le c hj) a2
end PURE
end
section
section PURE
variable {n : Nat} {now : Int64} {K E P T V : Nat → Int32} {F U M X O : Nat → Int64} {rk rc rm : Nat → Int32} {rs : Int32}
theorem cnt_mono {q : Nat → Bool} {i : Nat} : ∀ j, i ≤ j → cnt q i ≤ cnt q j
  | 0, h => by rw [show i = 0 by omega]; exact Nat.le_refl _
  | j + 1, h => by
    rcases Nat.lt_or_ge j i with c | c
    · rw [show i = j + 1 by omega]; exact Nat.le_refl _
    · have := cnt_mono (q := q) j c
      have e : cnt q (j + 1) = cnt q j + (if q (j + 1) = true then 1 else 0) := rfl
      omega
theorem cnt_lt {q : Nat → Bool} {i j : Nat} (h : i < j) (hq : q (i + 1) = true) : cnt q i < cnt q j := by
  have := cnt_mono (q := q) (i := i + 1) j h
  rw [cnt_t hq] at this
  omega
theorem TD_uniq {q : Nat → Bool} {i r1 r2 : Int32} (hn : n ≤ 200) (h1 : TD q n i r1) (h2 : TD q n i r2) : r1 = r2 := by
  rcases h1 with ⟨j, a1, a2, a3, a4⟩ | ⟨a1, a2⟩ <;> rcases h2 with ⟨k, b1, b2, b3, b4⟩ | ⟨b1, b2⟩
  · have e : cnt q j = cnt q k := (nI_eq (by have := cnt_le q j; omega) (by have := cnt_le q k; omega)).mp (by rw [a3, b3])
    have : j = k := by
      rcases Nat.lt_trichotomy j k with c | c | c
      · have := cnt_lt c a2; omega
      · exact c
      · have := cnt_lt c b2; omega
    rw [a4, b4, this]
  · exact absurd a3 (b1 j a1 a2)
  · exact absurd b3 (a1 k b1 b2)
  · rw [a2, b2]
theorem TD_congr {q q' : Nat → Bool} {i r : Int32} (h : ∀ k, 1 ≤ k → k ≤ n → q k = q' k) (h1 : TD q n i r) : TD q' n i r := by
  rcases h1 with ⟨j, a1, a2, a3, a4⟩ | ⟨a1, a2⟩
  · exact Or.inl ⟨j, a1, by rw [← h (j + 1) (by omega) (by omega)]; exact a2, by rw [← cnt_congr j (fun k k1 k2 => h k k1 (by omega))]; exact a3, a4⟩
  · refine Or.inr ⟨fun j j1 j2 => ?_, a2⟩
    rw [← cnt_congr j (fun k k1 k2 => h k k1 (by omega))]
    exact a1 j j1 (by rw [h (j + 1) (by omega) (by omega)]; exact j2)
/-- told -/
theorem p_told {sd i r1 r2 : Int32} (h : Inv n now K P T V F U M X O rc rm rs) (h1 : ((sd.toInt64 < 0 ∨ ¬ sd.toInt64 ≤ 49) ∧ r1 = -101) ∨ (¬ (sd.toInt64 < 0 ∨ ¬ sd.toInt64 ≤ 49) ∧ TD (qT K P T V F U X now sd) n i r1)) (h2 : ((sd.toInt64 < 0 ∨ ¬ sd.toInt64 ≤ 49) ∧ r2 = -101) ∨ (¬ (sd.toInt64 < 0 ∨ ¬ sd.toInt64 ≤ 49) ∧ TD (qU K P V F U O now sd) n i r2)) : r1 = r2 := by
  obtain ⟨hn, ⟨d, hd, ed, hr⟩, hv, hq⟩ := h
  rcases h1 with ⟨a1, a2⟩ | ⟨a1, a2⟩ <;> rcases h2 with ⟨b1, b2⟩ | ⟨b1, b2⟩
  · rw [a2, b2]
  · exact absurd a1 b1
  · exact absurd b1 a1
  · refine TD_uniq hn (TD_congr (fun k k1 k2 => ?_) a2) b2
    obtain ⟨c1, c2, c3, c4, c5, c6, ox⟩ := hr k k1 k2
    obtain ⟨g1, -, -⟩ := gt_send c3
    have o1 := ox_in ox hd
    unfold qT qU
    rw [ed]
    refine decide_eq_decide.mpr ⟨fun x => ⟨x.1, x.2.1, nle3.mpr (g1.mp x.2.2.1), ⟨x.2.2.2.1, x.2.2.2.2.1⟩, o1.mp x.2.2.2.2.2⟩, fun x => ⟨x.1, x.2.1, g1.mpr (nle3.mp x.2.2.1), x.2.2.2.1.1, x.2.2.2.1.2, o1.mpr x.2.2.2.2⟩⟩
theorem fdR_congr {q q' : Nat → Bool} {rv : Nat → Int32} : ∀ n, (∀ k, 1 ≤ k → k ≤ n → q k = q' k) → fdR q rv n = fdR q' rv n
  | 0, _ => rfl
  | n + 1, h => by
    have ih := fdR_congr (rv := rv) n (fun k h1 h2 => h k h1 (by omega))
    unfold fdR
    rw [ih, h (n + 1) (by omega) (by omega)]
theorem neg_m1 {d : Nat} {p : Int32} (h : p = -1 ∨ ∃ x, x ≤ 49 ∧ p = nI x) : p = -1 ↔ p < 0 := by
  rcases h with rfl | ⟨x, hx, rfl⟩
  · exact ⟨fun _ => by decide, fun _ => rfl⟩
  · refine ⟨fun e => ?_, fun e => absurd e (nI_pos (by omega))⟩
    have a := nI_pos (n := x) (by omega)
    rw [e] at a
    exact absurd (by decide) a
theorem fz_eq {wh kd : Int32} {dy : Int64} (h : Inv n now K P T V F U M X O rc rm rs) (hd : ¬ badD 0 dy) : fzC n K E P F U X rk wh kd dy = fzM n K E P F U O rk wh kd dy := by
  obtain ⟨hn, ⟨d, -, ed, hr⟩, hv, hq⟩ := h
  obtain ⟨e, e1, e2⟩ := day_of ⟨0, by omega, rfl⟩ hd
  funext a
  refine fdR_congr n (fun k k1 k2 => ?_)
  obtain ⟨c1, c2, c3, c4, c5, c6, ox⟩ := hr k k1 k2
  have o1 := ox_in ox e1
  have o2 := neg_m1 (d := 0) c2
  unfold qF qG
  rw [e2]
  refine decide_eq_decide.mpr ⟨fun x => ⟨x.1, x.2.1.imp o2.mp id, x.2.2.1, ⟨x.2.2.2.1, x.2.2.2.2.1⟩, o1.mp x.2.2.2.2.2⟩, fun x => ⟨x.1, x.2.1.imp o2.mpr id, x.2.2.1, x.2.2.2.1.1, x.2.2.2.1.2, o1.mpr x.2.2.2.2⟩⟩
/-- the way ends in one way -/
theorem EFF_stop {fz : Int32 → Nat} {rg : Nat → Int32} {en r : Int32} {rg1 : Nat → Int32} {rs1 : Int32} {i j : Nat} (h : ((∀ k, k < i → ¬ pth fz T en k = pth fz T en i) ∧ fz (pth fz T en i) = 0 ∧ r = pth fz T en i ∧ rs1 = rs ∧ rg1 = rg) ∨
   ((∀ k, k < i → ¬ pth fz T en k = pth fz T en i) ∧ ¬ fz (pth fz T en i) = 0 ∧ ¬ K (fz (pth fz T en i)) < 3 ∧ r = (if K (fz (pth fz T en i)) < 6 then 0 else -2) ∧ rs1 = rs ∧ rg1 = rg) ∨
   (∃ f, f < i ∧ pth fz T en f = pth fz T en i ∧ r = -1 ∧ rs1 = nI (i - f) ∧ i ≤ 99 ∧ ∀ j, j < i - f → rg1 j = pth fz T en (f + j))) (g : ∀ k, k < j → go1 fz K T en k) : ¬ i < j := by
  intro c
  obtain ⟨g1, g2, g3⟩ := g i c
  rcases h with h | h | ⟨f, f1, f2, -⟩
  · exact g1 h.2.1
  · exact h.2.2.1 g2
  · exact g3 f f1 f2
theorem EFF_uniq {fz : Int32 → Nat} {en r r' : Int32} {rg1 rg2 : Nat → Int32} {rs1 rs2 : Int32} (hq : ∃ q, q ≤ 99 ∧ rs = nI q ∧ ∀ j, j < q → rc j = rm j) (h1 : EFF fz K T rc rs en r rg1 rs1) (h2 : EFF fz K T rm rs en r' rg2 rs2) : r = r' ∧ rs1 = rs2 ∧ ∃ q, q ≤ 99 ∧ rs1 = nI q ∧ ∀ j, j < q → rg1 j = rg2 j := by
  obtain ⟨i, g1, e1⟩ := h1
  obtain ⟨j, g2, e2⟩ := h2
  have hij : i = j := by
    have a := EFF_stop e1 g2
    have b := EFF_stop e2 g1
    omega
  subst hij
  rcases e1 with ⟨a1, a2, a3, a4, a5⟩ | ⟨a1, a2, a3, a4, a5, a6⟩ | ⟨f, f1, f2, f3, f4, f5, f6⟩ <;> rcases e2 with ⟨b1, b2, b3, b4, b5⟩ | ⟨b1, b2, b3, b4, b5, b6⟩ | ⟨e, e1, e2, e3, e4, e5, e6⟩
  · exact ⟨by rw [a3, b3], by rw [a4, b4], by rw [a4, a5, b5]; exact hq⟩
  · exact absurd a2 b2
  · exact absurd e2 (a1 e e1)
  · exact absurd b2 a2
  · exact ⟨by rw [a4, b4], by rw [a5, b5], by rw [a5, a6, b6]; exact hq⟩
  · exact absurd e2 (a1 e e1)
  · exact absurd f2 (b1 f f1)
  · exact absurd f2 (b1 f f1)
  · have hfe : f = e := by
      rcases Nat.lt_trichotomy f e with c | c | c
      · exact absurd (f2.trans e2.symm) ((g1 e e1).2.2 f c)
      · exact c
      · exact absurd (e2.trans f2.symm) ((g1 f f1).2.2 e c)
    subst hfe
    exact ⟨by rw [f3, e3], by rw [f4, e4], i - f, by omega, f4, fun j hj => by rw [f6 j hj, e6 j hj]⟩
/-- effective -/
theorem p_eff {en wh kd r1 r2 : Int32} {dy : Int64} {rg1 rg2 : Nat → Int32} {rs1 rs2 : Int32} (h : Inv n now K P T V F U M X O rc rm rs) (h1 : QeffC n K E P T F U X rk rc rs en wh kd dy r1 rg1 rs1) (h2 : QeffM n K E P T F U O rk rm rs en wh kd dy r2 rg2 rs2) : r1 = r2 ∧ rs1 = rs2 ∧ Inv n now K P T V F U M X O rg1 rg2 rs1 := by
  rcases h1 with ⟨a1, a2, a3, a4⟩ | ⟨a1, a2, a3, a4, a5⟩ | ⟨a1, a2, a3⟩ <;> rcases h2 with ⟨b1, b2, b3, b4⟩ | ⟨b1, b2, b3, b4, b5⟩ | ⟨b1, b2, b3⟩
  · exact ⟨by rw [a2, b2], by rw [a4, b4], by rw [a3, a4, b3]; exact h⟩
  · exact absurd a1 b1
  · exact absurd a1 b1
  · exact absurd b1 a1
  · exact ⟨by rw [a3, b3], by rw [a5, b5], by rw [a4, a5, b4]; exact h⟩
  · exact absurd a2 b2
  · exact absurd b1 a1
  · exact absurd b2 a2
  · rw [fz_eq h (fun c => a2 (Or.inr c))] at a3
    obtain ⟨c1, c2, c3, c4⟩ := h
    obtain ⟨d1, d2, d3⟩ := EFF_uniq c4 a3 b3
    exact ⟨d1, d2, c1, c2, c3, d3⟩
theorem pers_of {wh : Int32} (h : ¬ (wh.toInt64 < -1 ∨ ¬ wh.toInt64 ≤ 49)) : wh = -1 ∨ ∃ x, x ≤ 49 ∧ wh = nI x := by
  have h1 : ¬ wh.toInt64 < -1 := fun q => h (Or.inl q)
  have h2 : wh.toInt64 ≤ 49 := Classical.byContradiction (fun q => h (Or.inr q))
  have e1 : (-1 : Int64).toInt = -1 := by decide +kernel
  have e2 : (49 : Int64).toInt = 49 := by decide +kernel
  have e3 : (-1 : Int32).toInt = -1 := by decide +kernel
  rw [Int64.lt_iff_toInt_lt, Int32.toInt_toInt64, e1] at h1
  rw [Int64.le_iff_toInt_le, Int32.toInt_toInt64, e2] at h2
  by_cases c : wh < 0
  · left
    apply Int32.toInt_inj.mp
    rw [Int32.lt_iff_toInt_lt, Int32.toInt_zero] at c
    omega
  · right
    obtain ⟨j, hj, rfl⟩ := nI_of c
    rw [nI_toInt hj] at h2
    exact ⟨j, by omega, rfl⟩
theorem span_of {fm un : Int64} (h1 : ¬ (fm < 0 ∨ ¬ fm ≤ un)) (h2 : ¬ 20000 < un) : ∃ f u, f ≤ 20000 ∧ u ≤ 20000 ∧ fm = lN f ∧ un = lN u := by
  have a1 : ¬ fm < 0 := fun q => h1 (Or.inl q)
  have a2 : fm ≤ un := Classical.byContradiction (fun q => h1 (Or.inr q))
  have a3 : ¬ un < 0 := fun q => a1 (Int64.lt_of_le_of_lt a2 q)
  obtain ⟨f, hf, rfl⟩ := pk_lOf a1
  obtain ⟨u, hu, rfl⟩ := pk_lOf a3
  have b1 := (pk_lLE hf hu).mp a2
  have b2 : ¬ 20000 < u := fun q => h2 ((pk_lLT (a := 20000) (by omega) hu).mpr q)
  exact ⟨f, u, by omega, by omega, rfl, rfl⟩
/-- order -/
theorem p_ord {ad : Nat → Nat} {kd en wh to r1 r2 : Int32} {fm un : Int64} {u1 : SO} {u2 : SM} (h : Inv n now K P T V F U M X O rc rm rs) (h1 : QordC n now ad K E P T V F U M X kd en wh to fm un r1 u1) (h2 : QordM n now K E P T F U M O kd en wh to fm un r2 u2) : r1 = r2 ∧ ∃ (n1 : Nat) (ad1 : Nat → Nat) (K1 E1 P1 T1 : Nat → Int32) (F1 U1 M1 X1 O1 : Nat → Int64), u1 = (n1, ad1, K1, E1, P1, T1, V, F1, U1, M1, X1) ∧ u2 = (n1, K1, E1, P1, T1, F1, U1, M1, O1) ∧ Inv n1 now K1 P1 T1 V F1 U1 M1 X1 O1 rc rm rs := by
  rcases h1 with ⟨a1, a2, a3⟩ | ⟨a1, a2, a3, a4⟩ | ⟨a1, a2, a3, a4, a5⟩ | ⟨a1, a2, a3, a4, q, a5⟩ <;> rcases h2 with ⟨b1, b2, b3⟩ | ⟨b1, b2, b3, b4⟩ | ⟨b1, b2, b3, b4, b5⟩ | ⟨b1, b2, b3, b4, b5⟩
  · exact ⟨by rw [a2, b2], n, ad, K, E, P, T, F, U, M, X, O, a3, b3, h⟩
  · exact absurd a1 b1
  · exact absurd a1 b1
  · exact absurd a1 b1
  · exact absurd b1 a1
  · exact ⟨by rw [a3, b3], n, ad, K, E, P, T, F, U, M, X, O, a4, b4, h⟩
  · exact absurd a2 b2
  · exact absurd a2 b2
  · exact absurd b1 a1
  · exact absurd b2 a2
  · exact ⟨by rw [a4, b4], n, ad, K, E, P, T, F, U, M, X, O, a5, b5, h⟩
  · exact absurd a3 b3
  · exact absurd b1 a1
  · exact absurd b2 a2
  · exact absurd b3 a3
  · obtain ⟨hn, ⟨d, hd, ed, hr⟩, hv, hq⟩ := h
    have hn1 : n < 200 := by
      rcases Nat.lt_or_ge n 200 with c | c
      · exact c
      · exact absurd (show nI n = 200 by rw [show n = 200 by omega]; rfl) a3
    refine ⟨by rw [a4, b4], n + 1, va_up ad (n + 1) q, _, _, _, _, _, _, _, _, _, by rw [a5, upd_self (hv (n + 1) (by omega))], b5, by omega, ⟨d, hd, ed, fun k k1 k2 => ?_⟩, fun k hk => hv k (by omega), hq⟩
    by_cases hk : k = n + 1
    · subst hk
      have k1 : ¬ kd < 0 ∧ ¬ 9 ≤ kd := Classical.byContradiction (fun c => a2 (Or.inl c))
      obtain ⟨x, x1, x2⟩ := kind_of k1
      obtain ⟨f, u, s1, s2, s3, s4⟩ := span_of (fun c => a2 (Or.inr (Or.inl c))) (fun c => a2 (Or.inr (Or.inr (Or.inl c))))
      refine ⟨?_, ?_, ?_, ?_, ?_, ?_, ?_⟩
      · rw [pk_us]; exact ⟨x, x1, x2⟩
      · rw [pk_us]; exact pers_of (fun c => a1 (Or.inr (Or.inl c)))
      · rw [pk_us, pk_us]
        intro c
        rw [if_pos c]
        exact adr_of (Classical.byContradiction (fun z => a1 (Or.inr (Or.inr ⟨⟨k1, nle3.mpr c⟩, z⟩))))
      · rw [pk_uLs]; exact ⟨f, s1, s3⟩
      · rw [pk_uLs]; exact ⟨u, s2, s4⟩
      · rw [pk_uLs]; exact ⟨d, Nat.le_refl d, ed⟩
      · rw [pk_uLs, pk_uLs]; exact Or.inl ⟨rfl, rfl⟩
    · obtain ⟨c1, c2, c3, c4, c5, c6, c7⟩ := hr k k1 (by omega)
      refine ⟨?_, ?_, ?_, ?_, ?_, ?_, ?_⟩
      · rw [pk_un hk]; exact c1
      · rw [pk_un hk]; exact c2
      · rw [pk_un hk, pk_un hk]; exact c3
      · rw [pk_uLn hk]; exact c4
      · rw [pk_uLn hk]; exact c5
      · rw [pk_uLn hk]; exact c6
      · rw [pk_uLn hk, pk_uLn hk]; exact c7
end PURE
end
section
/-! THE LAW'S CASES: the class's call, the reference's call, the answers are alike -/
def lgv (x y : Int32) : Int64 := (x.toInt64 <<< ((32 : Int32).toInt64 &&& 63)) ||| (y.toInt64 &&& 4294967295)
abbrev AL (s : State) : Nat → Prop := fun q : Nat => s.heap.size ≤ q
abbrev LWd (g a cs : Nat → Nat) (n : Nat) (now : Int64) (ad : Nat → Nat) (K E P T V : Nat → Int32) (F U M X O : Nat → Int64) (rk wc ps rc wm rm : Nat → Int32) (rs : Int32) : va_W := cW g cs n now ad K E P T V F U M X rk wc ps rc rs ++ mW a cs 0 n now K E P T V F U M O rk wm rm 0 rs
/-- behind a case -/
abbrev KT (p : Program) (l : Launch) (e : Env) (s : State) (m : MethodId) (below : List Frame) (meth : Method) (c : Code) (D : va_G) (g a cs : Nat → Nat) (b i : Nat) (ls : Array Slot) : Prop := ∀ (n : Nat) (now : Int64) (ad : Nat → Nat) (K E P T V : Nat → Int32) (F U M X O : Nat → Int64) (rk wc ps rc wm rm : Nat → Int32) (rs : Int32) (H : Heap) (locs : List Loc), Inv n now K P T V F U M X O rc rm rs → va_P D classes (LWd g a cs n now ad K E P T V F U M X O rk wc ps rc wm rm rs) H → va_D (AL s) (LWd g a cs n now ad K E P T V F U M X O rk wc ps rc wm rm rs) → va_S (AL s) s.heap H locs → W p l e room_1 s m #[Value.ref b] below meth c H locs (19 + i + 1) (2554 + 9 * i + 9) (lw_Z below #[Value.ref b] s) (F0 m 663 ls [])
section SCR
variable {p : Program} {l : Launch} {e : Env} {R : Room} {s : State} {m : MethodId} {args : Array Value} {below : List Frame} {meth : Method} {c : Code} {H : Heap} {locs : List Loc} {cells slots : Nat} {Q : State → Prop} {pc i k L b : Nat} {ls : Array Slot} {rest : List Value} {xs : Nat → Int32} {A : Nat → Prop}
/-- script[i + k] -/
theorem scr_c {kI : Int} (hx : p.tables.exec = Jvm.exec) (hb : c.code = code) (hX : va_X b L xs s s.heap) (hbl : b < s.heap.size) (hbA : ¬ A b) (hS : va_S A s.heap H locs) (h0 : ls[0]? = some (.val (.ref b))) (h3 : ls[3]? = some (.val (.int (nI i)))) (d0 : decode code pc = .ok (.aload_n 0, 1)) (d1 : decode code (pc + 1) = .ok (.iload_n 3, 1)) (d2 : decode code (pc + 2) = .ok (.iconst kI, 1)) (d3 : decode code (pc + 3) = .ok (.iadd, 1)) (d4 : decode code (pc + 4) = .ok (.iaload, 1)) (hk : Int32.ofInt kI = nI k) (hik : i + k < L) (hL : L < 2 ^ 31)
    (kk : W p l e R s m args below meth c H locs cells slots Q (F0 m (pc + 5) ls (.int (xs (i + k)) :: rest))) : W p l e R s m args below meth c H locs cells slots Q (F0 m pc ls rest) := by
  refine lv_aload_n hx hb d0 rfl h0 ?_
  refine lv_iload_n hx hb d1 rfl h3 ?_
  refine lv_iconst (v := nI k) hx hb d2 hk ?_
  refine lv_iadd hx hb d3 ?_
  rw [nI_add]
  refine va_sld hx hb hX hbl hbA hS (vp_in_nI hik hL) d4 ?_
  rw [nI_clamp (by omega)]
  exact kk
theorem scr_b {kI : Int} (hx : p.tables.exec = Jvm.exec) (hb : c.code = code) (hX : va_X b L xs s s.heap) (hbl : b < s.heap.size) (hbA : ¬ A b) (hS : va_S A s.heap H locs) (h0 : ls[0]? = some (.val (.ref b))) (h3 : ls[3]? = some (.val (.int (nI i)))) (d0 : decode code pc = .ok (.aload_n 0, 1)) (d1 : decode code (pc + 1) = .ok (.iload_n 3, 1)) (d2 : decode code (pc + 2) = .ok (.bipush kI, 2)) (d3 : decode code (pc + 4) = .ok (.iadd, 1)) (d4 : decode code (pc + 5) = .ok (.iaload, 1)) (hk : (Int8.ofInt kI).toInt32 = nI k) (hik : i + k < L) (hL : L < 2 ^ 31)
    (kk : W p l e R s m args below meth c H locs cells slots Q (F0 m (pc + 6) ls (.int (xs (i + k)) :: rest))) : W p l e R s m args below meth c H locs cells slots Q (F0 m pc ls rest) := by
  refine lv_aload_n hx hb d0 rfl h0 ?_
  refine lv_iload_n hx hb d1 rfl h3 ?_
  refine lv_bipush (v := nI k) hx hb d2 hk ?_
  refine lv_iadd hx hb d3 ?_
  rw [nI_add]
  refine va_sld hx hb hX hbl hbA hS (vp_in_nI hik hL) d4 ?_
  rw [nI_clamp (by omega)]
  exact kk
end SCR
set_option maxHeartbeats 4000000 in
set_option maxRecDepth 100000 in
/-- case 0: order -/
theorem law_c0 {p : Program} {l : Launch} {e : Env} {s : State} {m : MethodId} {below : List Frame} {meth : Method} {c : Code} {D : va_G} {g a cs : Nat → Nat} {b L : Nat} {xs : Nat → Int32} (hL : L ≤ 4608) (C0 : lw_At p s m meth c b L xs) (hK : va_K D classes (ty4 cs) s) (hN : Nx s) {i : Nat} (hi : i + 9 ≤ L) {n : Nat} {now : Int64} {ad : Nat → Nat} {K E P T V : Nat → Int32} {F U M X O : Nat → Int64} {rk wc ps rc wm rm : Nat → Int32} {rs : Int32} {H : Heap} {locs : List Loc} {ls : Array Slot} (hI : Inv n now K P T V F U M X O rc rm rs) (hP : va_P D classes (LWd g a cs n now ad K E P T V F U M X O rk wc ps rc wm rm rs) H) (hD : va_D (AL s) (LWd g a cs n now ad K E P T V F U M X O rk wc ps rc wm rm rs)) (hS : va_S (AL s) s.heap H locs) (hl : lv_has ls 4 [(0, .ref b), (1, .ref (g 0)), (2, .ref (a 0)), (3, .int (nI i))]) (kk : KT p l e s m below meth c D g a cs b i ls) : W p l e room_1 s m #[Value.ref b] below meth c H locs (19 + i) (2554 + 9 * i) (lw_Z below #[Value.ref b] s) (F0 m 84 ls []) := by
  obtain ⟨hx, hb, hr, hml, hown, hts, hX, hbl, hlocks, hgv⟩ := id C0
  have hown : s.vm.findClass "OrderRows2Law" = some m.cls := hown
  have ht : ∀ w ∈ wt, w.before #[Value.ref b] s = true := fun w h => hts w (wt_sub w h)
  have hA : ∀ q : Nat, s.heap.size ≤ q → AL s q := fun _ h => h
  have hbA : ¬ AL s b := Nat.not_le.mpr hbl
  refine lv_aload_n hx hb d_law_84 rfl (lv_at hl 1 rfl) ?_
  refine scr_c (k := 1) hx hb hX hbl hbA hS (lv_at hl 0 rfl) (lv_at hl 3 rfl) d_law_85 d_law_86 d_law_87 d_law_88 d_law_89 (by decide) (by omega) (by omega) ?_
  refine scr_c (k := 2) hx hb hX hbl hbA hS (lv_at hl 0 rfl) (lv_at hl 3 rfl) d_law_90 d_law_91 d_law_92 d_law_93 d_law_94 (by decide) (by omega) (by omega) ?_
  refine scr_c (k := 3) hx hb hX hbl hbA hS (lv_at hl 0 rfl) (lv_at hl 3 rfl) d_law_95 d_law_96 d_law_97 d_law_98 d_law_99 (by decide) (by omega) (by omega) ?_
  refine scr_c (k := 4) hx hb hX hbl hbA hS (lv_at hl 0 rfl) (lv_at hl 3 rfl) d_law_100 d_law_101 d_law_102 d_law_103 d_law_104 (by decide) (by omega) (by omega) ?_
  refine scr_c (k := 5) hx hb hX hbl hbA hS (lv_at hl 0 rfl) (lv_at hl 3 rfl) d_law_105 d_law_106 d_law_107 d_law_108 d_law_109 (by decide) (by omega) (by omega) ?_
  refine lv_i2l (v := (xs (i + 5)).toInt64) hx hb d_law_110 rfl ?_
  refine lv_bipush (v := 32) hx hb d_law_111 (by decide) ?_
  refine lv_lshl (v := ((xs (i + 5)).toInt64) <<< ((32 : Int32).toInt64 &&& 63)) hx hb d_law_113 rfl ?_
  refine scr_b (k := 6) hx hb hX hbl hbA hS (lv_at hl 0 rfl) (lv_at hl 3 rfl) d_law_114 d_law_115 d_law_116 d_law_118 d_law_119 (by decide) (by omega) (by omega) ?_
  refine lv_i2l (v := (xs (i + 6)).toInt64) hx hb d_law_120 rfl ?_
  refine lv_ldc2 (v := 4294967295) hx hb hown (ht _ tk_381) d_law_121 ?_
  refine lv_land hx hb d_law_124 ?_
  refine lv_lor hx hb d_law_125 ?_
  refine W.eq (g2 := F0 m 126 ls [.long (lgv (xs (i + 5)) (xs (i + 6))), .int (xs (i + 4)), .int (xs (i + 3)), .int (xs (i + 2)), .int (xs (i + 1)), .ref (g 0)]) rfl ?_
  refine scr_b (k := 7) hx hb hX hbl hbA hS (lv_at hl 0 rfl) (lv_at hl 3 rfl) d_law_126 d_law_127 d_law_128 d_law_130 d_law_131 (by decide) (by omega) (by omega) ?_
  refine lv_i2l (v := (xs (i + 7)).toInt64) hx hb d_law_132 rfl ?_
  refine lv_bipush (v := 32) hx hb d_law_133 (by decide) ?_
  refine lv_lshl (v := ((xs (i + 7)).toInt64) <<< ((32 : Int32).toInt64 &&& 63)) hx hb d_law_135 rfl ?_
  refine scr_b (k := 8) hx hb hX hbl hbA hS (lv_at hl 0 rfl) (lv_at hl 3 rfl) d_law_136 d_law_137 d_law_138 d_law_140 d_law_141 (by decide) (by omega) (by omega) ?_
  refine lv_i2l (v := (xs (i + 8)).toInt64) hx hb d_law_142 rfl ?_
  refine lv_ldc2 (v := 4294967295) hx hb hown (ht _ tk_381) d_law_143 ?_
  refine lv_land hx hb d_law_146 ?_
  refine lv_lor hx hb d_law_147 ?_
  refine W.eq (g2 := F0 m 148 ls [.long (lgv (xs (i + 7)) (xs (i + 8))), .long (lgv (xs (i + 5)) (xs (i + 6))), .int (xs (i + 4)), .int (xs (i + 3)), .int (xs (i + 2)), .int (xs (i + 1)), .ref (g 0)]) rfl ?_
  have hFc := freeW hD.left hS hA
  refine va_calli (va_runV (C := R_X) (As := [.int (xs (i + 1)), .int (xs (i + 2)), .int (xs (i + 3)), .int (xs (i + 4)), .long (lgv (xs (i + 5)) (xs (i + 6))), .long (lgv (xs (i + 7)) (xs (i + 8)))]) (rest := []) ⟨hx, hb, hml, hown, ht⟩ (c_X_order l (xs (i + 1)) (xs (i + 2)) (xs (i + 3)) (xs (i + 4)) (lgv (xs (i + 5)) (xs (i + 6))) (lgv (xs (i + 7)) (xs (i + 8))) D g cs n now ad K E P T V F U M X rk wc ps rc rs hI.1 _) (cV_ 6 ht tk_49 tk_46 tk_1 tk_47 tk_48 hd_X_order ⟨Nat.le_of_ble_eq_true rfl, Nat.le_of_ble_eq_true rfl⟩) ⟨fun _ _ _ _ q => ⟨q.1, q.2.1, q.2.2.1, KK.call q.2.2.2.1, q.2.2.2.2⟩, va_recv (ci := 3) (q0 := 0) hK hP.left rfl rfl, fun U0 hU hW => ⟨rfl, by rw [hU], by rw [hU]; exact hP.left, KK.warm hK hN hW, hD.left.weaken (fun _ _ _ _ => trivial)⟩⟩ rfl rfl hl.1 rfl (lv_room (Nat.le_of_ble_eq_true rfl)) d_law_148 ⟨show _ ≤ 600000 by omega, show _ ≤ 7302250 by omega⟩) hS (fun q _ h => hFc q h) hFc (fun r1 u1 t1 H locs ht1 hvm1 h1 hB hz1 hkp hS => ?_)
  obtain ⟨hP1, hD1⟩ := hB
  rw [ht1] at hP1
  obtain ⟨hP, hD⟩ := jnL hP hD hkp hFc hP1 hD1
  refine lv_aload_n hx hb d_law_151 rfl (lv_at hl 2 rfl) ?_
  refine scr_c (k := 1) hx hb hX hbl hbA hS (lv_at hl 0 rfl) (lv_at hl 3 rfl) d_law_152 d_law_153 d_law_154 d_law_155 d_law_156 (by decide) (by omega) (by omega) ?_
  refine scr_c (k := 2) hx hb hX hbl hbA hS (lv_at hl 0 rfl) (lv_at hl 3 rfl) d_law_157 d_law_158 d_law_159 d_law_160 d_law_161 (by decide) (by omega) (by omega) ?_
  refine scr_c (k := 3) hx hb hX hbl hbA hS (lv_at hl 0 rfl) (lv_at hl 3 rfl) d_law_162 d_law_163 d_law_164 d_law_165 d_law_166 (by decide) (by omega) (by omega) ?_
  refine scr_c (k := 4) hx hb hX hbl hbA hS (lv_at hl 0 rfl) (lv_at hl 3 rfl) d_law_167 d_law_168 d_law_169 d_law_170 d_law_171 (by decide) (by omega) (by omega) ?_
  refine scr_c (k := 5) hx hb hX hbl hbA hS (lv_at hl 0 rfl) (lv_at hl 3 rfl) d_law_172 d_law_173 d_law_174 d_law_175 d_law_176 (by decide) (by omega) (by omega) ?_
  refine lv_i2l (v := (xs (i + 5)).toInt64) hx hb d_law_177 rfl ?_
  refine lv_bipush (v := 32) hx hb d_law_178 (by decide) ?_
  refine lv_lshl (v := ((xs (i + 5)).toInt64) <<< ((32 : Int32).toInt64 &&& 63)) hx hb d_law_180 rfl ?_
  refine scr_b (k := 6) hx hb hX hbl hbA hS (lv_at hl 0 rfl) (lv_at hl 3 rfl) d_law_181 d_law_182 d_law_183 d_law_185 d_law_186 (by decide) (by omega) (by omega) ?_
  refine lv_i2l (v := (xs (i + 6)).toInt64) hx hb d_law_187 rfl ?_
  refine lv_ldc2 (v := 4294967295) hx hb hown (ht _ tk_381) d_law_188 ?_
  refine lv_land hx hb d_law_191 ?_
  refine lv_lor hx hb d_law_192 ?_
  refine W.eq (g2 := F0 m 193 ls [.long (lgv (xs (i + 5)) (xs (i + 6))), .int (xs (i + 4)), .int (xs (i + 3)), .int (xs (i + 2)), .int (xs (i + 1)), .ref (a 0), .int r1]) rfl ?_
  refine scr_b (k := 7) hx hb hX hbl hbA hS (lv_at hl 0 rfl) (lv_at hl 3 rfl) d_law_193 d_law_194 d_law_195 d_law_197 d_law_198 (by decide) (by omega) (by omega) ?_
  refine lv_i2l (v := (xs (i + 7)).toInt64) hx hb d_law_199 rfl ?_
  refine lv_bipush (v := 32) hx hb d_law_200 (by decide) ?_
  refine lv_lshl (v := ((xs (i + 7)).toInt64) <<< ((32 : Int32).toInt64 &&& 63)) hx hb d_law_202 rfl ?_
  refine scr_b (k := 8) hx hb hX hbl hbA hS (lv_at hl 0 rfl) (lv_at hl 3 rfl) d_law_203 d_law_204 d_law_205 d_law_207 d_law_208 (by decide) (by omega) (by omega) ?_
  refine lv_i2l (v := (xs (i + 8)).toInt64) hx hb d_law_209 rfl ?_
  refine lv_ldc2 (v := 4294967295) hx hb hown (ht _ tk_381) d_law_210 ?_
  refine lv_land hx hb d_law_213 ?_
  refine lv_lor hx hb d_law_214 ?_
  refine W.eq (g2 := F0 m 215 ls [.long (lgv (xs (i + 7)) (xs (i + 8))), .long (lgv (xs (i + 5)) (xs (i + 6))), .int (xs (i + 4)), .int (xs (i + 3)), .int (xs (i + 2)), .int (xs (i + 1)), .ref (a 0), .int r1]) rfl ?_
  have hFc := freeW hD.right hS hA
  refine va_calli (va_runV (C := R_M) (As := [.int (xs (i + 1)), .int (xs (i + 2)), .int (xs (i + 3)), .int (xs (i + 4)), .long (lgv (xs (i + 5)) (xs (i + 6))), .long (lgv (xs (i + 7)) (xs (i + 8)))]) (rest := [.int r1]) ⟨hx, hb, hml, hown, ht⟩ (c_M_order l (xs (i + 1)) (xs (i + 2)) (xs (i + 3)) (xs (i + 4)) (lgv (xs (i + 5)) (xs (i + 6))) (lgv (xs (i + 7)) (xs (i + 8))) D a cs 0 n now K E P T V F U M O rk wm rm 0 rs hI.1 _) (cV_ 6 ht tk_316 tk_313 tk_2 tk_314 tk_315 hd_M_order ⟨Nat.le_of_ble_eq_true rfl, Nat.le_of_ble_eq_true rfl⟩) ⟨fun _ _ _ _ q => ⟨q.1, q.2.1, q.2.2.1, KK.call q.2.2.2.1, q.2.2.2.2⟩, va_recv (ci := 4) (q0 := 0) hK hP.right rfl rfl, fun U0 hU hW => ⟨rfl, by rw [hU], by rw [hU]; exact hP.right, KK.warm hK hN hW, hD.right.weaken (fun _ _ _ _ => trivial)⟩⟩ rfl rfl hl.1 rfl (lv_room (Nat.le_of_ble_eq_true rfl)) d_law_215 ⟨show _ ≤ 600000 by omega, show _ ≤ 7302250 by omega⟩) hS (fun q _ h => hFc q h) hFc (fun r2 u2 t2 H locs ht2 hvm2 h2 hB hz2 hkp hS => ?_)
  obtain ⟨hP1, hD1⟩ := hB
  rw [ht2] at hP1
  obtain ⟨hP, hD⟩ := jnR hP hD hkp hFc hP1 hD1
  refine lv_icmp_eq (tgt := 663) hx hb d_law_218 (by decide) (fun c_1 => ?_) (fun c_1 => ?_)
  · obtain ⟨heq, n1, ad1, K1, E1, P1, T1, F1, U1, M1, X1, O1, e1, e2, hI1⟩ := p_ord hI h1 h2
    subst e1
    subst e2
    exact kk n1 now ad1 K1 E1 P1 T1 V F1 U1 M1 X1 O1 rk wc ps rc wm rm rs H locs hI1 hP hD hS
  · obtain ⟨heq, n1, ad1, K1, E1, P1, T1, F1, U1, M1, X1, O1, e1, e2, hI1⟩ := p_ord hI h1 h2
    exact absurd heq c_1
set_option maxHeartbeats 4000000 in
set_option maxRecDepth 100000 in
/-- case 1: proof -/
theorem law_c1 {p : Program} {l : Launch} {e : Env} {s : State} {m : MethodId} {below : List Frame} {meth : Method} {c : Code} {D : va_G} {g a cs : Nat → Nat} {b L : Nat} {xs : Nat → Int32} (hL : L ≤ 4608) (C0 : lw_At p s m meth c b L xs) (hK : va_K D classes (ty4 cs) s) (hN : Nx s) {i : Nat} (hi : i + 9 ≤ L) {n : Nat} {now : Int64} {ad : Nat → Nat} {K E P T V : Nat → Int32} {F U M X O : Nat → Int64} {rk wc ps rc wm rm : Nat → Int32} {rs : Int32} {H : Heap} {locs : List Loc} {ls : Array Slot} (hI : Inv n now K P T V F U M X O rc rm rs) (hP : va_P D classes (LWd g a cs n now ad K E P T V F U M X O rk wc ps rc wm rm rs) H) (hD : va_D (AL s) (LWd g a cs n now ad K E P T V F U M X O rk wc ps rc wm rm rs)) (hS : va_S (AL s) s.heap H locs) (hl : lv_has ls 4 [(0, .ref b), (1, .ref (g 0)), (2, .ref (a 0)), (3, .int (nI i))]) (kk : KT p l e s m below meth c D g a cs b i ls) : W p l e room_1 s m #[Value.ref b] below meth c H locs (19 + i) (2554 + 9 * i) (lw_Z below #[Value.ref b] s) (F0 m 223 ls []) := by
  obtain ⟨hx, hb, hr, hml, hown, hts, hX, hbl, hlocks, hgv⟩ := id C0
  have hown : s.vm.findClass "OrderRows2Law" = some m.cls := hown
  have ht : ∀ w ∈ wt, w.before #[Value.ref b] s = true := fun w h => hts w (wt_sub w h)
  have hA : ∀ q : Nat, s.heap.size ≤ q → AL s q := fun _ h => h
  have hbA : ¬ AL s b := Nat.not_le.mpr hbl
  refine lv_aload_n hx hb d_law_223 rfl (lv_at hl 1 rfl) ?_
  refine scr_c (k := 1) hx hb hX hbl hbA hS (lv_at hl 0 rfl) (lv_at hl 3 rfl) d_law_224 d_law_225 d_law_226 d_law_227 d_law_228 (by decide) (by omega) (by omega) ?_
  refine scr_c (k := 2) hx hb hX hbl hbA hS (lv_at hl 0 rfl) (lv_at hl 3 rfl) d_law_229 d_law_230 d_law_231 d_law_232 d_law_233 (by decide) (by omega) (by omega) ?_
  refine lv_if_eq (tgt := 241) hx hb d_law_234 (by decide) (fun c_1 => ?_) (fun c_1 => ?_)
  · refine lv_iconst (v := 0) hx hb d_law_241 (by decide) ?_
    refine scr_c (k := 3) hx hb hX hbl hbA hS (lv_at hl 0 rfl) (lv_at hl 3 rfl) d_law_242 d_law_243 d_law_244 d_law_245 d_law_246 (by decide) (by omega) (by omega) ?_
    refine lv_i2l (v := (xs (i + 3)).toInt64) hx hb d_law_247 rfl ?_
    refine lv_bipush (v := 32) hx hb d_law_248 (by decide) ?_
    refine lv_lshl (v := ((xs (i + 3)).toInt64) <<< ((32 : Int32).toInt64 &&& 63)) hx hb d_law_250 rfl ?_
    refine scr_c (k := 4) hx hb hX hbl hbA hS (lv_at hl 0 rfl) (lv_at hl 3 rfl) d_law_251 d_law_252 d_law_253 d_law_254 d_law_255 (by decide) (by omega) (by omega) ?_
    refine lv_i2l (v := (xs (i + 4)).toInt64) hx hb d_law_256 rfl ?_
    refine lv_ldc2 (v := 4294967295) hx hb hown (ht _ tk_381) d_law_257 ?_
    refine lv_land hx hb d_law_260 ?_
    refine lv_lor hx hb d_law_261 ?_
    refine W.eq (g2 := F0 m 262 ls [.long (lgv (xs (i + 3)) (xs (i + 4))), .int 0, .int (xs (i + 1)), .ref (g 0)]) rfl ?_
    have hFc := freeW hD.left hS hA
    refine va_calli (va_runV (C := R_X) (As := [.int (xs (i + 1)), .int 0, .long (lgv (xs (i + 3)) (xs (i + 4)))]) (rest := []) ⟨hx, hb, hml, hown, ht⟩ (c_X_proof l (xs (i + 1)) 0 (lgv (xs (i + 3)) (xs (i + 4))) D g cs n now ad K E P T V F U M X rk wc ps rc rs hI.1 (Or.inl rfl) _) (cV_ 3 ht tk_139 tk_136 tk_1 tk_137 tk_138 hd_X_proof ⟨Nat.le_of_ble_eq_true rfl, Nat.le_of_ble_eq_true rfl⟩) ⟨fun _ _ _ _ q => ⟨q.1, q.2.1, q.2.2.1, KK.call q.2.2.2.1, q.2.2.2.2⟩, va_recv (ci := 3) (q0 := 0) hK hP.left rfl rfl, fun U0 hU hW => ⟨rfl, by rw [hU], by rw [hU]; exact hP.left, KK.warm hK hN hW, hD.left.weaken (fun _ _ _ _ => trivial)⟩⟩ rfl rfl hl.1 rfl (lv_room (Nat.le_of_ble_eq_true rfl)) d_law_262 ⟨show _ ≤ 600000 by omega, show _ ≤ 7302250 by omega⟩) hS (fun q _ h => hFc q h) hFc (fun r1 u1 t1 H locs ht1 hvm1 h1 hB hz1 hkp hS => ?_)
    obtain ⟨hP1, hD1⟩ := hB
    rw [ht1] at hP1
    obtain ⟨hP, hD⟩ := jnL hP hD hkp hFc hP1 hD1
    refine lv_aload_n hx hb d_law_265 rfl (lv_at hl 2 rfl) ?_
    refine scr_c (k := 1) hx hb hX hbl hbA hS (lv_at hl 0 rfl) (lv_at hl 3 rfl) d_law_266 d_law_267 d_law_268 d_law_269 d_law_270 (by decide) (by omega) (by omega) ?_
    refine scr_c (k := 2) hx hb hX hbl hbA hS (lv_at hl 0 rfl) (lv_at hl 3 rfl) d_law_271 d_law_272 d_law_273 d_law_274 d_law_275 (by decide) (by omega) (by omega) ?_
    refine lv_if_eq (tgt := 283) hx hb d_law_276 (by decide) (fun c_2 => ?_) (fun c_2 => ?_)
    · refine lv_iconst (v := 0) hx hb d_law_283 (by decide) ?_
      refine scr_c (k := 3) hx hb hX hbl hbA hS (lv_at hl 0 rfl) (lv_at hl 3 rfl) d_law_284 d_law_285 d_law_286 d_law_287 d_law_288 (by decide) (by omega) (by omega) ?_
      refine lv_i2l (v := (xs (i + 3)).toInt64) hx hb d_law_289 rfl ?_
      refine lv_bipush (v := 32) hx hb d_law_290 (by decide) ?_
      refine lv_lshl (v := ((xs (i + 3)).toInt64) <<< ((32 : Int32).toInt64 &&& 63)) hx hb d_law_292 rfl ?_
      refine scr_c (k := 4) hx hb hX hbl hbA hS (lv_at hl 0 rfl) (lv_at hl 3 rfl) d_law_293 d_law_294 d_law_295 d_law_296 d_law_297 (by decide) (by omega) (by omega) ?_
      refine lv_i2l (v := (xs (i + 4)).toInt64) hx hb d_law_298 rfl ?_
      refine lv_ldc2 (v := 4294967295) hx hb hown (ht _ tk_381) d_law_299 ?_
      refine lv_land hx hb d_law_302 ?_
      refine lv_lor hx hb d_law_303 ?_
      refine W.eq (g2 := F0 m 304 ls [.long (lgv (xs (i + 3)) (xs (i + 4))), .int 0, .int (xs (i + 1)), .ref (a 0), .int r1]) rfl ?_
      have hFc := freeW hD.right hS hA
      refine va_calli (va_runV (C := R_M) (As := [.int (xs (i + 1)), .int 0, .long (lgv (xs (i + 3)) (xs (i + 4)))]) (rest := [.int r1]) ⟨hx, hb, hml, hown, ht⟩ (c_M_proof l (xs (i + 1)) 0 (lgv (xs (i + 3)) (xs (i + 4))) D a cs 0 n now K E P T V F U M O rk wm rm 0 rs hI.1 (Or.inl rfl) _) (cV_ 3 ht tk_328 tk_325 tk_2 tk_326 tk_327 hd_M_proof ⟨Nat.le_of_ble_eq_true rfl, Nat.le_of_ble_eq_true rfl⟩) ⟨fun _ _ _ _ q => ⟨q.1, q.2.1, q.2.2.1, KK.call q.2.2.2.1, q.2.2.2.2⟩, va_recv (ci := 4) (q0 := 0) hK hP.right rfl rfl, fun U0 hU hW => ⟨rfl, by rw [hU], by rw [hU]; exact hP.right, KK.warm hK hN hW, hD.right.weaken (fun _ _ _ _ => trivial)⟩⟩ rfl rfl hl.1 rfl (lv_room (Nat.le_of_ble_eq_true rfl)) d_law_304 ⟨show _ ≤ 600000 by omega, show _ ≤ 7302250 by omega⟩) hS (fun q _ h => hFc q h) hFc (fun r2 u2 t2 H locs ht2 hvm2 h2 hB hz2 hkp hS => ?_)
      obtain ⟨hP1, hD1⟩ := hB
      rw [ht2] at hP1
      obtain ⟨hP, hD⟩ := jnR hP hD hkp hFc hP1 hD1
      refine lv_icmp_eq (tgt := 663) hx hb d_law_307 (by decide) (fun c_3 => ?_) (fun c_3 => ?_)
      · obtain ⟨heq, n1, V1, X1, O1, e1, e2, hI1⟩ := p_proof hI h1 h2
        subst e1
        subst e2
        refine W.widen (k := 19 + i + 1) (n := 2554 + 9 * i + 9) (by omega) (by omega) ?_
        exact kk n n1 ad K E P T V1 F U M X1 O1 rk wc ps rc wm rm rs H locs hI1 hP hD hS
      · obtain ⟨heq, n1, V1, X1, O1, e1, e2, hI1⟩ := p_proof hI h1 h2
        exact absurd heq c_3
    · exact absurd c_1 c_2
  · refine lv_iconst (v := 1) hx hb d_law_237 (by decide) ?_
    refine lv_goto (tgt := 242) hx hb d_law_238 (by decide) ?_
    refine scr_c (k := 3) hx hb hX hbl hbA hS (lv_at hl 0 rfl) (lv_at hl 3 rfl) d_law_242 d_law_243 d_law_244 d_law_245 d_law_246 (by decide) (by omega) (by omega) ?_
    refine lv_i2l (v := (xs (i + 3)).toInt64) hx hb d_law_247 rfl ?_
    refine lv_bipush (v := 32) hx hb d_law_248 (by decide) ?_
    refine lv_lshl (v := ((xs (i + 3)).toInt64) <<< ((32 : Int32).toInt64 &&& 63)) hx hb d_law_250 rfl ?_
    refine scr_c (k := 4) hx hb hX hbl hbA hS (lv_at hl 0 rfl) (lv_at hl 3 rfl) d_law_251 d_law_252 d_law_253 d_law_254 d_law_255 (by decide) (by omega) (by omega) ?_
    refine lv_i2l (v := (xs (i + 4)).toInt64) hx hb d_law_256 rfl ?_
    refine lv_ldc2 (v := 4294967295) hx hb hown (ht _ tk_381) d_law_257 ?_
    refine lv_land hx hb d_law_260 ?_
    refine lv_lor hx hb d_law_261 ?_
    refine W.eq (g2 := F0 m 262 ls [.long (lgv (xs (i + 3)) (xs (i + 4))), .int 1, .int (xs (i + 1)), .ref (g 0)]) rfl ?_
    have hFc := freeW hD.left hS hA
    refine va_calli (va_runV (C := R_X) (As := [.int (xs (i + 1)), .int 1, .long (lgv (xs (i + 3)) (xs (i + 4)))]) (rest := []) ⟨hx, hb, hml, hown, ht⟩ (c_X_proof l (xs (i + 1)) 1 (lgv (xs (i + 3)) (xs (i + 4))) D g cs n now ad K E P T V F U M X rk wc ps rc rs hI.1 (Or.inr rfl) _) (cV_ 3 ht tk_139 tk_136 tk_1 tk_137 tk_138 hd_X_proof ⟨Nat.le_of_ble_eq_true rfl, Nat.le_of_ble_eq_true rfl⟩) ⟨fun _ _ _ _ q => ⟨q.1, q.2.1, q.2.2.1, KK.call q.2.2.2.1, q.2.2.2.2⟩, va_recv (ci := 3) (q0 := 0) hK hP.left rfl rfl, fun U0 hU hW => ⟨rfl, by rw [hU], by rw [hU]; exact hP.left, KK.warm hK hN hW, hD.left.weaken (fun _ _ _ _ => trivial)⟩⟩ rfl rfl hl.1 rfl (lv_room (Nat.le_of_ble_eq_true rfl)) d_law_262 ⟨show _ ≤ 600000 by omega, show _ ≤ 7302250 by omega⟩) hS (fun q _ h => hFc q h) hFc (fun r1 u1 t1 H locs ht1 hvm1 h1 hB hz1 hkp hS => ?_)
    obtain ⟨hP1, hD1⟩ := hB
    rw [ht1] at hP1
    obtain ⟨hP, hD⟩ := jnL hP hD hkp hFc hP1 hD1
    refine lv_aload_n hx hb d_law_265 rfl (lv_at hl 2 rfl) ?_
    refine scr_c (k := 1) hx hb hX hbl hbA hS (lv_at hl 0 rfl) (lv_at hl 3 rfl) d_law_266 d_law_267 d_law_268 d_law_269 d_law_270 (by decide) (by omega) (by omega) ?_
    refine scr_c (k := 2) hx hb hX hbl hbA hS (lv_at hl 0 rfl) (lv_at hl 3 rfl) d_law_271 d_law_272 d_law_273 d_law_274 d_law_275 (by decide) (by omega) (by omega) ?_
    refine lv_if_eq (tgt := 283) hx hb d_law_276 (by decide) (fun c_4 => ?_) (fun c_4 => ?_)
    · exact absurd c_4 c_1
    · refine lv_iconst (v := 1) hx hb d_law_279 (by decide) ?_
      refine lv_goto (tgt := 284) hx hb d_law_280 (by decide) ?_
      refine scr_c (k := 3) hx hb hX hbl hbA hS (lv_at hl 0 rfl) (lv_at hl 3 rfl) d_law_284 d_law_285 d_law_286 d_law_287 d_law_288 (by decide) (by omega) (by omega) ?_
      refine lv_i2l (v := (xs (i + 3)).toInt64) hx hb d_law_289 rfl ?_
      refine lv_bipush (v := 32) hx hb d_law_290 (by decide) ?_
      refine lv_lshl (v := ((xs (i + 3)).toInt64) <<< ((32 : Int32).toInt64 &&& 63)) hx hb d_law_292 rfl ?_
      refine scr_c (k := 4) hx hb hX hbl hbA hS (lv_at hl 0 rfl) (lv_at hl 3 rfl) d_law_293 d_law_294 d_law_295 d_law_296 d_law_297 (by decide) (by omega) (by omega) ?_
      refine lv_i2l (v := (xs (i + 4)).toInt64) hx hb d_law_298 rfl ?_
      refine lv_ldc2 (v := 4294967295) hx hb hown (ht _ tk_381) d_law_299 ?_
      refine lv_land hx hb d_law_302 ?_
      refine lv_lor hx hb d_law_303 ?_
      refine W.eq (g2 := F0 m 304 ls [.long (lgv (xs (i + 3)) (xs (i + 4))), .int 1, .int (xs (i + 1)), .ref (a 0), .int r1]) rfl ?_
      have hFc := freeW hD.right hS hA
      refine va_calli (va_runV (C := R_M) (As := [.int (xs (i + 1)), .int 1, .long (lgv (xs (i + 3)) (xs (i + 4)))]) (rest := [.int r1]) ⟨hx, hb, hml, hown, ht⟩ (c_M_proof l (xs (i + 1)) 1 (lgv (xs (i + 3)) (xs (i + 4))) D a cs 0 n now K E P T V F U M O rk wm rm 0 rs hI.1 (Or.inr rfl) _) (cV_ 3 ht tk_328 tk_325 tk_2 tk_326 tk_327 hd_M_proof ⟨Nat.le_of_ble_eq_true rfl, Nat.le_of_ble_eq_true rfl⟩) ⟨fun _ _ _ _ q => ⟨q.1, q.2.1, q.2.2.1, KK.call q.2.2.2.1, q.2.2.2.2⟩, va_recv (ci := 4) (q0 := 0) hK hP.right rfl rfl, fun U0 hU hW => ⟨rfl, by rw [hU], by rw [hU]; exact hP.right, KK.warm hK hN hW, hD.right.weaken (fun _ _ _ _ => trivial)⟩⟩ rfl rfl hl.1 rfl (lv_room (Nat.le_of_ble_eq_true rfl)) d_law_304 ⟨show _ ≤ 600000 by omega, show _ ≤ 7302250 by omega⟩) hS (fun q _ h => hFc q h) hFc (fun r2 u2 t2 H locs ht2 hvm2 h2 hB hz2 hkp hS => ?_)
      obtain ⟨hP1, hD1⟩ := hB
      rw [ht2] at hP1
      obtain ⟨hP, hD⟩ := jnR hP hD hkp hFc hP1 hD1
      refine lv_icmp_eq (tgt := 663) hx hb d_law_307 (by decide) (fun c_5 => ?_) (fun c_5 => ?_)
      · obtain ⟨heq, n1, V1, X1, O1, e1, e2, hI1⟩ := p_proof hI h1 h2
        subst e1
        subst e2
        refine W.widen (k := 19 + i + 1) (n := 2554 + 9 * i + 9) (by omega) (by omega) ?_
        exact kk n n1 ad K E P T V1 F U M X1 O1 rk wc ps rc wm rm rs H locs hI1 hP hD hS
      · obtain ⟨heq, n1, V1, X1, O1, e1, e2, hI1⟩ := p_proof hI h1 h2
        exact absurd heq c_5
set_option maxHeartbeats 4000000 in
set_option maxRecDepth 100000 in
/-- case 2: withdraw -/
theorem law_c2 {p : Program} {l : Launch} {e : Env} {s : State} {m : MethodId} {below : List Frame} {meth : Method} {c : Code} {D : va_G} {g a cs : Nat → Nat} {b L : Nat} {xs : Nat → Int32} (hL : L ≤ 4608) (C0 : lw_At p s m meth c b L xs) (hK : va_K D classes (ty4 cs) s) (hN : Nx s) {i : Nat} (hi : i + 9 ≤ L) {n : Nat} {now : Int64} {ad : Nat → Nat} {K E P T V : Nat → Int32} {F U M X O : Nat → Int64} {rk wc ps rc wm rm : Nat → Int32} {rs : Int32} {H : Heap} {locs : List Loc} {ls : Array Slot} (hI : Inv n now K P T V F U M X O rc rm rs) (hP : va_P D classes (LWd g a cs n now ad K E P T V F U M X O rk wc ps rc wm rm rs) H) (hD : va_D (AL s) (LWd g a cs n now ad K E P T V F U M X O rk wc ps rc wm rm rs)) (hS : va_S (AL s) s.heap H locs) (hl : lv_has ls 4 [(0, .ref b), (1, .ref (g 0)), (2, .ref (a 0)), (3, .int (nI i))]) (kk : KT p l e s m below meth c D g a cs b i ls) : W p l e room_1 s m #[Value.ref b] below meth c H locs (19 + i) (2554 + 9 * i) (lw_Z below #[Value.ref b] s) (F0 m 312 ls []) := by
  obtain ⟨hx, hb, hr, hml, hown, hts, hX, hbl, hlocks, hgv⟩ := id C0
  have hown : s.vm.findClass "OrderRows2Law" = some m.cls := hown
  have ht : ∀ w ∈ wt, w.before #[Value.ref b] s = true := fun w h => hts w (wt_sub w h)
  have hA : ∀ q : Nat, s.heap.size ≤ q → AL s q := fun _ h => h
  have hbA : ¬ AL s b := Nat.not_le.mpr hbl
  refine lv_aload_n hx hb d_law_312 rfl (lv_at hl 1 rfl) ?_
  refine scr_c (k := 1) hx hb hX hbl hbA hS (lv_at hl 0 rfl) (lv_at hl 3 rfl) d_law_313 d_law_314 d_law_315 d_law_316 d_law_317 (by decide) (by omega) (by omega) ?_
  refine scr_c (k := 2) hx hb hX hbl hbA hS (lv_at hl 0 rfl) (lv_at hl 3 rfl) d_law_318 d_law_319 d_law_320 d_law_321 d_law_322 (by decide) (by omega) (by omega) ?_
  refine lv_i2l (v := (xs (i + 2)).toInt64) hx hb d_law_323 rfl ?_
  refine lv_bipush (v := 32) hx hb d_law_324 (by decide) ?_
  refine lv_lshl (v := ((xs (i + 2)).toInt64) <<< ((32 : Int32).toInt64 &&& 63)) hx hb d_law_326 rfl ?_
  refine scr_c (k := 3) hx hb hX hbl hbA hS (lv_at hl 0 rfl) (lv_at hl 3 rfl) d_law_327 d_law_328 d_law_329 d_law_330 d_law_331 (by decide) (by omega) (by omega) ?_
  refine lv_i2l (v := (xs (i + 3)).toInt64) hx hb d_law_332 rfl ?_
  refine lv_ldc2 (v := 4294967295) hx hb hown (ht _ tk_381) d_law_333 ?_
  refine lv_land hx hb d_law_336 ?_
  refine lv_lor hx hb d_law_337 ?_
  refine W.eq (g2 := F0 m 338 ls [.long (lgv (xs (i + 2)) (xs (i + 3))), .int (xs (i + 1)), .ref (g 0)]) rfl ?_
  have hFc := freeW hD.left hS hA
  refine va_calli (va_runV (C := R_X) (As := [.int (xs (i + 1)), .long (lgv (xs (i + 2)) (xs (i + 3)))]) (rest := []) ⟨hx, hb, hml, hown, ht⟩ (c_X_withdraw l (xs (i + 1)) (lgv (xs (i + 2)) (xs (i + 3))) D g cs n now ad K E P T V F U M X rk wc ps rc rs hI.1 _) (cV_ 2 ht tk_172 tk_169 tk_1 tk_170 tk_171 hd_X_withdraw ⟨Nat.le_of_ble_eq_true rfl, Nat.le_of_ble_eq_true rfl⟩) ⟨fun _ _ _ _ q => ⟨q.1, q.2.1, q.2.2.1, KK.call q.2.2.2.1, q.2.2.2.2⟩, va_recv (ci := 3) (q0 := 0) hK hP.left rfl rfl, fun U0 hU hW => ⟨rfl, by rw [hU], by rw [hU]; exact hP.left, KK.warm hK hN hW, hD.left.weaken (fun _ _ _ _ => trivial)⟩⟩ rfl rfl hl.1 rfl (lv_room (Nat.le_of_ble_eq_true rfl)) d_law_338 ⟨show _ ≤ 600000 by omega, show _ ≤ 7302250 by omega⟩) hS (fun q _ h => hFc q h) hFc (fun r1 u1 t1 H locs ht1 hvm1 h1 hB hz1 hkp hS => ?_)
  obtain ⟨hP1, hD1⟩ := hB
  rw [ht1] at hP1
  obtain ⟨hP, hD⟩ := jnL hP hD hkp hFc hP1 hD1
  refine lv_aload_n hx hb d_law_341 rfl (lv_at hl 2 rfl) ?_
  refine scr_c (k := 1) hx hb hX hbl hbA hS (lv_at hl 0 rfl) (lv_at hl 3 rfl) d_law_342 d_law_343 d_law_344 d_law_345 d_law_346 (by decide) (by omega) (by omega) ?_
  refine scr_c (k := 2) hx hb hX hbl hbA hS (lv_at hl 0 rfl) (lv_at hl 3 rfl) d_law_347 d_law_348 d_law_349 d_law_350 d_law_351 (by decide) (by omega) (by omega) ?_
  refine lv_i2l (v := (xs (i + 2)).toInt64) hx hb d_law_352 rfl ?_
  refine lv_bipush (v := 32) hx hb d_law_353 (by decide) ?_
  refine lv_lshl (v := ((xs (i + 2)).toInt64) <<< ((32 : Int32).toInt64 &&& 63)) hx hb d_law_355 rfl ?_
  refine scr_c (k := 3) hx hb hX hbl hbA hS (lv_at hl 0 rfl) (lv_at hl 3 rfl) d_law_356 d_law_357 d_law_358 d_law_359 d_law_360 (by decide) (by omega) (by omega) ?_
  refine lv_i2l (v := (xs (i + 3)).toInt64) hx hb d_law_361 rfl ?_
  refine lv_ldc2 (v := 4294967295) hx hb hown (ht _ tk_381) d_law_362 ?_
  refine lv_land hx hb d_law_365 ?_
  refine lv_lor hx hb d_law_366 ?_
  refine W.eq (g2 := F0 m 367 ls [.long (lgv (xs (i + 2)) (xs (i + 3))), .int (xs (i + 1)), .ref (a 0), .int r1]) rfl ?_
  have hFc := freeW hD.right hS hA
  refine va_calli (va_runV (C := R_M) (As := [.int (xs (i + 1)), .long (lgv (xs (i + 2)) (xs (i + 3)))]) (rest := [.int r1]) ⟨hx, hb, hml, hown, ht⟩ (c_M_withdraw l (xs (i + 1)) (lgv (xs (i + 2)) (xs (i + 3))) D a cs 0 n now K E P T V F U M O rk wm rm 0 rs hI.1 hI.fu hI.day _) (cV_ 2 ht tk_346 tk_343 tk_2 tk_344 tk_345 hd_M_withdraw ⟨Nat.le_of_ble_eq_true rfl, Nat.le_of_ble_eq_true rfl⟩) ⟨fun _ _ _ _ q => ⟨q.1, q.2.1, q.2.2.1, KK.call q.2.2.2.1, q.2.2.2.2⟩, va_recv (ci := 4) (q0 := 0) hK hP.right rfl rfl, fun U0 hU hW => ⟨rfl, by rw [hU], by rw [hU]; exact hP.right, KK.warm hK hN hW, hD.right.weaken (fun _ _ _ _ => trivial)⟩⟩ rfl rfl hl.1 rfl (lv_room (Nat.le_of_ble_eq_true rfl)) d_law_367 ⟨show _ ≤ 600000 by omega, show _ ≤ 7302250 by omega⟩) hS (fun q _ h => hFc q h) hFc (fun r2 u2 t2 H locs ht2 hvm2 h2 hB hz2 hkp hS => ?_)
  obtain ⟨hP1, hD1⟩ := hB
  rw [ht2] at hP1
  obtain ⟨hP, hD⟩ := jnR hP hD hkp hFc hP1 hD1
  refine lv_icmp_eq (tgt := 663) hx hb d_law_370 (by decide) (fun c_1 => ?_) (fun c_1 => ?_)
  · obtain ⟨heq, n1, X1, O1, e1, e2, hI1⟩ := p_with hI h1 h2
    subst e1
    subst e2
    refine W.widen (k := 19 + i + 1) (n := 2554 + 9 * i + 9) (by omega) (by omega) ?_
    exact kk n n1 ad K E P T V F U M X1 O1 rk wc ps rc wm rm rs H locs hI1 hP hD hS
  · obtain ⟨heq, n1, X1, O1, e1, e2, hI1⟩ := p_with hI h1 h2
    exact absurd heq c_1
set_option maxHeartbeats 4000000 in
set_option maxRecDepth 100000 in
/-- case 3: effective -/
theorem law_c3 {p : Program} {l : Launch} {e : Env} {s : State} {m : MethodId} {below : List Frame} {meth : Method} {c : Code} {D : va_G} {g a cs : Nat → Nat} {b L : Nat} {xs : Nat → Int32} (hL : L ≤ 4608) (C0 : lw_At p s m meth c b L xs) (hK : va_K D classes (ty4 cs) s) (hN : Nx s) {i : Nat} (hi : i + 9 ≤ L) {n : Nat} {now : Int64} {ad : Nat → Nat} {K E P T V : Nat → Int32} {F U M X O : Nat → Int64} {rk wc ps rc wm rm : Nat → Int32} {rs : Int32} {H : Heap} {locs : List Loc} {ls : Array Slot} (hI : Inv n now K P T V F U M X O rc rm rs) (hP : va_P D classes (LWd g a cs n now ad K E P T V F U M X O rk wc ps rc wm rm rs) H) (hD : va_D (AL s) (LWd g a cs n now ad K E P T V F U M X O rk wc ps rc wm rm rs)) (hS : va_S (AL s) s.heap H locs) (hl : lv_has ls 4 [(0, .ref b), (1, .ref (g 0)), (2, .ref (a 0)), (3, .int (nI i))]) (kk : KT p l e s m below meth c D g a cs b i ls) : W p l e room_1 s m #[Value.ref b] below meth c H locs (19 + i) (2554 + 9 * i) (lw_Z below #[Value.ref b] s) (F0 m 375 ls []) := by
  obtain ⟨hx, hb, hr, hml, hown, hts, hX, hbl, hlocks, hgv⟩ := id C0
  have hown : s.vm.findClass "OrderRows2Law" = some m.cls := hown
  have ht : ∀ w ∈ wt, w.before #[Value.ref b] s = true := fun w h => hts w (wt_sub w h)
  have hA : ∀ q : Nat, s.heap.size ≤ q → AL s q := fun _ h => h
  have hbA : ¬ AL s b := Nat.not_le.mpr hbl
  refine lv_aload_n hx hb d_law_375 rfl (lv_at hl 1 rfl) ?_
  refine scr_c (k := 1) hx hb hX hbl hbA hS (lv_at hl 0 rfl) (lv_at hl 3 rfl) d_law_376 d_law_377 d_law_378 d_law_379 d_law_380 (by decide) (by omega) (by omega) ?_
  refine scr_c (k := 2) hx hb hX hbl hbA hS (lv_at hl 0 rfl) (lv_at hl 3 rfl) d_law_381 d_law_382 d_law_383 d_law_384 d_law_385 (by decide) (by omega) (by omega) ?_
  refine scr_c (k := 3) hx hb hX hbl hbA hS (lv_at hl 0 rfl) (lv_at hl 3 rfl) d_law_386 d_law_387 d_law_388 d_law_389 d_law_390 (by decide) (by omega) (by omega) ?_
  refine scr_c (k := 4) hx hb hX hbl hbA hS (lv_at hl 0 rfl) (lv_at hl 3 rfl) d_law_391 d_law_392 d_law_393 d_law_394 d_law_395 (by decide) (by omega) (by omega) ?_
  refine lv_i2l (v := (xs (i + 4)).toInt64) hx hb d_law_396 rfl ?_
  refine lv_bipush (v := 32) hx hb d_law_397 (by decide) ?_
  refine lv_lshl (v := ((xs (i + 4)).toInt64) <<< ((32 : Int32).toInt64 &&& 63)) hx hb d_law_399 rfl ?_
  refine scr_c (k := 5) hx hb hX hbl hbA hS (lv_at hl 0 rfl) (lv_at hl 3 rfl) d_law_400 d_law_401 d_law_402 d_law_403 d_law_404 (by decide) (by omega) (by omega) ?_
  refine lv_i2l (v := (xs (i + 5)).toInt64) hx hb d_law_405 rfl ?_
  refine lv_ldc2 (v := 4294967295) hx hb hown (ht _ tk_381) d_law_406 ?_
  refine lv_land hx hb d_law_409 ?_
  refine lv_lor hx hb d_law_410 ?_
  refine W.eq (g2 := F0 m 411 ls [.long (lgv (xs (i + 4)) (xs (i + 5))), .int (xs (i + 3)), .int (xs (i + 2)), .int (xs (i + 1)), .ref (g 0)]) rfl ?_
  have hFc := freeW hD.left hS hA
  refine va_calli (va_runV (C := R_X) (As := [.int (xs (i + 1)), .int (xs (i + 2)), .int (xs (i + 3)), .long (lgv (xs (i + 4)) (xs (i + 5)))]) (rest := []) ⟨hx, hb, hml, hown, ht⟩ (c_X_effective l (xs (i + 1)) (xs (i + 2)) (xs (i + 3)) (lgv (xs (i + 4)) (xs (i + 5))) D g cs n now ad K E P T V F U M X rk wc ps rc rs hI.1 hI.kr hI.to _) (cV_ 4 ht tk_190 tk_187 tk_1 tk_188 tk_189 hd_X_effective ⟨Nat.le_of_ble_eq_true rfl, Nat.le_of_ble_eq_true rfl⟩) ⟨fun _ _ _ _ q => ⟨q.1, q.2.1, q.2.2.1, KK.call q.2.2.2.1, q.2.2.2.2⟩, va_recv (ci := 3) (q0 := 0) hK hP.left rfl rfl, fun U0 hU hW => ⟨rfl, by rw [hU], by rw [hU]; exact hP.left, KK.warm hK hN hW, hD.left.weaken (fun _ _ _ _ => trivial)⟩⟩ rfl rfl hl.1 rfl (lv_room (Nat.le_of_ble_eq_true rfl)) d_law_411 ⟨show _ ≤ 600000 by omega, show _ ≤ 7302250 by omega⟩) hS (fun q _ h => hFc q h) hFc (fun r1 u1 t1 H locs ht1 hvm1 h1 hB hz1 hkp hS => ?_)
  obtain ⟨hP1, hD1⟩ := hB
  rw [ht1] at hP1
  obtain ⟨hP, hD⟩ := jnL hP hD hkp hFc hP1 hD1
  refine lv_aload_n hx hb d_law_414 rfl (lv_at hl 2 rfl) ?_
  refine scr_c (k := 1) hx hb hX hbl hbA hS (lv_at hl 0 rfl) (lv_at hl 3 rfl) d_law_415 d_law_416 d_law_417 d_law_418 d_law_419 (by decide) (by omega) (by omega) ?_
  refine scr_c (k := 2) hx hb hX hbl hbA hS (lv_at hl 0 rfl) (lv_at hl 3 rfl) d_law_420 d_law_421 d_law_422 d_law_423 d_law_424 (by decide) (by omega) (by omega) ?_
  refine scr_c (k := 3) hx hb hX hbl hbA hS (lv_at hl 0 rfl) (lv_at hl 3 rfl) d_law_425 d_law_426 d_law_427 d_law_428 d_law_429 (by decide) (by omega) (by omega) ?_
  refine scr_c (k := 4) hx hb hX hbl hbA hS (lv_at hl 0 rfl) (lv_at hl 3 rfl) d_law_430 d_law_431 d_law_432 d_law_433 d_law_434 (by decide) (by omega) (by omega) ?_
  refine lv_i2l (v := (xs (i + 4)).toInt64) hx hb d_law_435 rfl ?_
  refine lv_bipush (v := 32) hx hb d_law_436 (by decide) ?_
  refine lv_lshl (v := ((xs (i + 4)).toInt64) <<< ((32 : Int32).toInt64 &&& 63)) hx hb d_law_438 rfl ?_
  refine scr_c (k := 5) hx hb hX hbl hbA hS (lv_at hl 0 rfl) (lv_at hl 3 rfl) d_law_439 d_law_440 d_law_441 d_law_442 d_law_443 (by decide) (by omega) (by omega) ?_
  refine lv_i2l (v := (xs (i + 5)).toInt64) hx hb d_law_444 rfl ?_
  refine lv_ldc2 (v := 4294967295) hx hb hown (ht _ tk_381) d_law_445 ?_
  refine lv_land hx hb d_law_448 ?_
  refine lv_lor hx hb d_law_449 ?_
  refine W.eq (g2 := F0 m 450 ls [.long (lgv (xs (i + 4)) (xs (i + 5))), .int (xs (i + 3)), .int (xs (i + 2)), .int (xs (i + 1)), .ref (a 0), .int r1]) rfl ?_
  have hFc := freeW hD.right hS hA
  refine va_calli (va_runV (C := R_M) (As := [.int (xs (i + 1)), .int (xs (i + 2)), .int (xs (i + 3)), .long (lgv (xs (i + 4)) (xs (i + 5)))]) (rest := [.int r1]) ⟨hx, hb, hml, hown, ht⟩ (c_M_effective l (xs (i + 1)) (xs (i + 2)) (xs (i + 3)) (lgv (xs (i + 4)) (xs (i + 5))) D a cs 0 n now K E P T V F U M O rk wm rm 0 rs hI.1 hI.kr hI.to _) (cV_ 4 ht tk_350 tk_347 tk_2 tk_348 tk_349 hd_M_effective ⟨Nat.le_of_ble_eq_true rfl, Nat.le_of_ble_eq_true rfl⟩) ⟨fun _ _ _ _ q => ⟨q.1, q.2.1, q.2.2.1, KK.call q.2.2.2.1, q.2.2.2.2⟩, va_recv (ci := 4) (q0 := 0) hK hP.right rfl rfl, fun U0 hU hW => ⟨rfl, by rw [hU], by rw [hU]; exact hP.right, KK.warm hK hN hW, hD.right.weaken (fun _ _ _ _ => trivial)⟩⟩ rfl rfl hl.1 rfl (lv_room (Nat.le_of_ble_eq_true rfl)) d_law_450 ⟨show _ ≤ 600000 by omega, show _ ≤ 7302250 by omega⟩) hS (fun q _ h => hFc q h) hFc (fun r2 u2 t2 H locs ht2 hvm2 h2 hB hz2 hkp hS => ?_)
  obtain ⟨hP1, hD1⟩ := hB
  rw [ht2] at hP1
  obtain ⟨hP, hD⟩ := jnR hP hD hkp hFc hP1 hD1
  refine lv_icmp_eq (tgt := 663) hx hb d_law_453 (by decide) (fun c_1 => ?_) (fun c_1 => ?_)
  · obtain ⟨heq, e1, hI1⟩ := p_eff hI h1 h2
    obtain ⟨wc1, ps1, rc1, rs1⟩ := u1
    obtain ⟨wm1, rm1, rs2⟩ := u2
    have e1 : rs1 = rs2 := e1
    subst e1
    refine W.widen (k := 19 + i + 1) (n := 2554 + 9 * i + 9) (by omega) (by omega) ?_
    exact kk n now ad K E P T V F U M X O rk wc1 ps1 rc1 wm1 rm1 rs1 H locs hI1 hP hD hS
  · obtain ⟨heq, e1, hI1⟩ := p_eff hI h1 h2
    exact absurd heq c_1
set_option maxHeartbeats 4000000 in
set_option maxRecDepth 100000 in
/-- case 4: ring -/
theorem law_c4 {p : Program} {l : Launch} {e : Env} {s : State} {m : MethodId} {below : List Frame} {meth : Method} {c : Code} {D : va_G} {g a cs : Nat → Nat} {b L : Nat} {xs : Nat → Int32} (hL : L ≤ 4608) (C0 : lw_At p s m meth c b L xs) (hK : va_K D classes (ty4 cs) s) (hN : Nx s) {i : Nat} (hi : i + 9 ≤ L) {n : Nat} {now : Int64} {ad : Nat → Nat} {K E P T V : Nat → Int32} {F U M X O : Nat → Int64} {rk wc ps rc wm rm : Nat → Int32} {rs : Int32} {H : Heap} {locs : List Loc} {ls : Array Slot} (hI : Inv n now K P T V F U M X O rc rm rs) (hP : va_P D classes (LWd g a cs n now ad K E P T V F U M X O rk wc ps rc wm rm rs) H) (hD : va_D (AL s) (LWd g a cs n now ad K E P T V F U M X O rk wc ps rc wm rm rs)) (hS : va_S (AL s) s.heap H locs) (hl : lv_has ls 4 [(0, .ref b), (1, .ref (g 0)), (2, .ref (a 0)), (3, .int (nI i))]) (kk : KT p l e s m below meth c D g a cs b i ls) : W p l e room_1 s m #[Value.ref b] below meth c H locs (19 + i) (2554 + 9 * i) (lw_Z below #[Value.ref b] s) (F0 m 458 ls []) := by
  obtain ⟨hx, hb, hr, hml, hown, hts, hX, hbl, hlocks, hgv⟩ := id C0
  have hown : s.vm.findClass "OrderRows2Law" = some m.cls := hown
  have ht : ∀ w ∈ wt, w.before #[Value.ref b] s = true := fun w h => hts w (wt_sub w h)
  have hA : ∀ q : Nat, s.heap.size ≤ q → AL s q := fun _ h => h
  have hbA : ¬ AL s b := Nat.not_le.mpr hbl
  obtain ⟨q9, hq1, hq2, hq3⟩ := hI.2.2.2
  refine lv_aload_n hx hb d_law_458 rfl (lv_at hl 1 rfl) ?_
  refine scr_c (k := 1) hx hb hX hbl hbA hS (lv_at hl 0 rfl) (lv_at hl 3 rfl) d_law_459 d_law_460 d_law_461 d_law_462 d_law_463 (by decide) (by omega) (by omega) ?_
  refine vp_callSi (W.runV (C := R_X) (As := [.int (xs (i + 1))]) (rest := []) ⟨hx, hb, hml, hown, ht⟩ (c_X_ring l (xs (i + 1)) D g cs n now ad K E P T V F U M X rk wc ps rc rs q9 hq2 (by omega)) (cV_ 1 ht tk_240 tk_237 tk_1 tk_238 tk_239 hd_X_ring ⟨Nat.le_of_ble_eq_true rfl, Nat.le_of_ble_eq_true rfl⟩) ⟨fun _ _ _ _ q => ⟨q.1, q.2.1, KK.call q.2.2⟩, va_recv (ci := 3) (q0 := 0) hK hP.left rfl rfl, fun U0 hU hW => ⟨rfl, by rw [hU]; exact hP.left, KK.warm hK hN hW⟩⟩ rfl rfl hl.1 rfl (lv_room (Nat.le_of_ble_eq_true rfl)) d_law_464 ⟨show _ ≤ 600000 by omega, show _ ≤ 7302250 by omega⟩) (fun r1 h1 => ?_)
  refine lv_aload_n hx hb d_law_467 rfl (lv_at hl 2 rfl) ?_
  refine scr_c (k := 1) hx hb hX hbl hbA hS (lv_at hl 0 rfl) (lv_at hl 3 rfl) d_law_468 d_law_469 d_law_470 d_law_471 d_law_472 (by decide) (by omega) (by omega) ?_
  have hFc := freeW hD.right hS hA
  refine va_calli (va_runV (C := R_M) (As := [.int (xs (i + 1))]) (rest := [.int r1]) ⟨hx, hb, hml, hown, ht⟩ (c_M_ring l (xs (i + 1)) D a cs 0 n now K E P T V F U M O rk wm rm 0 rs q9 hq2 (by omega) _) (cV_ 1 ht tk_363 tk_360 tk_2 tk_361 tk_362 hd_M_ring ⟨Nat.le_of_ble_eq_true rfl, Nat.le_of_ble_eq_true rfl⟩) ⟨fun _ _ _ _ q => ⟨q.1, q.2.1, q.2.2.1, KK.call q.2.2.2.1, q.2.2.2.2⟩, va_recv (ci := 4) (q0 := 0) hK hP.right rfl rfl, fun U0 hU hW => ⟨rfl, by rw [hU], by rw [hU]; exact hP.right, KK.warm hK hN hW, hD.right.weaken (fun _ _ _ _ => trivial)⟩⟩ rfl rfl hl.1 rfl (lv_room (Nat.le_of_ble_eq_true rfl)) d_law_473 ⟨show _ ≤ 600000 by omega, show _ ≤ 7302250 by omega⟩) hS (fun q _ h => hFc q h) hFc (fun r2 u2 t2 H locs ht2 hvm2 h2 hB hz2 hkp hS => ?_)
  obtain ⟨hP1, hD1⟩ := hB
  rw [ht2] at hP1
  obtain ⟨hP, hD⟩ := jnR hP hD hkp hFc hP1 hD1
  refine lv_icmp_eq (tgt := 663) hx hb d_law_476 (by decide) (fun c_1 => ?_) (fun c_1 => ?_)
  · have heq := p_ring hI h1 h2
    refine W.widen (k := 19 + i + 1) (n := 2554 + 9 * i + 9) (by omega) (by omega) ?_
    exact kk n now ad K E P T V F U M X O rk wc ps rc wm rm rs H locs hI hP hD hS
  · have heq := p_ring hI h1 h2
    exact absurd heq c_1
set_option maxHeartbeats 4000000 in
set_option maxRecDepth 100000 in
/-- case 5: rank -/
theorem law_c5 {p : Program} {l : Launch} {e : Env} {s : State} {m : MethodId} {below : List Frame} {meth : Method} {c : Code} {D : va_G} {g a cs : Nat → Nat} {b L : Nat} {xs : Nat → Int32} (hL : L ≤ 4608) (C0 : lw_At p s m meth c b L xs) (hK : va_K D classes (ty4 cs) s) (hN : Nx s) {i : Nat} (hi : i + 9 ≤ L) {n : Nat} {now : Int64} {ad : Nat → Nat} {K E P T V : Nat → Int32} {F U M X O : Nat → Int64} {rk wc ps rc wm rm : Nat → Int32} {rs : Int32} {H : Heap} {locs : List Loc} {ls : Array Slot} (hI : Inv n now K P T V F U M X O rc rm rs) (hP : va_P D classes (LWd g a cs n now ad K E P T V F U M X O rk wc ps rc wm rm rs) H) (hD : va_D (AL s) (LWd g a cs n now ad K E P T V F U M X O rk wc ps rc wm rm rs)) (hS : va_S (AL s) s.heap H locs) (hl : lv_has ls 4 [(0, .ref b), (1, .ref (g 0)), (2, .ref (a 0)), (3, .int (nI i))]) (kk : KT p l e s m below meth c D g a cs b i ls) : W p l e room_1 s m #[Value.ref b] below meth c H locs (19 + i) (2554 + 9 * i) (lw_Z below #[Value.ref b] s) (F0 m 481 ls []) := by
  obtain ⟨hx, hb, hr, hml, hown, hts, hX, hbl, hlocks, hgv⟩ := id C0
  have hown : s.vm.findClass "OrderRows2Law" = some m.cls := hown
  have ht : ∀ w ∈ wt, w.before #[Value.ref b] s = true := fun w h => hts w (wt_sub w h)
  have hA : ∀ q : Nat, s.heap.size ≤ q → AL s q := fun _ h => h
  have hbA : ¬ AL s b := Nat.not_le.mpr hbl
  refine lv_aload_n hx hb d_law_481 rfl (lv_at hl 1 rfl) ?_
  refine scr_c (k := 1) hx hb hX hbl hbA hS (lv_at hl 0 rfl) (lv_at hl 3 rfl) d_law_482 d_law_483 d_law_484 d_law_485 d_law_486 (by decide) (by omega) (by omega) ?_
  refine scr_c (k := 2) hx hb hX hbl hbA hS (lv_at hl 0 rfl) (lv_at hl 3 rfl) d_law_487 d_law_488 d_law_489 d_law_490 d_law_491 (by decide) (by omega) (by omega) ?_
  have hFc := freeW hD.left hS hA
  refine va_calli (va_runV (C := R_X) (As := [.int (xs (i + 1)), .int (xs (i + 2))]) (rest := []) ⟨hx, hb, hml, hown, ht⟩ (c_X_rank l (xs (i + 1)) (xs (i + 2)) D g cs n now ad K E P T V F U M X rk wc ps rc rs  _) (cV_ 2 ht tk_244 tk_241 tk_1 tk_242 tk_243 hd_X_rank ⟨Nat.le_of_ble_eq_true rfl, Nat.le_of_ble_eq_true rfl⟩) ⟨fun _ _ _ _ q => ⟨q.1, q.2.1, q.2.2.1, KK.call q.2.2.2.1, q.2.2.2.2⟩, va_recv (ci := 3) (q0 := 0) hK hP.left rfl rfl, fun U0 hU hW => ⟨rfl, by rw [hU], by rw [hU]; exact hP.left, KK.warm hK hN hW, hD.left.weaken (fun _ _ _ _ => trivial)⟩⟩ rfl rfl hl.1 rfl (lv_room (Nat.le_of_ble_eq_true rfl)) d_law_492 ⟨show _ ≤ 600000 by omega, show _ ≤ 7302250 by omega⟩) hS (fun q _ h => hFc q h) hFc (fun r1 u1 t1 H locs ht1 hvm1 h1 hB hz1 hkp hS => ?_)
  obtain ⟨hP1, hD1⟩ := hB
  rw [ht1] at hP1
  obtain ⟨hP, hD⟩ := jnL hP hD hkp hFc hP1 hD1
  refine lv_aload_n hx hb d_law_495 rfl (lv_at hl 2 rfl) ?_
  refine scr_c (k := 1) hx hb hX hbl hbA hS (lv_at hl 0 rfl) (lv_at hl 3 rfl) d_law_496 d_law_497 d_law_498 d_law_499 d_law_500 (by decide) (by omega) (by omega) ?_
  refine scr_c (k := 2) hx hb hX hbl hbA hS (lv_at hl 0 rfl) (lv_at hl 3 rfl) d_law_501 d_law_502 d_law_503 d_law_504 d_law_505 (by decide) (by omega) (by omega) ?_
  have hFc := freeW hD.right hS hA
  refine va_calli (va_runV (C := R_M) (As := [.int (xs (i + 1)), .int (xs (i + 2))]) (rest := [.int r1]) ⟨hx, hb, hml, hown, ht⟩ (c_M_rank l (xs (i + 1)) (xs (i + 2)) D a cs 0 n now K E P T V F U M O rk wm rm 0 rs  _) (cV_ 2 ht tk_367 tk_364 tk_2 tk_365 tk_366 hd_M_rank ⟨Nat.le_of_ble_eq_true rfl, Nat.le_of_ble_eq_true rfl⟩) ⟨fun _ _ _ _ q => ⟨q.1, q.2.1, q.2.2.1, KK.call q.2.2.2.1, q.2.2.2.2⟩, va_recv (ci := 4) (q0 := 0) hK hP.right rfl rfl, fun U0 hU hW => ⟨rfl, by rw [hU], by rw [hU]; exact hP.right, KK.warm hK hN hW, hD.right.weaken (fun _ _ _ _ => trivial)⟩⟩ rfl rfl hl.1 rfl (lv_room (Nat.le_of_ble_eq_true rfl)) d_law_506 ⟨show _ ≤ 600000 by omega, show _ ≤ 7302250 by omega⟩) hS (fun q _ h => hFc q h) hFc (fun r2 u2 t2 H locs ht2 hvm2 h2 hB hz2 hkp hS => ?_)
  obtain ⟨hP1, hD1⟩ := hB
  rw [ht2] at hP1
  obtain ⟨hP, hD⟩ := jnR hP hD hkp hFc hP1 hD1
  refine lv_icmp_eq (tgt := 663) hx hb d_law_509 (by decide) (fun c_1 => ?_) (fun c_1 => ?_)
  · obtain ⟨heq, e1⟩ := p_rank h1 h2
    subst e1
    refine W.widen (k := 19 + i + 1) (n := 2554 + 9 * i + 9) (by omega) (by omega) ?_
    exact kk n now ad K E P T V F U M X O u1 wc ps rc wm rm rs H locs hI hP hD hS
  · obtain ⟨heq, e1⟩ := p_rank h1 h2
    exact absurd heq c_1
set_option maxHeartbeats 4000000 in
set_option maxRecDepth 100000 in
/-- case 6: tick -/
theorem law_c6 {p : Program} {l : Launch} {e : Env} {s : State} {m : MethodId} {below : List Frame} {meth : Method} {c : Code} {D : va_G} {g a cs : Nat → Nat} {b L : Nat} {xs : Nat → Int32} (hL : L ≤ 4608) (C0 : lw_At p s m meth c b L xs) (hK : va_K D classes (ty4 cs) s) (hN : Nx s) {i : Nat} (hi : i + 9 ≤ L) {n : Nat} {now : Int64} {ad : Nat → Nat} {K E P T V : Nat → Int32} {F U M X O : Nat → Int64} {rk wc ps rc wm rm : Nat → Int32} {rs : Int32} {H : Heap} {locs : List Loc} {ls : Array Slot} (hI : Inv n now K P T V F U M X O rc rm rs) (hP : va_P D classes (LWd g a cs n now ad K E P T V F U M X O rk wc ps rc wm rm rs) H) (hD : va_D (AL s) (LWd g a cs n now ad K E P T V F U M X O rk wc ps rc wm rm rs)) (hS : va_S (AL s) s.heap H locs) (hl : lv_has ls 4 [(0, .ref b), (1, .ref (g 0)), (2, .ref (a 0)), (3, .int (nI i))]) (kk : KT p l e s m below meth c D g a cs b i ls) : W p l e room_1 s m #[Value.ref b] below meth c H locs (19 + i) (2554 + 9 * i) (lw_Z below #[Value.ref b] s) (F0 m 514 ls []) := by
  obtain ⟨hx, hb, hr, hml, hown, hts, hX, hbl, hlocks, hgv⟩ := id C0
  have hown : s.vm.findClass "OrderRows2Law" = some m.cls := hown
  have ht : ∀ w ∈ wt, w.before #[Value.ref b] s = true := fun w h => hts w (wt_sub w h)
  have hA : ∀ q : Nat, s.heap.size ≤ q → AL s q := fun _ h => h
  have hbA : ¬ AL s b := Nat.not_le.mpr hbl
  refine lv_aload_n hx hb d_law_514 rfl (lv_at hl 1 rfl) ?_
  refine scr_c (k := 1) hx hb hX hbl hbA hS (lv_at hl 0 rfl) (lv_at hl 3 rfl) d_law_515 d_law_516 d_law_517 d_law_518 d_law_519 (by decide) (by omega) (by omega) ?_
  refine lv_i2l (v := (xs (i + 1)).toInt64) hx hb d_law_520 rfl ?_
  refine lv_bipush (v := 32) hx hb d_law_521 (by decide) ?_
  refine lv_lshl (v := ((xs (i + 1)).toInt64) <<< ((32 : Int32).toInt64 &&& 63)) hx hb d_law_523 rfl ?_
  refine scr_c (k := 2) hx hb hX hbl hbA hS (lv_at hl 0 rfl) (lv_at hl 3 rfl) d_law_524 d_law_525 d_law_526 d_law_527 d_law_528 (by decide) (by omega) (by omega) ?_
  refine lv_i2l (v := (xs (i + 2)).toInt64) hx hb d_law_529 rfl ?_
  refine lv_ldc2 (v := 4294967295) hx hb hown (ht _ tk_381) d_law_530 ?_
  refine lv_land hx hb d_law_533 ?_
  refine lv_lor hx hb d_law_534 ?_
  refine W.eq (g2 := F0 m 535 ls [.long (lgv (xs (i + 1)) (xs (i + 2))), .ref (g 0)]) rfl ?_
  have hFc := freeW hD.left hS hA
  refine va_calli (va_runV (C := R_X) (As := [.long (lgv (xs (i + 1)) (xs (i + 2)))]) (rest := []) ⟨hx, hb, hml, hown, ht⟩ (c_X_tick l (lgv (xs (i + 1)) (xs (i + 2))) D g cs n now ad K E P T V F U M X rk wc ps rc rs hI.1 _) (cV_ 1 ht tk_186 tk_183 tk_1 tk_184 tk_185 hd_X_tick ⟨Nat.le_of_ble_eq_true rfl, Nat.le_of_ble_eq_true rfl⟩) ⟨fun _ _ _ _ q => ⟨q.1, q.2.1, q.2.2.1, KK.call q.2.2.2.1, q.2.2.2.2⟩, va_recv (ci := 3) (q0 := 0) hK hP.left rfl rfl, fun U0 hU hW => ⟨rfl, by rw [hU], by rw [hU]; exact hP.left, KK.warm hK hN hW, hD.left.weaken (fun _ _ _ _ => trivial)⟩⟩ rfl rfl hl.1 rfl (lv_room (Nat.le_of_ble_eq_true rfl)) d_law_535 ⟨show _ ≤ 600000 by omega, show _ ≤ 7302250 by omega⟩) hS (fun q _ h => hFc q h) hFc (fun r1 u1 t1 H locs ht1 hvm1 h1 hB hz1 hkp hS => ?_)
  obtain ⟨hP1, hD1⟩ := hB
  rw [ht1] at hP1
  obtain ⟨hP, hD⟩ := jnL hP hD hkp hFc hP1 hD1
  refine lv_aload_n hx hb d_law_538 rfl (lv_at hl 2 rfl) ?_
  refine scr_c (k := 1) hx hb hX hbl hbA hS (lv_at hl 0 rfl) (lv_at hl 3 rfl) d_law_539 d_law_540 d_law_541 d_law_542 d_law_543 (by decide) (by omega) (by omega) ?_
  refine lv_i2l (v := (xs (i + 1)).toInt64) hx hb d_law_544 rfl ?_
  refine lv_bipush (v := 32) hx hb d_law_545 (by decide) ?_
  refine lv_lshl (v := ((xs (i + 1)).toInt64) <<< ((32 : Int32).toInt64 &&& 63)) hx hb d_law_547 rfl ?_
  refine scr_c (k := 2) hx hb hX hbl hbA hS (lv_at hl 0 rfl) (lv_at hl 3 rfl) d_law_548 d_law_549 d_law_550 d_law_551 d_law_552 (by decide) (by omega) (by omega) ?_
  refine lv_i2l (v := (xs (i + 2)).toInt64) hx hb d_law_553 rfl ?_
  refine lv_ldc2 (v := 4294967295) hx hb hown (ht _ tk_381) d_law_554 ?_
  refine lv_land hx hb d_law_557 ?_
  refine lv_lor hx hb d_law_558 ?_
  refine W.eq (g2 := F0 m 559 ls [.long (lgv (xs (i + 1)) (xs (i + 2))), .ref (a 0), .int r1]) rfl ?_
  have hFc := freeW hD.right hS hA
  refine va_calli (va_runV (C := R_M) (As := [.long (lgv (xs (i + 1)) (xs (i + 2)))]) (rest := [.int r1]) ⟨hx, hb, hml, hown, ht⟩ (c_M_tick l (lgv (xs (i + 1)) (xs (i + 2))) D a cs 0 n now K E P T V F U M O rk wm rm 0 rs hI.1 _) (cV_ 1 ht tk_372 tk_369 tk_2 tk_370 tk_371 hd_M_tick ⟨Nat.le_of_ble_eq_true rfl, Nat.le_of_ble_eq_true rfl⟩) ⟨fun _ _ _ _ q => ⟨q.1, q.2.1, q.2.2.1, KK.call q.2.2.2.1, q.2.2.2.2⟩, va_recv (ci := 4) (q0 := 0) hK hP.right rfl rfl, fun U0 hU hW => ⟨rfl, by rw [hU], by rw [hU]; exact hP.right, KK.warm hK hN hW, hD.right.weaken (fun _ _ _ _ => trivial)⟩⟩ rfl rfl hl.1 rfl (lv_room (Nat.le_of_ble_eq_true rfl)) d_law_559 ⟨show _ ≤ 600000 by omega, show _ ≤ 7302250 by omega⟩) hS (fun q _ h => hFc q h) hFc (fun r2 u2 t2 H locs ht2 hvm2 h2 hB hz2 hkp hS => ?_)
  obtain ⟨hP1, hD1⟩ := hB
  rw [ht2] at hP1
  obtain ⟨hP, hD⟩ := jnR hP hD hkp hFc hP1 hD1
  refine lv_icmp_eq (tgt := 663) hx hb d_law_562 (by decide) (fun c_1 => ?_) (fun c_1 => ?_)
  · obtain ⟨heq, n1, X1, O1, e1, e2, hI1⟩ := p_tick hI h1 h2
    subst e1
    subst e2
    refine W.widen (k := 19 + i + 1) (n := 2554 + 9 * i + 9) (by omega) (by omega) ?_
    exact kk n n1 ad K E P T V F U M X1 O1 rk wc ps rc wm rm rs H locs hI1 hP hD hS
  · obtain ⟨heq, n1, X1, O1, e1, e2, hI1⟩ := p_tick hI h1 h2
    exact absurd heq c_1
set_option maxHeartbeats 4000000 in
set_option maxRecDepth 100000 in
/-- case 7: extend -/
theorem law_c7 {p : Program} {l : Launch} {e : Env} {s : State} {m : MethodId} {below : List Frame} {meth : Method} {c : Code} {D : va_G} {g a cs : Nat → Nat} {b L : Nat} {xs : Nat → Int32} (hL : L ≤ 4608) (C0 : lw_At p s m meth c b L xs) (hK : va_K D classes (ty4 cs) s) (hN : Nx s) {i : Nat} (hi : i + 9 ≤ L) {n : Nat} {now : Int64} {ad : Nat → Nat} {K E P T V : Nat → Int32} {F U M X O : Nat → Int64} {rk wc ps rc wm rm : Nat → Int32} {rs : Int32} {H : Heap} {locs : List Loc} {ls : Array Slot} (hI : Inv n now K P T V F U M X O rc rm rs) (hP : va_P D classes (LWd g a cs n now ad K E P T V F U M X O rk wc ps rc wm rm rs) H) (hD : va_D (AL s) (LWd g a cs n now ad K E P T V F U M X O rk wc ps rc wm rm rs)) (hS : va_S (AL s) s.heap H locs) (hl : lv_has ls 4 [(0, .ref b), (1, .ref (g 0)), (2, .ref (a 0)), (3, .int (nI i))]) (kk : KT p l e s m below meth c D g a cs b i ls) : W p l e room_1 s m #[Value.ref b] below meth c H locs (19 + i) (2554 + 9 * i) (lw_Z below #[Value.ref b] s) (F0 m 567 ls []) := by
  obtain ⟨hx, hb, hr, hml, hown, hts, hX, hbl, hlocks, hgv⟩ := id C0
  have hown : s.vm.findClass "OrderRows2Law" = some m.cls := hown
  have ht : ∀ w ∈ wt, w.before #[Value.ref b] s = true := fun w h => hts w (wt_sub w h)
  have hA : ∀ q : Nat, s.heap.size ≤ q → AL s q := fun _ h => h
  have hbA : ¬ AL s b := Nat.not_le.mpr hbl
  refine lv_aload_n hx hb d_law_567 rfl (lv_at hl 1 rfl) ?_
  refine scr_c (k := 1) hx hb hX hbl hbA hS (lv_at hl 0 rfl) (lv_at hl 3 rfl) d_law_568 d_law_569 d_law_570 d_law_571 d_law_572 (by decide) (by omega) (by omega) ?_
  refine scr_c (k := 2) hx hb hX hbl hbA hS (lv_at hl 0 rfl) (lv_at hl 3 rfl) d_law_573 d_law_574 d_law_575 d_law_576 d_law_577 (by decide) (by omega) (by omega) ?_
  refine lv_i2l (v := (xs (i + 2)).toInt64) hx hb d_law_578 rfl ?_
  refine lv_bipush (v := 32) hx hb d_law_579 (by decide) ?_
  refine lv_lshl (v := ((xs (i + 2)).toInt64) <<< ((32 : Int32).toInt64 &&& 63)) hx hb d_law_581 rfl ?_
  refine scr_c (k := 3) hx hb hX hbl hbA hS (lv_at hl 0 rfl) (lv_at hl 3 rfl) d_law_582 d_law_583 d_law_584 d_law_585 d_law_586 (by decide) (by omega) (by omega) ?_
  refine lv_i2l (v := (xs (i + 3)).toInt64) hx hb d_law_587 rfl ?_
  refine lv_ldc2 (v := 4294967295) hx hb hown (ht _ tk_381) d_law_588 ?_
  refine lv_land hx hb d_law_591 ?_
  refine lv_lor hx hb d_law_592 ?_
  refine W.eq (g2 := F0 m 593 ls [.long (lgv (xs (i + 2)) (xs (i + 3))), .int (xs (i + 1)), .ref (g 0)]) rfl ?_
  have hFc := freeW hD.left hS hA
  refine va_calli (va_runV (C := R_X) (As := [.int (xs (i + 1)), .long (lgv (xs (i + 2)) (xs (i + 3)))]) (rest := []) ⟨hx, hb, hml, hown, ht⟩ (c_X_extend l (xs (i + 1)) (lgv (xs (i + 2)) (xs (i + 3))) D g cs n now ad K E P T V F U M X rk wc ps rc rs hI.1 _) (cV_ 2 ht tk_249 tk_246 tk_1 tk_247 tk_248 hd_X_extend ⟨Nat.le_of_ble_eq_true rfl, Nat.le_of_ble_eq_true rfl⟩) ⟨fun _ _ _ _ q => ⟨q.1, q.2.1, q.2.2.1, KK.call q.2.2.2.1, q.2.2.2.2⟩, va_recv (ci := 3) (q0 := 0) hK hP.left rfl rfl, fun U0 hU hW => ⟨rfl, by rw [hU], by rw [hU]; exact hP.left, KK.warm hK hN hW, hD.left.weaken (fun _ _ _ _ => trivial)⟩⟩ rfl rfl hl.1 rfl (lv_room (Nat.le_of_ble_eq_true rfl)) d_law_593 ⟨show _ ≤ 600000 by omega, show _ ≤ 7302250 by omega⟩) hS (fun q _ h => hFc q h) hFc (fun r1 u1 t1 H locs ht1 hvm1 h1 hB hz1 hkp hS => ?_)
  obtain ⟨hP1, hD1⟩ := hB
  rw [ht1] at hP1
  obtain ⟨hP, hD⟩ := jnL hP hD hkp hFc hP1 hD1
  refine lv_aload_n hx hb d_law_596 rfl (lv_at hl 2 rfl) ?_
  refine scr_c (k := 1) hx hb hX hbl hbA hS (lv_at hl 0 rfl) (lv_at hl 3 rfl) d_law_597 d_law_598 d_law_599 d_law_600 d_law_601 (by decide) (by omega) (by omega) ?_
  refine scr_c (k := 2) hx hb hX hbl hbA hS (lv_at hl 0 rfl) (lv_at hl 3 rfl) d_law_602 d_law_603 d_law_604 d_law_605 d_law_606 (by decide) (by omega) (by omega) ?_
  refine lv_i2l (v := (xs (i + 2)).toInt64) hx hb d_law_607 rfl ?_
  refine lv_bipush (v := 32) hx hb d_law_608 (by decide) ?_
  refine lv_lshl (v := ((xs (i + 2)).toInt64) <<< ((32 : Int32).toInt64 &&& 63)) hx hb d_law_610 rfl ?_
  refine scr_c (k := 3) hx hb hX hbl hbA hS (lv_at hl 0 rfl) (lv_at hl 3 rfl) d_law_611 d_law_612 d_law_613 d_law_614 d_law_615 (by decide) (by omega) (by omega) ?_
  refine lv_i2l (v := (xs (i + 3)).toInt64) hx hb d_law_616 rfl ?_
  refine lv_ldc2 (v := 4294967295) hx hb hown (ht _ tk_381) d_law_617 ?_
  refine lv_land hx hb d_law_620 ?_
  refine lv_lor hx hb d_law_621 ?_
  refine W.eq (g2 := F0 m 622 ls [.long (lgv (xs (i + 2)) (xs (i + 3))), .int (xs (i + 1)), .ref (a 0), .int r1]) rfl ?_
  have hFc := freeW hD.right hS hA
  refine va_calli (va_runV (C := R_M) (As := [.int (xs (i + 1)), .long (lgv (xs (i + 2)) (xs (i + 3)))]) (rest := [.int r1]) ⟨hx, hb, hml, hown, ht⟩ (c_M_extend l (xs (i + 1)) (lgv (xs (i + 2)) (xs (i + 3))) D a cs 0 n now K E P T V F U M O rk wm rm 0 rs hI.1 _) (cV_ 2 ht tk_376 tk_373 tk_2 tk_374 tk_375 hd_M_extend ⟨Nat.le_of_ble_eq_true rfl, Nat.le_of_ble_eq_true rfl⟩) ⟨fun _ _ _ _ q => ⟨q.1, q.2.1, q.2.2.1, KK.call q.2.2.2.1, q.2.2.2.2⟩, va_recv (ci := 4) (q0 := 0) hK hP.right rfl rfl, fun U0 hU hW => ⟨rfl, by rw [hU], by rw [hU]; exact hP.right, KK.warm hK hN hW, hD.right.weaken (fun _ _ _ _ => trivial)⟩⟩ rfl rfl hl.1 rfl (lv_room (Nat.le_of_ble_eq_true rfl)) d_law_622 ⟨show _ ≤ 600000 by omega, show _ ≤ 7302250 by omega⟩) hS (fun q _ h => hFc q h) hFc (fun r2 u2 t2 H locs ht2 hvm2 h2 hB hz2 hkp hS => ?_)
  obtain ⟨hP1, hD1⟩ := hB
  rw [ht2] at hP1
  obtain ⟨hP, hD⟩ := jnR hP hD hkp hFc hP1 hD1
  refine lv_icmp_eq (tgt := 663) hx hb d_law_625 (by decide) (fun c_1 => ?_) (fun c_1 => ?_)
  · obtain ⟨heq, e1, hI1⟩ := p_ext hI h1 h2
    subst e1
    refine W.widen (k := 19 + i + 1) (n := 2554 + 9 * i + 9) (by omega) (by omega) ?_
    exact kk n now ad K E P T V F u1 M X O rk wc ps rc wm rm rs H locs hI1 hP hD hS
  · obtain ⟨heq, e1, hI1⟩ := p_ext hI h1 h2
    exact absurd heq c_1
set_option maxHeartbeats 4000000 in
set_option maxRecDepth 100000 in
/-- case 8: told -/
theorem law_c8 {p : Program} {l : Launch} {e : Env} {s : State} {m : MethodId} {below : List Frame} {meth : Method} {c : Code} {D : va_G} {g a cs : Nat → Nat} {b L : Nat} {xs : Nat → Int32} (hL : L ≤ 4608) (C0 : lw_At p s m meth c b L xs) (hK : va_K D classes (ty4 cs) s) (hN : Nx s) {i : Nat} (hi : i + 9 ≤ L) {n : Nat} {now : Int64} {ad : Nat → Nat} {K E P T V : Nat → Int32} {F U M X O : Nat → Int64} {rk wc ps rc wm rm : Nat → Int32} {rs : Int32} {H : Heap} {locs : List Loc} {ls : Array Slot} (hI : Inv n now K P T V F U M X O rc rm rs) (hP : va_P D classes (LWd g a cs n now ad K E P T V F U M X O rk wc ps rc wm rm rs) H) (hD : va_D (AL s) (LWd g a cs n now ad K E P T V F U M X O rk wc ps rc wm rm rs)) (hS : va_S (AL s) s.heap H locs) (hl : lv_has ls 4 [(0, .ref b), (1, .ref (g 0)), (2, .ref (a 0)), (3, .int (nI i))]) (kk : KT p l e s m below meth c D g a cs b i ls) : W p l e room_1 s m #[Value.ref b] below meth c H locs (19 + i) (2554 + 9 * i) (lw_Z below #[Value.ref b] s) (F0 m 630 ls []) := by
  obtain ⟨hx, hb, hr, hml, hown, hts, hX, hbl, hlocks, hgv⟩ := id C0
  have hown : s.vm.findClass "OrderRows2Law" = some m.cls := hown
  have ht : ∀ w ∈ wt, w.before #[Value.ref b] s = true := fun w h => hts w (wt_sub w h)
  have hA : ∀ q : Nat, s.heap.size ≤ q → AL s q := fun _ h => h
  have hbA : ¬ AL s b := Nat.not_le.mpr hbl
  refine lv_aload_n hx hb d_law_630 rfl (lv_at hl 1 rfl) ?_
  refine scr_c (k := 1) hx hb hX hbl hbA hS (lv_at hl 0 rfl) (lv_at hl 3 rfl) d_law_631 d_law_632 d_law_633 d_law_634 d_law_635 (by decide) (by omega) (by omega) ?_
  refine scr_c (k := 2) hx hb hX hbl hbA hS (lv_at hl 0 rfl) (lv_at hl 3 rfl) d_law_636 d_law_637 d_law_638 d_law_639 d_law_640 (by decide) (by omega) (by omega) ?_
  refine vp_callSi (W.runV (C := R_X) (As := [.int (xs (i + 1)), .int (xs (i + 2))]) (rest := []) ⟨hx, hb, hml, hown, ht⟩ (c_X_told l (xs (i + 1)) (xs (i + 2)) D g cs n now ad K E P T V F U M X rk wc ps rc rs hI.1) (cV_ 2 ht tk_253 tk_250 tk_1 tk_251 tk_252 hd_X_told ⟨Nat.le_of_ble_eq_true rfl, Nat.le_of_ble_eq_true rfl⟩) ⟨fun _ _ _ _ q => ⟨q.1, q.2.1, KK.call q.2.2⟩, va_recv (ci := 3) (q0 := 0) hK hP.left rfl rfl, fun U0 hU hW => ⟨rfl, by rw [hU]; exact hP.left, KK.warm hK hN hW⟩⟩ rfl rfl hl.1 rfl (lv_room (Nat.le_of_ble_eq_true rfl)) d_law_641 ⟨show _ ≤ 600000 by omega, show _ ≤ 7302250 by omega⟩) (fun r1 h1 => ?_)
  refine lv_aload_n hx hb d_law_644 rfl (lv_at hl 2 rfl) ?_
  refine scr_c (k := 1) hx hb hX hbl hbA hS (lv_at hl 0 rfl) (lv_at hl 3 rfl) d_law_645 d_law_646 d_law_647 d_law_648 d_law_649 (by decide) (by omega) (by omega) ?_
  refine scr_c (k := 2) hx hb hX hbl hbA hS (lv_at hl 0 rfl) (lv_at hl 3 rfl) d_law_650 d_law_651 d_law_652 d_law_653 d_law_654 (by decide) (by omega) (by omega) ?_
  have hFc := freeW hD.right hS hA
  refine va_calli (va_runV (C := R_M) (As := [.int (xs (i + 1)), .int (xs (i + 2))]) (rest := [.int r1]) ⟨hx, hb, hml, hown, ht⟩ (c_M_told l (xs (i + 1)) (xs (i + 2)) D a cs 0 n now K E P T V F U M O rk wm rm 0 rs hI.1 _) (cV_ 2 ht tk_380 tk_377 tk_2 tk_378 tk_379 hd_M_told ⟨Nat.le_of_ble_eq_true rfl, Nat.le_of_ble_eq_true rfl⟩) ⟨fun _ _ _ _ q => ⟨q.1, q.2.1, q.2.2.1, KK.call q.2.2.2.1, q.2.2.2.2⟩, va_recv (ci := 4) (q0 := 0) hK hP.right rfl rfl, fun U0 hU hW => ⟨rfl, by rw [hU], by rw [hU]; exact hP.right, KK.warm hK hN hW, hD.right.weaken (fun _ _ _ _ => trivial)⟩⟩ rfl rfl hl.1 rfl (lv_room (Nat.le_of_ble_eq_true rfl)) d_law_655 ⟨show _ ≤ 600000 by omega, show _ ≤ 7302250 by omega⟩) hS (fun q _ h => hFc q h) hFc (fun r2 u2 t2 H locs ht2 hvm2 h2 hB hz2 hkp hS => ?_)
  obtain ⟨hP1, hD1⟩ := hB
  rw [ht2] at hP1
  obtain ⟨hP, hD⟩ := jnR hP hD hkp hFc hP1 hD1
  refine lv_icmp_eq (tgt := 663) hx hb d_law_658 (by decide) (fun c_1 => ?_) (fun c_1 => ?_)
  · have heq := p_told hI h1 h2
    refine W.widen (k := 19 + i + 1) (n := 2554 + 9 * i + 9) (by omega) (by omega) ?_
    exact kk n now ad K E P T V F U M X O rk wc ps rc wm rm rs H locs hI hP hD hS
  · have heq := p_told hI h1 h2
    exact absurd heq c_1
end
section
theorem leave_iff {L i : Nat} (hL : L ≤ 4608) (hi : i ≤ 4617) : (Int32.ofNat L - 9 < nI i) ↔ L < i + 9 := by
  rw [Int32.lt_iff_toInt_lt, show Int32.ofNat L - 9 = nI L - nI 9 from rfl, pk_sub_toInt (by omega) (by omega), nI_toInt (by omega)]
  omega
set_option maxHeartbeats 4000000 in
set_option maxRecDepth 100000 in
/-- THE LAW'S LOOP -/
theorem law_loop {p : Program} {l : Launch} {e : Env} {s : State} {m : MethodId} {below : List Frame} {meth : Method} {c : Code} {D : va_G} {g a cs : Nat → Nat} {b L : Nat} {xs : Nat → Int32} (hL : L ≤ 4608) (C0 : lw_At p s m meth c b L xs) (hK : va_K D classes (ty4 cs) s) (hN : Nx s) : ∀ (z i : Nat) (n : Nat) (now : Int64) (ad : Nat → Nat) (K E P T V : Nat → Int32) (F U M X O : Nat → Int64) (rk wc ps rc wm rm : Nat → Int32) (rs : Int32) (H : Heap) (locs : List Loc) (ls : Array Slot), L < i + z → i ≤ 4617 → Inv n now K P T V F U M X O rc rm rs → va_P D classes (LWd g a cs n now ad K E P T V F U M X O rk wc ps rc wm rm rs) H → va_D (AL s) (LWd g a cs n now ad K E P T V F U M X O rk wc ps rc wm rm rs) → va_S (AL s) s.heap H locs → lv_has ls 4 [(0, .ref b), (1, .ref (g 0)), (2, .ref (a 0)), (3, .int (nI i))] → W p l e room_1 s m #[Value.ref b] below meth c H locs (19 + i) (2554 + 9 * i) (lw_Z below #[Value.ref b] s) (F0 m 18 ls []) := by
  obtain ⟨hx, hb, hr, hml, hown, hts, hX, hbl, hlocks, hgv⟩ := id C0
  have hA : ∀ q : Nat, s.heap.size ≤ q → AL s q := fun _ h => h
  have hbA : ¬ AL s b := Nat.not_le.mpr hbl
  intro z
  induction z with
  | zero =>
    intro i n now ad K E P T V F U M X O rk wc ps rc wm rm rs H locs ls hz hi hI hP hD hS hl
    refine lv_iload_n hx hb d_law_18 rfl (lv_at hl 3 rfl) ?_
    refine lv_aload_n hx hb d_law_19 rfl (lv_at hl 0 rfl) ?_
    refine va_slen hx hb hX hbl hbA hS d_law_20 ?_
    refine lv_bipush (v := 9) hx hb d_law_21 (by decide) ?_
    refine lv_isub hx hb d_law_23 ?_
    refine lv_icmp_gt (tgt := 669) hx hb d_law_24 (by decide) (fun c_1 => ?_) (fun c_1 => ?_)
    · refine lv_iconst (v := 1) hx hb d_law_669 (by decide) ?_
      refine va_forget (fun q hq => hS.2.2 q hq) ?_
      refine W.widen (k := 600000) (n := 7302250) (by omega) (by omega) ?_
      exact lw_ret hx hb hr hlocks d_law_670
    · exact absurd ((leave_iff hL hi).mpr (by omega)) c_1
  | succ z ih =>
    intro i n now ad K E P T V F U M X O rk wc ps rc wm rm rs H locs ls hz hi hI hP hD hS hl
    refine lv_iload_n hx hb d_law_18 rfl (lv_at hl 3 rfl) ?_
    refine lv_aload_n hx hb d_law_19 rfl (lv_at hl 0 rfl) ?_
    refine va_slen hx hb hX hbl hbA hS d_law_20 ?_
    refine lv_bipush (v := 9) hx hb d_law_21 (by decide) ?_
    refine lv_isub hx hb d_law_23 ?_
    refine lv_icmp_gt (tgt := 669) hx hb d_law_24 (by decide) (fun c_1 => ?_) (fun c_1 => ?_)
    · refine lv_iconst (v := 1) hx hb d_law_669 (by decide) ?_
      refine va_forget (fun q hq => hS.2.2 q hq) ?_
      refine W.widen (k := 600000) (n := 7302250) (by omega) (by omega) ?_
      exact lw_ret hx hb hr hlocks d_law_670
    · have hin : i + 9 ≤ L := Nat.not_lt.mp (fun h9 => c_1 ((leave_iff hL hi).mpr h9))
      have kk : KT p l e s m below meth c D g a cs b i ls := by
        intro n now ad K E P T V F U M X O rk wc ps rc wm rm rs H locs hI hP hD hS
        refine lv_iinc (v := nI (i + 9)) (lv' := [(3, .int (nI (i + 9))), (0, .ref b), (1, .ref (g 0)), (2, .ref (a 0))]) hx hb d_law_663 hl (k := 3) rfl (by rw [show Int32.ofInt 9 = nI 9 by decide]; exact nI_add i 9) (by decide) rfl (fun ls hl => ?_)
        refine lv_goto (tgt := 18) hx hb d_law_666 (by decide) ?_
        refine W.widen (k := 19 + (i + 9)) (n := 2554 + 9 * (i + 9)) (by omega) (by omega) ?_
        exact ih (i + 9) n now ad K E P T V F U M X O rk wc ps rc wm rm rs H locs ls (by omega) (by omega) hI hP hD hS (lv_sub hl [1, 2, 3, 0] rfl)
      refine lv_aload_n hx hb d_law_27 rfl (lv_at hl 0 rfl) ?_
      refine lv_iload_n hx hb d_law_28 rfl (lv_at hl 3 rfl) ?_
      refine va_sld hx hb hX hbl hbA hS (vp_in_nI (show i < L by omega) (by omega)) d_law_29 ?_
      rw [nI_clamp (by omega)]
      refine lv_bipush (v := 15) hx hb d_law_30 (by decide) ?_
      refine lv_iand hx hb d_law_32 ?_
      obtain ⟨j, hj, hjx⟩ := pk_andE (xs i) (m := 15) 4 (by decide)
      rw [hjx]
      obtain rfl | rfl | rfl | rfl | rfl | rfl | rfl | rfl | rfl | hj9 : j = 0 ∨ j = 1 ∨ j = 2 ∨ j = 3 ∨ j = 4 ∨ j = 5 ∨ j = 6 ∨ j = 7 ∨ j = 8 ∨ 9 ≤ j := by omega
      · refine lv_tableIn (off := 51) (tgt := 84) hx hb d_law_33 (by decide) (by decide) (by decide) (by decide) ?_
        exact law_c0 hL C0 hK hN hin hI hP hD hS hl kk
      · refine lv_tableIn (off := 190) (tgt := 223) hx hb d_law_33 (by decide) (by decide) (by decide) (by decide) ?_
        exact law_c1 hL C0 hK hN hin hI hP hD hS hl kk
      · refine lv_tableIn (off := 279) (tgt := 312) hx hb d_law_33 (by decide) (by decide) (by decide) (by decide) ?_
        exact law_c2 hL C0 hK hN hin hI hP hD hS hl kk
      · refine lv_tableIn (off := 342) (tgt := 375) hx hb d_law_33 (by decide) (by decide) (by decide) (by decide) ?_
        exact law_c3 hL C0 hK hN hin hI hP hD hS hl kk
      · refine lv_tableIn (off := 425) (tgt := 458) hx hb d_law_33 (by decide) (by decide) (by decide) (by decide) ?_
        exact law_c4 hL C0 hK hN hin hI hP hD hS hl kk
      · refine lv_tableIn (off := 448) (tgt := 481) hx hb d_law_33 (by decide) (by decide) (by decide) (by decide) ?_
        exact law_c5 hL C0 hK hN hin hI hP hD hS hl kk
      · refine lv_tableIn (off := 481) (tgt := 514) hx hb d_law_33 (by decide) (by decide) (by decide) (by decide) ?_
        exact law_c6 hL C0 hK hN hin hI hP hD hS hl kk
      · refine lv_tableIn (off := 534) (tgt := 567) hx hb d_law_33 (by decide) (by decide) (by decide) (by decide) ?_
        exact law_c7 hL C0 hK hN hin hI hP hD hS hl kk
      · refine lv_tableIn (off := 597) (tgt := 630) hx hb d_law_33 (by decide) (by decide) (by decide) (by decide) ?_
        exact law_c8 hL C0 hK hN hin hI hP hD hS hl kk
      · refine lv_tableOut (tgt := 663) hx hb d_law_33 (Or.inr (by rw [nI_toInt (by omega)]; omega)) (by decide) ?_
        refine W.widen (k := 19 + i + 1) (n := 2554 + 9 * i + 9) (by omega) (by omega) ?_
        exact kk n now ad K E P T V F U M X O rk wc ps rc wm rm rs H locs hI hP hD hS
/-- the classes of the arrays, by the tables -/
theorem ty4_of {A : Array Value} {s : State} (ht : ∀ w ∈ lw_tbl, w.before A s = true) : ∃ cs : Nat → Nat, ∀ (k : Nat) (q : ClassId × FieldType), (ty4 cs)[k]? = some q → ArrOfT s q.1 q.2 ∧ va_RA s q.1 q.2 := by
  obtain ⟨c0, k0, m0, a0, b0, e0⟩ := Cond.arrayClass_spec (ht _ (wt_sub _ tk_44))
  obtain ⟨c1, k1, m1, a1, b1, e1⟩ := Cond.arrayClass_spec (ht _ (wt_sub _ tk_45))
  obtain ⟨c2, k2, m2, a2, b2, e2⟩ := Cond.arrayClass_spec (ht _ (wt_sub _ tk_312))
  obtain ⟨m3, c3, k3, a3, -, b3, e3, f3⟩ := Cond.arrayOver_spec (ht _ tq_18)
  refine ⟨fun j => match j with
    | 0 => c0
    | 1 => c1
    | 2 => c2
    | _ => c3, fun k q hq => ?_⟩
  match k, hq with
  | 0, hq =>
    cases hq
    exact ⟨fun N z => ⟨fun k h => (by cases h), k0, b0, m0, e0⟩, a0⟩
  | 1, hq =>
    cases hq
    exact ⟨fun N z => ⟨fun k h => (by cases h), k1, b1, m1, e1⟩, a1⟩
  | 2, hq =>
    cases hq
    exact ⟨fun N z => ⟨fun k h => (by cases h), k2, b2, m2, e2⟩, a2⟩
  | 3, hq =>
    cases hq
    exact ⟨fun N z => ⟨fun k h => (by cases h), k3, b3, m3, e3⟩, k3, m3, b3, e3, a3, f3⟩
  | k + 4, hq => simp [ty4] at hq
set_option maxHeartbeats 4000000 in
set_option maxRecDepth 100000 in
/-- THE LAW, from its entry -/
theorem whole_start {p : Program} {e : Env} {s : State} {m : MethodId} {below : List Frame} {meth : Method} {c : Code} (l : Launch) {b L : Nat} {xs : Nat → Int32} (hL : L ≤ 4608) (C0 : lw_At p s m meth c b L xs) : W p l e room_1 s m #[Value.ref b] below meth c s.heap [] 0 0 (lw_Z below #[Value.ref b] s) (entryFrame m ([Value.ref b] : List Value).toArray 4) := by
  obtain ⟨hx, hb, hr, hml, hown, hts, hX, hbl, hlocks, hgv⟩ := id C0
  have hown : s.vm.findClass "OrderRows2Law" = some m.cls := hown
  have ht : ∀ w ∈ wt, w.before #[Value.ref b] s = true := fun w h => hts w (wt_sub w h)
  have hN : Nx s := Nx.of hts
  have hA : ∀ q : Nat, s.heap.size ≤ q → AL s q := fun _ h => h
  have hbA : ¬ AL s b := Nat.not_le.mpr hbl
  obtain ⟨cs, hcs⟩ := ty4_of hts
  obtain ⟨c0, iS0, hKn0⟩ := u_known (C := R_F) (T := F_O) (N := 9) (n := 9) ht i_F (ht _ tk_63)
  obtain ⟨c1, iS1, hKn1⟩ := u_known (C := R_H) (T := F_O) (N := 8) (n := 8) ht i_H (ht _ tk_107)
  obtain ⟨c2, iS2, hKn2⟩ := u_known (C := R_R) (T := F_O) (N := 8) (n := 8) ht i_R (ht _ tk_122)
  obtain ⟨c3, iS3, hKn3⟩ := u_known (C := R_X) (T := F_X) (N := 8) (n := 8) ht i_X (ht _ tk_10)
  obtain ⟨c4, iS4, hKn4⟩ := u_known (C := R_M) (T := F_M) (N := 17) (n := 17) ht i_M (ht _ tk_256)
  obtain ⟨D, hKc⟩ : ∃ D : va_G, ∀ (k : Nat) (q : vw_C), classes[k]? = some q → u_Kn s q.1 q.2.1 q.2.2 (D.1 k) (D.2 k) := by
    refine ⟨(fun k => match k with
      | 0 => c0
      | 1 => c1
      | 2 => c2
      | 3 => c3
      | _ => c4, fun k => match k with
      | 0 => iS0
      | 1 => iS1
      | 2 => iS2
      | 3 => iS3
      | _ => iS4), fun k q hq => ?_⟩
    match k, hq with
    | 0, hq => cases hq; exact hKn0
    | 1, hq => cases hq; exact hKn1
    | 2, hq => cases hq; exact hKn2
    | 3, hq => cases hq; exact hKn3
    | 4, hq => cases hq; exact hKn4
    | k + 5, hq => simp [classes] at hq
  have hK : va_K D classes (ty4 cs) s := ⟨hKc, hcs⟩
  have hS : va_S (AL s) s.heap s.heap [] := va_S.rf
  have hP : va_P D classes [] s.heap := fun k q h => by simp at h
  have hD : va_D (AL s) [] := ⟨fun i j p q h => by simp at h, fun k q h => by simp at h⟩
  have hl := lv_entry ([.ref b]) (n := 4) (Nat.le_of_ble_eq_true rfl)
  rw [lg_entry_eq]
  generalize (lg_sl ([.ref b]) ++ List.replicate (4 - (lg_sl ([.ref b])).length) Slot.unset).toArray = ls at hl ⊢
  have hl : lv_has ls 4 [(0, .ref b)] := hl
  refine va_new (ci := 3) (fs := [.null, .int 0, .null, .long 0, .null, .null, .null, .int 0]) (C := R_X) (T := F_X) (N := 8) hx hb ht i_X t_X t_X_ok hown (ht _ tk_9) (ht _ tk_10) (ht _ tk_1) hK hP hD hS hA rfl (fun j hj => by rcases (show j = 0 ∨ j = 1 ∨ j = 2 ∨ j = 3 ∨ j = 4 ∨ j = 5 ∨ j = 6 ∨ j = 7 by omega) with rfl | rfl | rfl | rfl | rfl | rfl | rfl | rfl <;> rfl) (Nat.le_of_ble_eq_true rfl) (Nat.le_of_ble_eq_true rfl) d_law_0 (fun q1 H hP hD hS => ?_)
  have hP : va_P D classes [(q1, .inr (3, [.null, .int 0, .null, .long 0, .null, .null, .null, .int 0]))] H := hP
  have hD : va_D (AL s) [(q1, .inr (3, [.null, .int 0, .null, .long 0, .null, .null, .null, .int 0]))] := hD
  refine lv_dup hx hb d_law_3 rfl ?_
  have hFc := freeW hD hS hA
  refine va_callv (va_runI (As := []) (rest := [.ref q1]) ⟨hx, hb, hml, hown, ht⟩ (c_X_init l D cs q1 (fun _ => 0) (fun _ => 0) (fun _ => 0) (fun _ => 0) (fun _ => 0) (fun _ => 0) (fun _ => 0) (fun _ => 0) (fun _ => 0) (fun _ => 0) _) (cI_ 0 ht tk_13 tk_11 tk_1 tk_12 rfl hd_X_init ⟨Nat.le_of_ble_eq_true rfl, Nat.le_of_ble_eq_true rfl⟩) ⟨fun _ _ _ _ q => ⟨q.1, q.2.1, q.2.2.1, KK.call q.2.2.2.1, q.2.2.2.2⟩, fun U0 hU hW => ⟨rfl, by rw [hU], by rw [hU]; exact hP, KK.warm hK hN hW, hD.weaken (fun _ _ _ _ => trivial)⟩⟩ rfl rfl hl.1 rfl (lv_room (Nat.le_of_ble_eq_true rfl)) d_law_4 ⟨Nat.le_of_ble_eq_true rfl, Nat.le_of_ble_eq_true rfl⟩) hS (fun q _ h => hFc q h) hFc (fun g t1 H locs ht1 hvm1 hg hB hz1 hkp hS => ?_)
  subst hg
  obtain ⟨hP, hD⟩ := hB
  rw [ht1] at hP
  have hD : va_D (AL s) _ := hD.weaken (B := AL s) (fun k q _ h => hFc q.1 h)
  refine lv_astore_n (lv' := [(1, .ref (g 0)), (0, .ref b)]) hx hb d_law_7 rfl hl (by decide) rfl (fun ls hl => ?_)
  refine va_new (ci := 4) (fs := [.int 0, .int 0, .null, .null, .null, .null, .null, .null, .null, .null, .null, .null, .long 0, .null, .int 0, .int 0, .null]) (C := R_M) (T := F_M) (N := 17) hx hb ht i_M t_M t_M_ok hown (ht _ tk_255) (ht _ tk_256) (ht _ tk_2) hK hP hD hS hA rfl (fun j hj => by rcases (show j = 0 ∨ j = 1 ∨ j = 2 ∨ j = 3 ∨ j = 4 ∨ j = 5 ∨ j = 6 ∨ j = 7 ∨ j = 8 ∨ j = 9 ∨ j = 10 ∨ j = 11 ∨ j = 12 ∨ j = 13 ∨ j = 14 ∨ j = 15 ∨ j = 16 by omega) with rfl | rfl | rfl | rfl | rfl | rfl | rfl | rfl | rfl | rfl | rfl | rfl | rfl | rfl | rfl | rfl | rfl <;> rfl) (Nat.le_of_ble_eq_true rfl) (Nat.le_of_ble_eq_true rfl) d_law_8 (fun q2 H hP hD hS => ?_)
  refine lv_dup hx hb d_law_11 rfl ?_
  have hFc := freeW hD.right hS hA
  refine va_callv (va_runI (As := []) (rest := [.ref q2]) ⟨hx, hb, hml, hown, ht⟩ (c_M_init l D cs q2 _) (cI_ 0 ht tk_259 tk_257 tk_2 tk_258 rfl hd_M_init ⟨Nat.le_of_ble_eq_true rfl, Nat.le_of_ble_eq_true rfl⟩) ⟨fun _ _ _ _ q => ⟨q.1, q.2.1, q.2.2.1, KK.call q.2.2.2.1, q.2.2.2.2⟩, fun U0 hU hW => ⟨rfl, by rw [hU], by rw [hU]; exact hP.right, KK.warm hK hN hW, hD.right.weaken (fun _ _ _ _ => trivial)⟩⟩ rfl rfl hl.1 rfl (lv_room (Nat.le_of_ble_eq_true rfl)) d_law_12 ⟨Nat.le_of_ble_eq_true rfl, Nat.le_of_ble_eq_true rfl⟩) hS (fun q _ h => hFc q h) hFc (fun a t2 H locs ht2 hvm2 ha hB hz2 hkp hS => ?_)
  subst ha
  obtain ⟨hP1, hD1⟩ := hB
  rw [ht2] at hP1
  obtain ⟨hP, hD⟩ := jnR hP hD hkp hFc hP1 hD1
  refine lv_astore_n (lv' := [(2, .ref (a 0)), (1, .ref (g 0)), (0, .ref b)]) hx hb d_law_15 rfl hl (by decide) rfl (fun ls hl => ?_)
  refine lv_iconst (v := 0) hx hb d_law_16 (by decide) ?_
  refine lv_istore_n (lv' := [(3, .int 0), (2, .ref (a 0)), (1, .ref (g 0)), (0, .ref b)]) hx hb d_law_17 rfl hl (by decide) rfl (fun ls hl => ?_)
  exact law_loop hL C0 hK hN (L + 1) 0 0 0 (fun _ => 0) (fun _ => 0) (fun _ => 0) (fun _ => 0) (fun _ => 0) (fun _ => 0) (fun _ => 0) (fun _ => 0) (fun _ => 0) (fun _ => 0) (fun _ => 0) (fun _ => 0) (fun _ => 0) (fun _ => 0) (fun _ => 0) (fun _ => 0) (fun _ => 0) 0 H locs ls (by omega) (by omega) ⟨by omega, ⟨0, by omega, rfl, fun k h1 h2 => absurd h1 (by omega)⟩, fun _ _ => rfl, 0, by omega, rfl, fun j hj => absurd hj (by omega)⟩ hP hD hS (lv_sub hl [3, 2, 1, 0] rfl)
end
section
-- ===== YOUR PART ENDS =====
set_option maxHeartbeats 4000000 in
theorem lw_walk (l : Launch) (b : Addr) (xs : List Int32) : MetFree l x (headSpec (Jvm.Cond.code x code maxLocals ret :: tables_1) room_1) (lw_P b xs) (fun _ _ _ _ _ => True) lw_Q := by
  refine MetFree.of_bodyS (code := code) (maxLocals := maxLocals) (ret := ret) (by decide) ?_ ?_
  · intro args s m h hn
    obtain ⟨meth, c, h1, h2, h3, h4, h5, h6, -, -⟩ := Cond.code_spec hn (atoms_spec (ws := Jvm.Cond.code x code maxLocals ret :: tables_1) h _ List.mem_cons_self)
    exact ⟨meth, c, h1, h2, h3, h4, h5, h6⟩
  · intro p e s m args below meth c s₁ B hml0 hP _
    obtain ⟨rfl, hx, hbd, hgv⟩ := hP
    obtain ⟨scr, harrAt, hlist, hof, hsmall⟩ := hx
    obtain ⟨hcb, hkn, -, -⟩ := State.arrayAt?_spec harrAt
    have hown : s.vm.findClass R_law = some m.cls := findClass_of_methodNamed B.named
    have hts0 : ∀ c ∈ (Jvm.Cond.code x code maxLocals ret :: tables_1), c.before #[Value.ref b] s = true := atoms_spec (ws := Jvm.Cond.code x code maxLocals ret :: tables_1) B.pre
    have hts : ∀ w ∈ lw_tbl, w.before #[Value.ref b] s = true := k2_hts_sels lw_privs (fun w hw => hts0 w (List.mem_cons_of_mem _ hw)) lw_privs_ok
    have hml : c.maxLocals = 4 := B.maxLocals_eq (hts0 _ List.mem_cons_self)
    have X₀ : Stand p l e room_1 s m #[Value.ref b] below meth c s₁ [] 0 0 := Stand.of_body B
    have hh0 : s₁.heap = s.heap := by rw [B.state]; rfl
    have hsz : scr.slots.size = xs.length := by rw [← Array.length_toList, hlist, List.length_map]
    have hval : ∀ j : Nat, j < xs.length → scr.slots[j]? = some (.int (xs.getD j 0)) := fun j hj => by
      rw [← Array.getElem?_toList, hlist]
      simp [hj]
    have hbl : b < s.heap.size := (Array.getElem?_eq_some_iff.mp hcb).1
    have hX : va_X b xs.length (fun j => xs.getD j 0) s s.heap := ⟨scr, hcb, hof, hkn, hsz, hval⟩
    have K : W p l e room_1 s m #[Value.ref b] below meth c s₁.heap [] 0 0 (lw_Z below #[Value.ref b] s) (entryFrame m ([Value.ref b] : List Value).toArray 4) := by
      rw [hh0]
      exact whole_start l hbd ⟨B.exec, B.bytes, B.returns, hml, hown, hts, hX, hbl, B.notSynchronized, hgv⟩
    obtain ⟨t, a1, o, b1, b2, b3⟩ := K s₁ rfl X₀
    exact ⟨t, o, a1, b1, b2, b3⟩
theorem lw_pre_spec {args : Array Value} {s : State} (h : (Jvm.Cond.and given_1 narrow_1).before args s = true) (hr : rest_1_c.before args s = true) : ∃ (b : Addr) (xs : List Int32), lw_P b xs args s := by
  have hs := flat_of_before _ h
  have hq := flat_of_before _ hr
  have hc : (Cond.count 1).before args s = true := hs _ (by decide +kernel)
  have harr : (Cond.arrayOf (.arg 0) .int).before args s = true := hs _ (by decide +kernel)
  have hle : (Cond.le (.length (.arg 0)) (.int 4608)).before args s = true := hs _ (by decide +kernel)
  have hlen : (Cond.isInt (.length (.arg 0))).before args s = true := hq _ (by decide +kernel)
  have hall : (Cond.all (.arg 0) (.isInt (.elem (.arg 0) (.index 0)))).before args s = true := hq _ (by decide +kernel)
  obtain ⟨b, xs, hb, hx⟩ := State.ints_of_pre rfl harr hlen hall
  have hsm : xs.length < 2 ^ 31 := hx.choose_spec.2.2.2
  have hev : (Term.length (.arg 0)).eval args s none [] s = some (.int xs.length.toInt32) := hx.length_eval hb
  have hv := Cond.le_ints hev (show (Term.int 4608).eval args s none [] s = some (.int 4608) from rfl)
  have hd : xs.length.toInt32 ≤ 4608 := by
    simpa [Cond.before, Cond.holds, hv] using hle
  have hN : xs.length ≤ 4608 := (Int32.ofNat_le_ofNat hsm (by decide)).mp (show Int32.ofNat xs.length ≤ Int32.ofNat 4608 from hd)
  exact ⟨b, xs, Cond.one_arg hc (show args[0]? = some (.ref b) from hb), hx, hN, h⟩
theorem lw_comes (l : Launch) : Comes l x (Jvm.Cond.code x code maxLocals ret :: tables_1) room_1 (fun tb e args s => Calls_1 tb e args s ∧ rest_1 tb e args s ∧ Pre_1 tb e args s)
    (fun _ _ args s o t => lw_Q args s o t) := by
  intro p e ha hc hk s m args below hf hfit hheap happ hpre
  obtain ⟨b, xs, hP⟩ := lw_pre_spec hpre.2.2 hpre.2.1
  obtain ⟨k, o, h1, h2, h3, hQ⟩ := lw_walk l b xs p e ha hc hk s m args below hf ((Spec.applies_iff_loose hf).mp happ).1 hP trivial
  exact ⟨k, o, h1, h2, h3, hQ⟩
theorem lw_frame {s t : State} {o : Outcome} {args : Array Value} (h : Framed s o t [] 600000 7302250) :
    Framed s o t (fieldLocs frame_1_writes args s ++ arrayLocs frame_1_arrays args s ++ staticLocs frame_1_statics s) 600000 7302250 := h
theorem lw_limb (L : Cond) (hL : ∀ (args : Array Value) (s t : State), L.after args s (.returned (some (.int 1))) t = true) :
    ArmFor flags0 classFile x code maxLocals ret World_1 tables_1 room_1 Calls_1 rest_1 Pre_1
      (fun tb e a s o t => postC L tb e a s o t ∧ Framed s o t (fieldLocs frame_1_writes a s ++ arrayLocs frame_1_arrays a s ++ staticLocs frame_1_statics s) 600000 7302250) := by
  intro l _ _ _ p e ha hc hk s m args below hf hfit hheap happ hpre
  obtain ⟨k, o, h1, h2, h3, rfl, hF⟩ := lw_comes l p e ha hc hk s m args below hf hfit hheap happ hpre
  exact ⟨k, _, h1, h2, h3, hL args s _, lw_frame hF⟩
theorem i_vc : Claimed_1_1 ∧ Claimed_1_2 := ⟨lw_limb limb_1_1 (fun args s t => by simp [limb_1_1, Cond.after, Cond.holds, Cond.value]), lw_limb limb_1_2 (fun args s t => Cond.after_iff.mpr (by
  first | (rw [show limb_1_2 = Cond.eq .result (.int 1) from rfl, Cond.eq_ints (x := 1) (y := 1) rfl rfl]; simp; done) | (simp [limb_1_2, Cond.value, Term.eval]; done)))⟩
end
