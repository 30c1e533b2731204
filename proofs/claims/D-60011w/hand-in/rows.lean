section
-- ===== PART A: goes FIRST, ahead of the names: the tables' words, and 'selects' of the private methods out of them =====
/-- a private method of a class that the tables say can be made, by its rows of tables_1 -/
def lw_okq (q : MethodName × Nat) : Prop := (q.1.cls ≠ "java/lang/invoke/MethodHandle" ∧ q.1.cls ≠ "java/lang/invoke/VarHandle") ∧ Cond.instantiable q.1.cls q.2 ∈ tables_1 ∧ Cond.privateMethod q.1 ∈ tables_1 ∧ Cond.instanceMethod q.1 ∈ tables_1
theorem lw_p0 : lw_okq (⟨"TourDesk", "isLink", "(II)Z"⟩, 15) := ⟨⟨by decide +kernel, by decide +kernel⟩, List.mem_of_getElem? (i := 4) (by decide +kernel), List.mem_of_getElem? (i := 65) (by decide +kernel), List.mem_of_getElem? (i := 66) (by decide +kernel)⟩
theorem lw_p1 : lw_okq (⟨"TourDesk", "putLength", "(III)V"⟩, 15) := ⟨⟨by decide +kernel, by decide +kernel⟩, List.mem_of_getElem? (i := 4) (by decide +kernel), List.mem_of_getElem? (i := 69) (by decide +kernel), List.mem_of_getElem? (i := 70) (by decide +kernel)⟩
theorem lw_p2 : lw_okq (⟨"TourDesk", "findTour", "()V"⟩, 15) := ⟨⟨by decide +kernel, by decide +kernel⟩, List.mem_of_getElem? (i := 4) (by decide +kernel), List.mem_of_getElem? (i := 93) (by decide +kernel), List.mem_of_getElem? (i := 94) (by decide +kernel)⟩
theorem lw_p3 : lw_okq (⟨"TourDesk", "askPlainly", "()V"⟩, 15) := ⟨⟨by decide +kernel, by decide +kernel⟩, List.mem_of_getElem? (i := 4) (by decide +kernel), List.mem_of_getElem? (i := 97) (by decide +kernel), List.mem_of_getElem? (i := 98) (by decide +kernel)⟩
theorem lw_p4 : lw_okq (⟨"TourDesk", "solve", "()I"⟩, 15) := ⟨⟨by decide +kernel, by decide +kernel⟩, List.mem_of_getElem? (i := 4) (by decide +kernel), List.mem_of_getElem? (i := 101) (by decide +kernel), List.mem_of_getElem? (i := 102) (by decide +kernel)⟩
theorem lw_p5 : lw_okq (⟨"TourDesk", "examine", "()I"⟩, 15) := ⟨⟨by decide +kernel, by decide +kernel⟩, List.mem_of_getElem? (i := 4) (by decide +kernel), List.mem_of_getElem? (i := 107) (by decide +kernel), List.mem_of_getElem? (i := 108) (by decide +kernel)⟩
theorem lw_p6 : lw_okq (⟨"TourDesk", "build", "()Z"⟩, 15) := ⟨⟨by decide +kernel, by decide +kernel⟩, List.mem_of_getElem? (i := 4) (by decide +kernel), List.mem_of_getElem? (i := 111) (by decide +kernel), List.mem_of_getElem? (i := 112) (by decide +kernel)⟩
theorem lw_p7 : lw_okq (⟨"TourDesk", "takeRequired", "()Z"⟩, 15) := ⟨⟨by decide +kernel, by decide +kernel⟩, List.mem_of_getElem? (i := 4) (by decide +kernel), List.mem_of_getElem? (i := 115) (by decide +kernel), List.mem_of_getElem? (i := 116) (by decide +kernel)⟩
theorem lw_p8 : lw_okq (⟨"TourDesk", "takeOne", "(II)Z"⟩, 15) := ⟨⟨by decide +kernel, by decide +kernel⟩, List.mem_of_getElem? (i := 4) (by decide +kernel), List.mem_of_getElem? (i := 119) (by decide +kernel), List.mem_of_getElem? (i := 120) (by decide +kernel)⟩
theorem lw_p9 : lw_okq (⟨"TourDesk", "take", "(II)V"⟩, 15) := ⟨⟨by decide +kernel, by decide +kernel⟩, List.mem_of_getElem? (i := 4) (by decide +kernel), List.mem_of_getElem? (i := 123) (by decide +kernel), List.mem_of_getElem? (i := 124) (by decide +kernel)⟩
theorem lw_p10 : lw_okq (⟨"TourDesk", "weight", "(II)I"⟩, 15) := ⟨⟨by decide +kernel, by decide +kernel⟩, List.mem_of_getElem? (i := 4) (by decide +kernel), List.mem_of_getElem? (i := 127) (by decide +kernel), List.mem_of_getElem? (i := 128) (by decide +kernel)⟩
theorem lw_p11 : lw_okq (⟨"TourDesk", "merge", "(II)V"⟩, 15) := ⟨⟨by decide +kernel, by decide +kernel⟩, List.mem_of_getElem? (i := 4) (by decide +kernel), List.mem_of_getElem? (i := 131) (by decide +kernel), List.mem_of_getElem? (i := 132) (by decide +kernel)⟩
theorem lw_p12 : lw_okq (⟨"TourDesk", "growTree", "()Z"⟩, 15) := ⟨⟨by decide +kernel, by decide +kernel⟩, List.mem_of_getElem? (i := 4) (by decide +kernel), List.mem_of_getElem? (i := 135) (by decide +kernel), List.mem_of_getElem? (i := 136) (by decide +kernel)⟩
theorem lw_p13 : lw_okq (⟨"TourDesk", "cheapestJoin", "()I"⟩, 15) := ⟨⟨by decide +kernel, by decide +kernel⟩, List.mem_of_getElem? (i := 4) (by decide +kernel), List.mem_of_getElem? (i := 139) (by decide +kernel), List.mem_of_getElem? (i := 140) (by decide +kernel)⟩
theorem lw_p14 : lw_okq (⟨"TourDesk", "joined", "()Z"⟩, 15) := ⟨⟨by decide +kernel, by decide +kernel⟩, List.mem_of_getElem? (i := 4) (by decide +kernel), List.mem_of_getElem? (i := 143) (by decide +kernel), List.mem_of_getElem? (i := 144) (by decide +kernel)⟩
theorem lw_p15 : lw_okq (⟨"TourDesk", "closeAtZero", "()Z"⟩, 15) := ⟨⟨by decide +kernel, by decide +kernel⟩, List.mem_of_getElem? (i := 4) (by decide +kernel), List.mem_of_getElem? (i := 147) (by decide +kernel), List.mem_of_getElem? (i := 148) (by decide +kernel)⟩
def lw_privs_1 : List (MethodName × Nat) := [(⟨"TourDesk", "isLink", "(II)Z"⟩, 15), (⟨"TourDesk", "putLength", "(III)V"⟩, 15), (⟨"TourDesk", "findTour", "()V"⟩, 15), (⟨"TourDesk", "askPlainly", "()V"⟩, 15), (⟨"TourDesk", "solve", "()I"⟩, 15), (⟨"TourDesk", "examine", "()I"⟩, 15), (⟨"TourDesk", "build", "()Z"⟩, 15), (⟨"TourDesk", "takeRequired", "()Z"⟩, 15), (⟨"TourDesk", "takeOne", "(II)Z"⟩, 15), (⟨"TourDesk", "take", "(II)V"⟩, 15), (⟨"TourDesk", "weight", "(II)I"⟩, 15), (⟨"TourDesk", "merge", "(II)V"⟩, 15), (⟨"TourDesk", "growTree", "()Z"⟩, 15), (⟨"TourDesk", "cheapestJoin", "()I"⟩, 15), (⟨"TourDesk", "joined", "()Z"⟩, 15), (⟨"TourDesk", "closeAtZero", "()Z"⟩, 15)]
theorem lw_r1 : ∀ q ∈ lw_privs_1, lw_okq q := List.forall_mem_cons.mpr ⟨lw_p0, List.forall_mem_cons.mpr ⟨lw_p1, List.forall_mem_cons.mpr ⟨lw_p2, List.forall_mem_cons.mpr ⟨lw_p3, List.forall_mem_cons.mpr ⟨lw_p4, List.forall_mem_cons.mpr ⟨lw_p5, List.forall_mem_cons.mpr ⟨lw_p6, List.forall_mem_cons.mpr ⟨lw_p7, List.forall_mem_cons.mpr ⟨lw_p8, List.forall_mem_cons.mpr ⟨lw_p9, List.forall_mem_cons.mpr ⟨lw_p10, List.forall_mem_cons.mpr ⟨lw_p11, List.forall_mem_cons.mpr ⟨lw_p12, List.forall_mem_cons.mpr ⟨lw_p13, List.forall_mem_cons.mpr ⟨lw_p14, List.forall_mem_cons.mpr ⟨lw_p15, fun _ h => absurd h List.not_mem_nil⟩⟩⟩⟩⟩⟩⟩⟩⟩⟩⟩⟩⟩⟩⟩⟩
theorem lw_p16 : lw_okq (⟨"TourDesk", "twicePenalties", "()I"⟩, 15) := ⟨⟨by decide +kernel, by decide +kernel⟩, List.mem_of_getElem? (i := 4) (by decide +kernel), List.mem_of_getElem? (i := 151) (by decide +kernel), List.mem_of_getElem? (i := 152) (by decide +kernel)⟩
theorem lw_p17 : lw_okq (⟨"TourDesk", "isTour", "()Z"⟩, 15) := ⟨⟨by decide +kernel, by decide +kernel⟩, List.mem_of_getElem? (i := 4) (by decide +kernel), List.mem_of_getElem? (i := 155) (by decide +kernel), List.mem_of_getElem? (i := 156) (by decide +kernel)⟩
theorem lw_p18 : lw_okq (⟨"TourDesk", "bend", "(I)V"⟩, 15) := ⟨⟨by decide +kernel, by decide +kernel⟩, List.mem_of_getElem? (i := 4) (by decide +kernel), List.mem_of_getElem? (i := 159) (by decide +kernel), List.mem_of_getElem? (i := 160) (by decide +kernel)⟩
theorem lw_p19 : lw_okq (⟨"TourDesk", "linkToBranch", "()I"⟩, 15) := ⟨⟨by decide +kernel, by decide +kernel⟩, List.mem_of_getElem? (i := 4) (by decide +kernel), List.mem_of_getElem? (i := 163) (by decide +kernel), List.mem_of_getElem? (i := 164) (by decide +kernel)⟩
theorem lw_p20 : lw_okq (⟨"TourDesk", "decide", "(III)V"⟩, 15) := ⟨⟨by decide +kernel, by decide +kernel⟩, List.mem_of_getElem? (i := 4) (by decide +kernel), List.mem_of_getElem? (i := 167) (by decide +kernel), List.mem_of_getElem? (i := 168) (by decide +kernel)⟩
theorem lw_p21 : lw_okq (⟨"TourDesk", "backUp", "(I)I"⟩, 15) := ⟨⟨by decide +kernel, by decide +kernel⟩, List.mem_of_getElem? (i := 4) (by decide +kernel), List.mem_of_getElem? (i := 171) (by decide +kernel), List.mem_of_getElem? (i := 172) (by decide +kernel)⟩
theorem lw_p22 : lw_okq (⟨"TourDesk", "nextCity", "(II)I"⟩, 15) := ⟨⟨by decide +kernel, by decide +kernel⟩, List.mem_of_getElem? (i := 4) (by decide +kernel), List.mem_of_getElem? (i := 175) (by decide +kernel), List.mem_of_getElem? (i := 176) (by decide +kernel)⟩
theorem lw_p23 : lw_okq (⟨"TourDeskModel", "link", "(II)Z"⟩, 5) := ⟨⟨by decide +kernel, by decide +kernel⟩, List.mem_of_getElem? (i := 204) (by decide +kernel), List.mem_of_getElem? (i := 230) (by decide +kernel), List.mem_of_getElem? (i := 231) (by decide +kernel)⟩
theorem lw_p24 : lw_okq (⟨"TourDeskModel", "least", "(III)I"⟩, 5) := ⟨⟨by decide +kernel, by decide +kernel⟩, List.mem_of_getElem? (i := 204) (by decide +kernel), List.mem_of_getElem? (i := 255) (by decide +kernel), List.mem_of_getElem? (i := 256) (by decide +kernel)⟩
theorem lw_p25 : lw_okq (⟨"TourDeskModel", "spell", "(I)V"⟩, 5) := ⟨⟨by decide +kernel, by decide +kernel⟩, List.mem_of_getElem? (i := 204) (by decide +kernel), List.mem_of_getElem? (i := 259) (by decide +kernel), List.mem_of_getElem? (i := 260) (by decide +kernel)⟩
theorem lw_p26 : lw_okq (⟨"TourDeskModel", "nth", "(II)I"⟩, 5) := ⟨⟨by decide +kernel, by decide +kernel⟩, List.mem_of_getElem? (i := 204) (by decide +kernel), List.mem_of_getElem? (i := 263) (by decide +kernel), List.mem_of_getElem? (i := 264) (by decide +kernel)⟩
theorem lw_p27 : lw_okq (⟨"TourDeskModel", "has", "(II)Z"⟩, 5) := ⟨⟨by decide +kernel, by decide +kernel⟩, List.mem_of_getElem? (i := 204) (by decide +kernel), List.mem_of_getElem? (i := 267) (by decide +kernel), List.mem_of_getElem? (i := 268) (by decide +kernel)⟩
theorem lw_p28 : lw_okq (⟨"TourDeskModel", "next", "(I)I"⟩, 5) := ⟨⟨by decide +kernel, by decide +kernel⟩, List.mem_of_getElem? (i := 204) (by decide +kernel), List.mem_of_getElem? (i := 271) (by decide +kernel), List.mem_of_getElem? (i := 272) (by decide +kernel)⟩
theorem lw_p29 : lw_okq (⟨"TourDeskModel", "allowed", "()Z"⟩, 5) := ⟨⟨by decide +kernel, by decide +kernel⟩, List.mem_of_getElem? (i := 204) (by decide +kernel), List.mem_of_getElem? (i := 275) (by decide +kernel), List.mem_of_getElem? (i := 276) (by decide +kernel)⟩
theorem lw_p30 : lw_okq (⟨"TourDeskModel", "cost", "()I"⟩, 5) := ⟨⟨by decide +kernel, by decide +kernel⟩, List.mem_of_getElem? (i := 204) (by decide +kernel), List.mem_of_getElem? (i := 279) (by decide +kernel), List.mem_of_getElem? (i := 280) (by decide +kernel)⟩
def lw_privs_2 : List (MethodName × Nat) := [(⟨"TourDesk", "twicePenalties", "()I"⟩, 15), (⟨"TourDesk", "isTour", "()Z"⟩, 15), (⟨"TourDesk", "bend", "(I)V"⟩, 15), (⟨"TourDesk", "linkToBranch", "()I"⟩, 15), (⟨"TourDesk", "decide", "(III)V"⟩, 15), (⟨"TourDesk", "backUp", "(I)I"⟩, 15), (⟨"TourDesk", "nextCity", "(II)I"⟩, 15), (⟨"TourDeskModel", "link", "(II)Z"⟩, 5), (⟨"TourDeskModel", "least", "(III)I"⟩, 5), (⟨"TourDeskModel", "spell", "(I)V"⟩, 5), (⟨"TourDeskModel", "nth", "(II)I"⟩, 5), (⟨"TourDeskModel", "has", "(II)Z"⟩, 5), (⟨"TourDeskModel", "next", "(I)I"⟩, 5), (⟨"TourDeskModel", "allowed", "()Z"⟩, 5), (⟨"TourDeskModel", "cost", "()I"⟩, 5)]
theorem lw_r2 : ∀ q ∈ lw_privs_2, lw_okq q := List.forall_mem_cons.mpr ⟨lw_p16, List.forall_mem_cons.mpr ⟨lw_p17, List.forall_mem_cons.mpr ⟨lw_p18, List.forall_mem_cons.mpr ⟨lw_p19, List.forall_mem_cons.mpr ⟨lw_p20, List.forall_mem_cons.mpr ⟨lw_p21, List.forall_mem_cons.mpr ⟨lw_p22, List.forall_mem_cons.mpr ⟨lw_p23, List.forall_mem_cons.mpr ⟨lw_p24, List.forall_mem_cons.mpr ⟨lw_p25, List.forall_mem_cons.mpr ⟨lw_p26, List.forall_mem_cons.mpr ⟨lw_p27, List.forall_mem_cons.mpr ⟨lw_p28, List.forall_mem_cons.mpr ⟨lw_p29, List.forall_mem_cons.mpr ⟨lw_p30, fun _ h => absurd h List.not_mem_nil⟩⟩⟩⟩⟩⟩⟩⟩⟩⟩⟩⟩⟩⟩⟩
def lw_privs : List (MethodName × Nat) := lw_privs_1 ++ (lw_privs_2)
def lw_tbl : List Cond := k2_sels lw_privs ++ tables_1
theorem lw_privs_ok : ∀ q ∈ lw_privs, lw_okq q := by
  show ∀ q ∈ lw_privs_1 ++ (lw_privs_2), lw_okq q
  exact List.forall_mem_append.mpr ⟨lw_r1, lw_r2⟩
/-- the words that every method takes along: all of lw_tbl but what a change of the tables need not keep -/
def tb : List Cond := lw_tbl.filter goodWord
theorem gd_tb : GoodIn tb tb := fun w hw => ⟨hw, good_of_word (List.mem_filter.mp hw).2⟩
theorem gd_lw : GoodIn lw_tbl tb := fun w hw => ⟨(List.mem_filter.mp hw).1, good_of_word (List.mem_filter.mp hw).2⟩
def R_law : String := "TourDeskLaw"
def R_d : String := "TourDesk"
def R_m : String := "TourDeskModel"
def F_d : u_T := fun k => match k with
  | 0 => ("TourDesk", "cities", "I", true)
  | 1 => ("TourDesk", "lengths", "[B", true)
  | 2 => ("TourDesk", "rules", "[B", true)
  | 3 => ("TourDesk", "now", "[B", true)
  | 4 => ("TourDesk", "penalty", "[I", true)
  | 5 => ("TourDesk", "group", "[B", true)
  | 6 => ("TourDesk", "degree", "[B", true)
  | 7 => ("TourDesk", "chosen", "[Z", true)
  | 8 => ("TourDesk", "treeCost", "I", false)
  | 9 => ("TourDesk", "branchLink", "[B", true)
  | 10 => ("TourDesk", "branchBoth", "[Z", true)
  | 11 => ("TourDesk", "least", "I", false)
  | 12 => ("TourDesk", "tourKnown", "Z", false)
  | 13 => ("TourDesk", "tourCost", "I", false)
  | _ => ("TourDesk", "tour", "[B", true)
def t_d : Nat → FieldType := fun k => match k with
  | 0 => .int
  | 1 => .array .byte
  | 2 => .array .byte
  | 3 => .array .byte
  | 4 => .array .int
  | 5 => .array .byte
  | 6 => .array .byte
  | 7 => .array .boolean
  | 8 => .int
  | 9 => .array .byte
  | 10 => .array .boolean
  | 11 => .int
  | 12 => .boolean
  | 13 => .int
  | _ => .array .byte
abbrev w_d : List Cond := u_ws R_d F_d 15
theorem n_d : ∀ a, a < 15 → ∀ b, b < 15 → a ≠ b → (F_d a).2.1 ≠ (F_d b).2.1 := by decide +kernel
theorem t_d_ok : ∀ k, k < 15 → parseFieldDescriptor (F_d k).2.2.1 = some (t_d k) := by decide +kernel
theorem i_d : ∀ w ∈ w_d, w ∈ tb := by decide +kernel
def F_m : u_T := fun k => match k with
  | 0 => ("TourDeskModel", "n", "I", false)
  | 1 => ("TourDeskModel", "far", "[I", false)
  | 2 => ("TourDeskModel", "law", "[I", false)
  | 3 => ("TourDeskModel", "list", "[I", false)
  | _ => ("TourDeskModel", "tours", "I", false)
def t_m : Nat → FieldType := fun k => match k with
  | 0 => .int
  | 1 => .array .int
  | 2 => .array .int
  | 3 => .array .int
  | _ => .int
abbrev w_m : List Cond := u_ws R_m F_m 5
theorem n_m : ∀ a, a < 5 → ∀ b, b < 5 → a ≠ b → (F_m a).2.1 ≠ (F_m b).2.1 := by decide +kernel
theorem t_m_ok : ∀ k, k < 5 → parseFieldDescriptor (F_m k).2.2.1 = some (t_m k) := by decide +kernel
theorem i_m : ∀ w ∈ w_m, w ∈ tb := by decide +kernel
abbrev classes : List vw_C := [(R_d, F_d, 15), (R_m, F_m, 5)]
-- methods
abbrev b_d_init : ByteArray := prog_1_method_1_code
def y_d_init : MethodName := ⟨R_d, "<init>", "(II)V"⟩
theorem z_d_init : Cond.code y_d_init b_d_init 5 none ∈ tb := List.mem_filter.mpr ⟨List.mem_of_getElem? (i := 38) (by rfl), rfl⟩
abbrev b_d_isLink : ByteArray := prog_1_method_2_code
def y_d_isLink : MethodName := ⟨R_d, "isLink", "(II)Z"⟩
theorem z_d_isLink : Cond.code y_d_isLink b_d_isLink 3 (some .boolean) ∈ tb := List.mem_filter.mpr ⟨List.mem_of_getElem? (i := 98) (by rfl), rfl⟩
abbrev b_d_setLength : ByteArray := prog_1_method_3_code
def y_d_setLength : MethodName := ⟨R_d, "setLength", "(III)Z"⟩
theorem z_d_setLength : Cond.code y_d_setLength b_d_setLength 4 (some .boolean) ∈ tb := List.mem_filter.mpr ⟨List.mem_of_getElem? (i := 94) (by rfl), rfl⟩
abbrev b_d_putLength : ByteArray := prog_1_method_4_code
def y_d_putLength : MethodName := ⟨R_d, "putLength", "(III)V"⟩
theorem z_d_putLength : Cond.code y_d_putLength b_d_putLength 4 none ∈ tb := List.mem_filter.mpr ⟨List.mem_of_getElem? (i := 102) (by rfl), rfl⟩
abbrev b_d_setRule : ByteArray := prog_1_method_5_code
def y_d_setRule : MethodName := ⟨R_d, "setRule", "(III)Z"⟩
theorem z_d_setRule : Cond.code y_d_setRule b_d_setRule 4 (some .boolean) ∈ tb := List.mem_filter.mpr ⟨List.mem_of_getElem? (i := 106) (by rfl), rfl⟩
abbrev b_d_shift : ByteArray := prog_1_method_6_code
def y_d_shift : MethodName := ⟨R_d, "shift", "(II)I"⟩
theorem z_d_shift : Cond.code y_d_shift b_d_shift 6 (some .int) ∈ tb := List.mem_filter.mpr ⟨List.mem_of_getElem? (i := 110) (by rfl), rfl⟩
abbrev b_d_length : ByteArray := prog_1_method_7_code
def y_d_length : MethodName := ⟨R_d, "length", "(II)I"⟩
theorem z_d_length : Cond.code y_d_length b_d_length 3 (some .int) ∈ tb := List.mem_filter.mpr ⟨List.mem_of_getElem? (i := 114) (by rfl), rfl⟩
abbrev b_d_rule : ByteArray := prog_1_method_8_code
def y_d_rule : MethodName := ⟨R_d, "rule", "(II)I"⟩
theorem z_d_rule : Cond.code y_d_rule b_d_rule 3 (some .int) ∈ tb := List.mem_filter.mpr ⟨List.mem_of_getElem? (i := 118) (by rfl), rfl⟩
abbrev b_d_best : ByteArray := prog_1_method_9_code
def y_d_best : MethodName := ⟨R_d, "best", "()I"⟩
theorem z_d_best : Cond.code y_d_best b_d_best 1 (some .int) ∈ tb := List.mem_filter.mpr ⟨List.mem_of_getElem? (i := 122) (by rfl), rfl⟩
abbrev b_d_cityAt : ByteArray := prog_1_method_10_code
def y_d_cityAt : MethodName := ⟨R_d, "cityAt", "(I)I"⟩
theorem z_d_cityAt : Cond.code y_d_cityAt b_d_cityAt 2 (some .int) ∈ tb := List.mem_filter.mpr ⟨List.mem_of_getElem? (i := 212) (by rfl), rfl⟩
abbrev b_d_bestWith : ByteArray := prog_1_method_11_code
def y_d_bestWith : MethodName := ⟨R_d, "bestWith", "(II)I"⟩
theorem z_d_bestWith : Cond.code y_d_bestWith b_d_bestWith 3 (some .int) ∈ tb := List.mem_filter.mpr ⟨List.mem_of_getElem? (i := 216) (by rfl), rfl⟩
abbrev b_d_bestWithout : ByteArray := prog_1_method_12_code
def y_d_bestWithout : MethodName := ⟨R_d, "bestWithout", "(II)I"⟩
theorem z_d_bestWithout : Cond.code y_d_bestWithout b_d_bestWithout 3 (some .int) ∈ tb := List.mem_filter.mpr ⟨List.mem_of_getElem? (i := 220) (by rfl), rfl⟩
abbrev b_d_neighbours : ByteArray := prog_1_method_13_code
def y_d_neighbours : MethodName := ⟨R_d, "neighbours", "(I)I"⟩
theorem z_d_neighbours : Cond.code y_d_neighbours b_d_neighbours 5 (some .int) ∈ tb := List.mem_filter.mpr ⟨List.mem_of_getElem? (i := 224) (by rfl), rfl⟩
abbrev b_d_limit : ByteArray := prog_1_method_14_code
def y_d_limit : MethodName := ⟨R_d, "limit", "(II)I"⟩
theorem z_d_limit : Cond.code y_d_limit b_d_limit 6 (some .int) ∈ tb := List.mem_filter.mpr ⟨List.mem_of_getElem? (i := 229) (by rfl), rfl⟩
abbrev b_d_findTour : ByteArray := prog_1_method_15_code
def y_d_findTour : MethodName := ⟨R_d, "findTour", "()V"⟩
theorem z_d_findTour : Cond.code y_d_findTour b_d_findTour 4 none ∈ tb := List.mem_filter.mpr ⟨List.mem_of_getElem? (i := 126) (by rfl), rfl⟩
abbrev b_d_nextCity : ByteArray := prog_1_method_16_code
def y_d_nextCity : MethodName := ⟨R_d, "nextCity", "(II)I"⟩
theorem z_d_nextCity : Cond.code y_d_nextCity b_d_nextCity 6 (some .int) ∈ tb := List.mem_filter.mpr ⟨List.mem_of_getElem? (i := 208) (by rfl), rfl⟩
abbrev b_d_askPlainly : ByteArray := prog_1_method_17_code
def y_d_askPlainly : MethodName := ⟨R_d, "askPlainly", "()V"⟩
theorem z_d_askPlainly : Cond.code y_d_askPlainly b_d_askPlainly 2 none ∈ tb := List.mem_filter.mpr ⟨List.mem_of_getElem? (i := 130) (by rfl), rfl⟩
abbrev b_d_decide : ByteArray := prog_1_method_18_code
def y_d_decide : MethodName := ⟨R_d, "decide", "(III)V"⟩
theorem z_d_decide : Cond.code y_d_decide b_d_decide 4 none ∈ tb := List.mem_filter.mpr ⟨List.mem_of_getElem? (i := 200) (by rfl), rfl⟩
abbrev b_d_solve : ByteArray := prog_1_method_19_code
def y_d_solve : MethodName := ⟨R_d, "solve", "()I"⟩
theorem z_d_solve : Cond.code y_d_solve b_d_solve 5 (some .int) ∈ tb := List.mem_filter.mpr ⟨List.mem_of_getElem? (i := 134) (by rfl), rfl⟩
abbrev b_d_backUp : ByteArray := prog_1_method_20_code
def y_d_backUp : MethodName := ⟨R_d, "backUp", "(I)I"⟩
theorem z_d_backUp : Cond.code y_d_backUp b_d_backUp 3 (some .int) ∈ tb := List.mem_filter.mpr ⟨List.mem_of_getElem? (i := 204) (by rfl), rfl⟩
abbrev b_d_examine : ByteArray := prog_1_method_21_code
def y_d_examine : MethodName := ⟨R_d, "examine", "()I"⟩
theorem z_d_examine : Cond.code y_d_examine b_d_examine 4 (some .int) ∈ tb := List.mem_filter.mpr ⟨List.mem_of_getElem? (i := 140) (by rfl), rfl⟩
abbrev b_d_twicePenalties : ByteArray := prog_1_method_22_code
def y_d_twicePenalties : MethodName := ⟨R_d, "twicePenalties", "()I"⟩
theorem z_d_twicePenalties : Cond.code y_d_twicePenalties b_d_twicePenalties 3 (some .int) ∈ tb := List.mem_filter.mpr ⟨List.mem_of_getElem? (i := 184) (by rfl), rfl⟩
abbrev b_d_isTour : ByteArray := prog_1_method_23_code
def y_d_isTour : MethodName := ⟨R_d, "isTour", "()Z"⟩
theorem z_d_isTour : Cond.code y_d_isTour b_d_isTour 2 (some .boolean) ∈ tb := List.mem_filter.mpr ⟨List.mem_of_getElem? (i := 188) (by rfl), rfl⟩
abbrev b_d_bend : ByteArray := prog_1_method_24_code
def y_d_bend : MethodName := ⟨R_d, "bend", "(I)V"⟩
theorem z_d_bend : Cond.code y_d_bend b_d_bend 3 none ∈ tb := List.mem_filter.mpr ⟨List.mem_of_getElem? (i := 192) (by rfl), rfl⟩
abbrev b_d_linkToBranch : ByteArray := prog_1_method_25_code
def y_d_linkToBranch : MethodName := ⟨R_d, "linkToBranch", "()I"⟩
theorem z_d_linkToBranch : Cond.code y_d_linkToBranch b_d_linkToBranch 4 (some .int) ∈ tb := List.mem_filter.mpr ⟨List.mem_of_getElem? (i := 196) (by rfl), rfl⟩
abbrev b_d_build : ByteArray := prog_1_method_26_code
def y_d_build : MethodName := ⟨R_d, "build", "()Z"⟩
theorem z_d_build : Cond.code y_d_build b_d_build 2 (some .boolean) ∈ tb := List.mem_filter.mpr ⟨List.mem_of_getElem? (i := 144) (by rfl), rfl⟩
abbrev b_d_takeRequired : ByteArray := prog_1_method_27_code
def y_d_takeRequired : MethodName := ⟨R_d, "takeRequired", "()Z"⟩
theorem z_d_takeRequired : Cond.code y_d_takeRequired b_d_takeRequired 3 (some .boolean) ∈ tb := List.mem_filter.mpr ⟨List.mem_of_getElem? (i := 148) (by rfl), rfl⟩
abbrev b_d_takeOne : ByteArray := prog_1_method_28_code
def y_d_takeOne : MethodName := ⟨R_d, "takeOne", "(II)Z"⟩
theorem z_d_takeOne : Cond.code y_d_takeOne b_d_takeOne 3 (some .boolean) ∈ tb := List.mem_filter.mpr ⟨List.mem_of_getElem? (i := 152) (by rfl), rfl⟩
abbrev b_d_take : ByteArray := prog_1_method_29_code
def y_d_take : MethodName := ⟨R_d, "take", "(II)V"⟩
theorem z_d_take : Cond.code y_d_take b_d_take 4 none ∈ tb := List.mem_filter.mpr ⟨List.mem_of_getElem? (i := 156) (by rfl), rfl⟩
abbrev b_d_merge : ByteArray := prog_1_method_30_code
def y_d_merge : MethodName := ⟨R_d, "merge", "(II)V"⟩
theorem z_d_merge : Cond.code y_d_merge b_d_merge 4 none ∈ tb := List.mem_filter.mpr ⟨List.mem_of_getElem? (i := 164) (by rfl), rfl⟩
abbrev b_d_weight : ByteArray := prog_1_method_31_code
def y_d_weight : MethodName := ⟨R_d, "weight", "(II)I"⟩
theorem z_d_weight : Cond.code y_d_weight b_d_weight 3 (some .int) ∈ tb := List.mem_filter.mpr ⟨List.mem_of_getElem? (i := 160) (by rfl), rfl⟩
abbrev b_d_growTree : ByteArray := prog_1_method_32_code
def y_d_growTree : MethodName := ⟨R_d, "growTree", "()Z"⟩
theorem z_d_growTree : Cond.code y_d_growTree b_d_growTree 3 (some .boolean) ∈ tb := List.mem_filter.mpr ⟨List.mem_of_getElem? (i := 168) (by rfl), rfl⟩
abbrev b_d_joined : ByteArray := prog_1_method_33_code
def y_d_joined : MethodName := ⟨R_d, "joined", "()Z"⟩
theorem z_d_joined : Cond.code y_d_joined b_d_joined 2 (some .boolean) ∈ tb := List.mem_filter.mpr ⟨List.mem_of_getElem? (i := 176) (by rfl), rfl⟩
abbrev b_d_cheapestJoin : ByteArray := prog_1_method_34_code
def y_d_cheapestJoin : MethodName := ⟨R_d, "cheapestJoin", "()I"⟩
theorem z_d_cheapestJoin : Cond.code y_d_cheapestJoin b_d_cheapestJoin 7 (some .int) ∈ tb := List.mem_filter.mpr ⟨List.mem_of_getElem? (i := 172) (by rfl), rfl⟩
abbrev b_d_closeAtZero : ByteArray := prog_1_method_35_code
def y_d_closeAtZero : MethodName := ⟨R_d, "closeAtZero", "()Z"⟩
theorem z_d_closeAtZero : Cond.code y_d_closeAtZero b_d_closeAtZero 7 (some .boolean) ∈ tb := List.mem_filter.mpr ⟨List.mem_of_getElem? (i := 180) (by rfl), rfl⟩
abbrev b_m_init : ByteArray := prog_3_method_1_code
def y_m_init : MethodName := ⟨R_m, "<init>", "(II)V"⟩
theorem z_m_init : Cond.code y_m_init b_m_init 5 none ∈ tb := List.mem_filter.mpr ⟨List.mem_of_getElem? (i := 238) (by rfl), rfl⟩
abbrev b_m_link : ByteArray := prog_3_method_2_code
def y_m_link : MethodName := ⟨R_m, "link", "(II)Z"⟩
theorem z_m_link : Cond.code y_m_link b_m_link 3 (some .boolean) ∈ tb := List.mem_filter.mpr ⟨List.mem_of_getElem? (i := 263) (by rfl), rfl⟩
abbrev b_m_setLength : ByteArray := prog_3_method_3_code
def y_m_setLength : MethodName := ⟨R_m, "setLength", "(III)Z"⟩
theorem z_m_setLength : Cond.code y_m_setLength b_m_setLength 4 (some .boolean) ∈ tb := List.mem_filter.mpr ⟨List.mem_of_getElem? (i := 259) (by rfl), rfl⟩
abbrev b_m_setRule : ByteArray := prog_3_method_4_code
def y_m_setRule : MethodName := ⟨R_m, "setRule", "(III)Z"⟩
theorem z_m_setRule : Cond.code y_m_setRule b_m_setRule 4 (some .boolean) ∈ tb := List.mem_filter.mpr ⟨List.mem_of_getElem? (i := 267) (by rfl), rfl⟩
abbrev b_m_shift : ByteArray := prog_3_method_5_code
def y_m_shift : MethodName := ⟨R_m, "shift", "(II)I"⟩
theorem z_m_shift : Cond.code y_m_shift b_m_shift 5 (some .int) ∈ tb := List.mem_filter.mpr ⟨List.mem_of_getElem? (i := 271) (by rfl), rfl⟩
abbrev b_m_length : ByteArray := prog_3_method_6_code
def y_m_length : MethodName := ⟨R_m, "length", "(II)I"⟩
theorem z_m_length : Cond.code y_m_length b_m_length 3 (some .int) ∈ tb := List.mem_filter.mpr ⟨List.mem_of_getElem? (i := 276) (by rfl), rfl⟩
abbrev b_m_rule : ByteArray := prog_3_method_7_code
def y_m_rule : MethodName := ⟨R_m, "rule", "(II)I"⟩
theorem z_m_rule : Cond.code y_m_rule b_m_rule 3 (some .int) ∈ tb := List.mem_filter.mpr ⟨List.mem_of_getElem? (i := 280) (by rfl), rfl⟩
abbrev b_m_spell : ByteArray := prog_3_method_8_code
def y_m_spell : MethodName := ⟨R_m, "spell", "(I)V"⟩
theorem z_m_spell : Cond.code y_m_spell b_m_spell 8 none ∈ tb := List.mem_filter.mpr ⟨List.mem_of_getElem? (i := 292) (by rfl), rfl⟩
abbrev b_m_nth : ByteArray := prog_3_method_9_code
def y_m_nth : MethodName := ⟨R_m, "nth", "(II)I"⟩
theorem z_m_nth : Cond.code y_m_nth b_m_nth 5 (some .int) ∈ tb := List.mem_filter.mpr ⟨List.mem_of_getElem? (i := 296) (by rfl), rfl⟩
abbrev b_m_next : ByteArray := prog_3_method_10_code
def y_m_next : MethodName := ⟨R_m, "next", "(I)I"⟩
theorem z_m_next : Cond.code y_m_next b_m_next 2 (some .int) ∈ tb := List.mem_filter.mpr ⟨List.mem_of_getElem? (i := 304) (by rfl), rfl⟩
abbrev b_m_allowed : ByteArray := prog_3_method_11_code
def y_m_allowed : MethodName := ⟨R_m, "allowed", "()Z"⟩
theorem z_m_allowed : Cond.code y_m_allowed b_m_allowed 6 (some .boolean) ∈ tb := List.mem_filter.mpr ⟨List.mem_of_getElem? (i := 308) (by rfl), rfl⟩
abbrev b_m_cost : ByteArray := prog_3_method_12_code
def y_m_cost : MethodName := ⟨R_m, "cost", "()I"⟩
theorem z_m_cost : Cond.code y_m_cost b_m_cost 3 (some .int) ∈ tb := List.mem_filter.mpr ⟨List.mem_of_getElem? (i := 312) (by rfl), rfl⟩
abbrev b_m_has : ByteArray := prog_3_method_13_code
def y_m_has : MethodName := ⟨R_m, "has", "(II)Z"⟩
theorem z_m_has : Cond.code y_m_has b_m_has 7 (some .boolean) ∈ tb := List.mem_filter.mpr ⟨List.mem_of_getElem? (i := 300) (by rfl), rfl⟩
abbrev b_m_least : ByteArray := prog_3_method_14_code
def y_m_least : MethodName := ⟨R_m, "least", "(III)I"⟩
theorem z_m_least : Cond.code y_m_least b_m_least 7 (some .int) ∈ tb := List.mem_filter.mpr ⟨List.mem_of_getElem? (i := 288) (by rfl), rfl⟩
abbrev b_m_best : ByteArray := prog_3_method_15_code
def y_m_best : MethodName := ⟨R_m, "best", "()I"⟩
theorem z_m_best : Cond.code y_m_best b_m_best 1 (some .int) ∈ tb := List.mem_filter.mpr ⟨List.mem_of_getElem? (i := 284) (by rfl), rfl⟩
abbrev b_m_cityAt : ByteArray := prog_3_method_16_code
def y_m_cityAt : MethodName := ⟨R_m, "cityAt", "(I)I"⟩
theorem z_m_cityAt : Cond.code y_m_cityAt b_m_cityAt 4 (some .int) ∈ tb := List.mem_filter.mpr ⟨List.mem_of_getElem? (i := 316) (by rfl), rfl⟩
abbrev b_m_bestWith : ByteArray := prog_3_method_17_code
def y_m_bestWith : MethodName := ⟨R_m, "bestWith", "(II)I"⟩
theorem z_m_bestWith : Cond.code y_m_bestWith b_m_bestWith 3 (some .int) ∈ tb := List.mem_filter.mpr ⟨List.mem_of_getElem? (i := 321) (by rfl), rfl⟩
abbrev b_m_bestWithout : ByteArray := prog_3_method_18_code
def y_m_bestWithout : MethodName := ⟨R_m, "bestWithout", "(II)I"⟩
theorem z_m_bestWithout : Cond.code y_m_bestWithout b_m_bestWithout 3 (some .int) ∈ tb := List.mem_filter.mpr ⟨List.mem_of_getElem? (i := 325) (by rfl), rfl⟩
abbrev b_m_neighbours : ByteArray := prog_3_method_19_code
def y_m_neighbours : MethodName := ⟨R_m, "neighbours", "(I)I"⟩
theorem z_m_neighbours : Cond.code y_m_neighbours b_m_neighbours 6 (some .int) ∈ tb := List.mem_filter.mpr ⟨List.mem_of_getElem? (i := 329) (by rfl), rfl⟩
abbrev b_m_limit : ByteArray := prog_3_method_20_code
def y_m_limit : MethodName := ⟨R_m, "limit", "(II)I"⟩
theorem z_m_limit : Cond.code y_m_limit b_m_limit 7 (some .int) ∈ tb := List.mem_filter.mpr ⟨List.mem_of_getElem? (i := 333) (by rfl), rfl⟩
abbrev b_l_cell : ByteArray := method_2_code
def y_l_cell : MethodName := ⟨R_law, "cell", "([II)I"⟩
theorem z_l_cell : Cond.code y_l_cell b_l_cell 2 (some .int) ∈ tb := List.mem_filter.mpr ⟨List.mem_of_getElem? (i := 233) (by rfl), rfl⟩
end
section
/-! decode rows: pc, the next pc, the instruction (printed by program) -/
def DC (n : Nat) (cc : ByteArray) (pc nx : Nat) (i : Instr) : Prop := decode cc pc = .ok (i, n) ∧ pc + n = nx
def DI (cc : ByteArray) (pc nx tg : Nat) (o : Jvm.ClassFile.Cond) : Prop := ∃ off : Int, decode cc pc = .ok (.if_icmp o off, 3) ∧ (pc : Int) + off = (tg : Int) ∧ pc + 3 = nx
def DF (cc : ByteArray) (pc nx tg : Nat) (o : Jvm.ClassFile.Cond) : Prop := ∃ off : Int, decode cc pc = .ok (.ifCond o off, 3) ∧ (pc : Int) + off = (tg : Int) ∧ pc + 3 = nx
def DG (cc : ByteArray) (pc tg : Nat) : Prop := ∃ off : Int, decode cc pc = .ok (.goto off, 3) ∧ (pc : Int) + off = (tg : Int)
theorem d_d_init_0 : DC 1 b_d_init 0 1 (.aload_n 0) := ⟨by decide +kernel, rfl⟩
theorem d_d_init_1 : DC 3 b_d_init 1 4 (.invokespecial 1) := ⟨by decide +kernel, rfl⟩
theorem d_d_init_4 : DC 1 b_d_init 4 5 (.aload_n 0) := ⟨by decide +kernel, rfl⟩
theorem d_d_init_5 : DC 2 b_d_init 5 7 (.bipush 49) := ⟨by decide +kernel, rfl⟩
theorem d_d_init_7 : DC 2 b_d_init 7 9 (.newarray .byte) := ⟨by decide +kernel, rfl⟩
theorem d_d_init_9 : DC 3 b_d_init 9 12 (.putfield 7) := ⟨by decide +kernel, rfl⟩
theorem d_d_init_12 : DC 1 b_d_init 12 13 (.aload_n 0) := ⟨by decide +kernel, rfl⟩
theorem d_d_init_13 : DC 2 b_d_init 13 15 (.bipush 49) := ⟨by decide +kernel, rfl⟩
theorem d_d_init_15 : DC 2 b_d_init 15 17 (.newarray .byte) := ⟨by decide +kernel, rfl⟩
theorem d_d_init_17 : DC 3 b_d_init 17 20 (.putfield 13) := ⟨by decide +kernel, rfl⟩
theorem d_d_init_20 : DC 1 b_d_init 20 21 (.aload_n 0) := ⟨by decide +kernel, rfl⟩
theorem d_d_init_21 : DC 2 b_d_init 21 23 (.bipush 49) := ⟨by decide +kernel, rfl⟩
theorem d_d_init_23 : DC 2 b_d_init 23 25 (.newarray .byte) := ⟨by decide +kernel, rfl⟩
theorem d_d_init_25 : DC 3 b_d_init 25 28 (.putfield 16) := ⟨by decide +kernel, rfl⟩
theorem d_d_init_28 : DC 1 b_d_init 28 29 (.aload_n 0) := ⟨by decide +kernel, rfl⟩
theorem d_d_init_29 : DC 2 b_d_init 29 31 (.bipush 7) := ⟨by decide +kernel, rfl⟩
theorem d_d_init_31 : DC 2 b_d_init 31 33 (.newarray .int) := ⟨by decide +kernel, rfl⟩
theorem d_d_init_33 : DC 3 b_d_init 33 36 (.putfield 19) := ⟨by decide +kernel, rfl⟩
theorem d_d_init_36 : DC 1 b_d_init 36 37 (.aload_n 0) := ⟨by decide +kernel, rfl⟩
theorem d_d_init_37 : DC 2 b_d_init 37 39 (.bipush 7) := ⟨by decide +kernel, rfl⟩
theorem d_d_init_39 : DC 2 b_d_init 39 41 (.newarray .byte) := ⟨by decide +kernel, rfl⟩
theorem d_d_init_41 : DC 3 b_d_init 41 44 (.putfield 23) := ⟨by decide +kernel, rfl⟩
theorem d_d_init_44 : DC 1 b_d_init 44 45 (.aload_n 0) := ⟨by decide +kernel, rfl⟩
theorem d_d_init_45 : DC 2 b_d_init 45 47 (.bipush 7) := ⟨by decide +kernel, rfl⟩
theorem d_d_init_47 : DC 2 b_d_init 47 49 (.newarray .byte) := ⟨by decide +kernel, rfl⟩
theorem d_d_init_49 : DC 3 b_d_init 49 52 (.putfield 26) := ⟨by decide +kernel, rfl⟩
theorem d_d_init_52 : DC 1 b_d_init 52 53 (.aload_n 0) := ⟨by decide +kernel, rfl⟩
theorem d_d_init_53 : DC 2 b_d_init 53 55 (.bipush 49) := ⟨by decide +kernel, rfl⟩
theorem d_d_init_55 : DC 2 b_d_init 55 57 (.newarray .boolean) := ⟨by decide +kernel, rfl⟩
theorem d_d_init_57 : DC 3 b_d_init 57 60 (.putfield 29) := ⟨by decide +kernel, rfl⟩
theorem d_d_init_60 : DC 1 b_d_init 60 61 (.aload_n 0) := ⟨by decide +kernel, rfl⟩
theorem d_d_init_61 : DC 2 b_d_init 61 63 (.bipush 24) := ⟨by decide +kernel, rfl⟩
theorem d_d_init_63 : DC 2 b_d_init 63 65 (.newarray .byte) := ⟨by decide +kernel, rfl⟩
theorem d_d_init_65 : DC 3 b_d_init 65 68 (.putfield 33) := ⟨by decide +kernel, rfl⟩
theorem d_d_init_68 : DC 1 b_d_init 68 69 (.aload_n 0) := ⟨by decide +kernel, rfl⟩
theorem d_d_init_69 : DC 2 b_d_init 69 71 (.bipush 24) := ⟨by decide +kernel, rfl⟩
theorem d_d_init_71 : DC 2 b_d_init 71 73 (.newarray .boolean) := ⟨by decide +kernel, rfl⟩
theorem d_d_init_73 : DC 3 b_d_init 73 76 (.putfield 36) := ⟨by decide +kernel, rfl⟩
theorem d_d_init_76 : DC 1 b_d_init 76 77 (.aload_n 0) := ⟨by decide +kernel, rfl⟩
theorem d_d_init_77 : DC 2 b_d_init 77 79 (.bipush 7) := ⟨by decide +kernel, rfl⟩
theorem d_d_init_79 : DC 2 b_d_init 79 81 (.newarray .byte) := ⟨by decide +kernel, rfl⟩
theorem d_d_init_81 : DC 3 b_d_init 81 84 (.putfield 39) := ⟨by decide +kernel, rfl⟩
theorem d_d_init_84 : DC 1 b_d_init 84 85 (.aload_n 0) := ⟨by decide +kernel, rfl⟩
theorem d_d_init_85 : DC 1 b_d_init 85 86 (.iload_n 1) := ⟨by decide +kernel, rfl⟩
theorem d_d_init_86 : DC 1 b_d_init 86 87 (.iconst 3) := ⟨by decide +kernel, rfl⟩
theorem d_d_init_87 : DI b_d_init 87 90 94 .ge := ⟨7, by decide +kernel, by decide, rfl⟩
theorem d_d_init_90 : DC 1 b_d_init 90 91 (.iconst 3) := ⟨by decide +kernel, rfl⟩
theorem d_d_init_91 : DG b_d_init 91 106 := ⟨15, by decide +kernel, by decide⟩
theorem d_d_init_94 : DC 1 b_d_init 94 95 (.iload_n 1) := ⟨by decide +kernel, rfl⟩
theorem d_d_init_95 : DC 2 b_d_init 95 97 (.bipush 7) := ⟨by decide +kernel, rfl⟩
theorem d_d_init_97 : DI b_d_init 97 100 105 .le := ⟨8, by decide +kernel, by decide, rfl⟩
theorem d_d_init_100 : DC 2 b_d_init 100 102 (.bipush 7) := ⟨by decide +kernel, rfl⟩
theorem d_d_init_102 : DG b_d_init 102 106 := ⟨4, by decide +kernel, by decide⟩
theorem d_d_init_105 : DC 1 b_d_init 105 106 (.iload_n 1) := ⟨by decide +kernel, rfl⟩
theorem d_d_init_106 : DC 3 b_d_init 106 109 (.putfield 42) := ⟨by decide +kernel, rfl⟩
theorem d_d_init_109 : DC 1 b_d_init 109 110 (.iload_n 2) := ⟨by decide +kernel, rfl⟩
theorem d_d_init_110 : DF b_d_init 110 113 117 .ge := ⟨7, by decide +kernel, by decide, rfl⟩
theorem d_d_init_113 : DC 1 b_d_init 113 114 (.iconst 0) := ⟨by decide +kernel, rfl⟩
theorem d_d_init_114 : DG b_d_init 114 129 := ⟨15, by decide +kernel, by decide⟩
theorem d_d_init_117 : DC 1 b_d_init 117 118 (.iload_n 2) := ⟨by decide +kernel, rfl⟩
theorem d_d_init_118 : DC 2 b_d_init 118 120 (.bipush 99) := ⟨by decide +kernel, rfl⟩
theorem d_d_init_120 : DI b_d_init 120 123 128 .le := ⟨8, by decide +kernel, by decide, rfl⟩
theorem d_d_init_123 : DC 2 b_d_init 123 125 (.bipush 99) := ⟨by decide +kernel, rfl⟩
theorem d_d_init_125 : DG b_d_init 125 129 := ⟨4, by decide +kernel, by decide⟩
theorem d_d_init_128 : DC 1 b_d_init 128 129 (.iload_n 2) := ⟨by decide +kernel, rfl⟩
theorem d_d_init_129 : DC 1 b_d_init 129 130 (.istore_n 3) := ⟨by decide +kernel, rfl⟩
theorem d_d_init_130 : DC 1 b_d_init 130 131 (.iconst 0) := ⟨by decide +kernel, rfl⟩
theorem d_d_init_131 : DC 2 b_d_init 131 133 (.istore 4) := ⟨by decide +kernel, rfl⟩
theorem d_d_init_133 : DC 2 b_d_init 133 135 (.iload 4) := ⟨by decide +kernel, rfl⟩
theorem d_d_init_135 : DC 2 b_d_init 135 137 (.bipush 49) := ⟨by decide +kernel, rfl⟩
theorem d_d_init_137 : DI b_d_init 137 140 155 .ge := ⟨18, by decide +kernel, by decide, rfl⟩
theorem d_d_init_140 : DC 1 b_d_init 140 141 (.aload_n 0) := ⟨by decide +kernel, rfl⟩
theorem d_d_init_141 : DC 3 b_d_init 141 144 (.getfield 7) := ⟨by decide +kernel, rfl⟩
theorem d_d_init_144 : DC 2 b_d_init 144 146 (.iload 4) := ⟨by decide +kernel, rfl⟩
theorem d_d_init_146 : DC 1 b_d_init 146 147 (.iload_n 3) := ⟨by decide +kernel, rfl⟩
theorem d_d_init_147 : DC 1 b_d_init 147 148 (.i2b) := ⟨by decide +kernel, rfl⟩
theorem d_d_init_148 : DC 1 b_d_init 148 149 (.bastore) := ⟨by decide +kernel, rfl⟩
theorem d_d_init_149 : DC 3 b_d_init 149 152 (.iinc 4 1) := ⟨by decide +kernel, rfl⟩
theorem d_d_init_152 : DG b_d_init 152 133 := ⟨-19, by decide +kernel, by decide⟩
theorem d_d_init_155 : DC 1 b_d_init 155 156 (.return_) := ⟨by decide +kernel, rfl⟩
theorem d_d_isLink_0 : DC 1 b_d_isLink 0 1 (.iload_n 1) := ⟨by decide +kernel, rfl⟩
theorem d_d_isLink_1 : DF b_d_isLink 1 4 33 .lt := ⟨32, by decide +kernel, by decide, rfl⟩
theorem d_d_isLink_4 : DC 1 b_d_isLink 4 5 (.iload_n 1) := ⟨by decide +kernel, rfl⟩
theorem d_d_isLink_5 : DC 1 b_d_isLink 5 6 (.aload_n 0) := ⟨by decide +kernel, rfl⟩
theorem d_d_isLink_6 : DC 3 b_d_isLink 6 9 (.getfield 42) := ⟨by decide +kernel, rfl⟩
theorem d_d_isLink_9 : DI b_d_isLink 9 12 33 .ge := ⟨24, by decide +kernel, by decide, rfl⟩
theorem d_d_isLink_12 : DC 1 b_d_isLink 12 13 (.iload_n 2) := ⟨by decide +kernel, rfl⟩
theorem d_d_isLink_13 : DF b_d_isLink 13 16 33 .lt := ⟨20, by decide +kernel, by decide, rfl⟩
theorem d_d_isLink_16 : DC 1 b_d_isLink 16 17 (.iload_n 2) := ⟨by decide +kernel, rfl⟩
theorem d_d_isLink_17 : DC 1 b_d_isLink 17 18 (.aload_n 0) := ⟨by decide +kernel, rfl⟩
theorem d_d_isLink_18 : DC 3 b_d_isLink 18 21 (.getfield 42) := ⟨by decide +kernel, rfl⟩
theorem d_d_isLink_21 : DI b_d_isLink 21 24 33 .ge := ⟨12, by decide +kernel, by decide, rfl⟩
theorem d_d_isLink_24 : DC 1 b_d_isLink 24 25 (.iload_n 1) := ⟨by decide +kernel, rfl⟩
theorem d_d_isLink_25 : DC 1 b_d_isLink 25 26 (.iload_n 2) := ⟨by decide +kernel, rfl⟩
theorem d_d_isLink_26 : DI b_d_isLink 26 29 33 .eq := ⟨7, by decide +kernel, by decide, rfl⟩
theorem d_d_isLink_29 : DC 1 b_d_isLink 29 30 (.iconst 1) := ⟨by decide +kernel, rfl⟩
theorem d_d_isLink_30 : DG b_d_isLink 30 34 := ⟨4, by decide +kernel, by decide⟩
theorem d_d_isLink_33 : DC 1 b_d_isLink 33 34 (.iconst 0) := ⟨by decide +kernel, rfl⟩
theorem d_d_isLink_34 : DC 1 b_d_isLink 34 35 (.ireturn) := ⟨by decide +kernel, rfl⟩
theorem d_d_setLength_0 : DC 1 b_d_setLength 0 1 (.aload_n 0) := ⟨by decide +kernel, rfl⟩
theorem d_d_setLength_1 : DC 1 b_d_setLength 1 2 (.iload_n 1) := ⟨by decide +kernel, rfl⟩
theorem d_d_setLength_2 : DC 1 b_d_setLength 2 3 (.iload_n 2) := ⟨by decide +kernel, rfl⟩
theorem d_d_setLength_3 : DC 3 b_d_setLength 3 6 (.invokevirtual 46) := ⟨by decide +kernel, rfl⟩
theorem d_d_setLength_6 : DF b_d_setLength 6 9 19 .eq := ⟨13, by decide +kernel, by decide, rfl⟩
theorem d_d_setLength_9 : DC 1 b_d_setLength 9 10 (.iload_n 3) := ⟨by decide +kernel, rfl⟩
theorem d_d_setLength_10 : DF b_d_setLength 10 13 19 .lt := ⟨9, by decide +kernel, by decide, rfl⟩
theorem d_d_setLength_13 : DC 1 b_d_setLength 13 14 (.iload_n 3) := ⟨by decide +kernel, rfl⟩
theorem d_d_setLength_14 : DC 2 b_d_setLength 14 16 (.bipush 99) := ⟨by decide +kernel, rfl⟩
theorem d_d_setLength_16 : DI b_d_setLength 16 19 21 .le := ⟨5, by decide +kernel, by decide, rfl⟩
theorem d_d_setLength_19 : DC 1 b_d_setLength 19 20 (.iconst 0) := ⟨by decide +kernel, rfl⟩
theorem d_d_setLength_20 : DC 1 b_d_setLength 20 21 (.ireturn) := ⟨by decide +kernel, rfl⟩
theorem d_d_setLength_21 : DC 1 b_d_setLength 21 22 (.aload_n 0) := ⟨by decide +kernel, rfl⟩
theorem d_d_setLength_22 : DC 1 b_d_setLength 22 23 (.iload_n 1) := ⟨by decide +kernel, rfl⟩
theorem d_d_setLength_23 : DC 1 b_d_setLength 23 24 (.iload_n 2) := ⟨by decide +kernel, rfl⟩
theorem d_d_setLength_24 : DC 1 b_d_setLength 24 25 (.iload_n 3) := ⟨by decide +kernel, rfl⟩
theorem d_d_setLength_25 : DC 3 b_d_setLength 25 28 (.invokevirtual 50) := ⟨by decide +kernel, rfl⟩
theorem d_d_setLength_28 : DC 1 b_d_setLength 28 29 (.iconst 1) := ⟨by decide +kernel, rfl⟩
theorem d_d_setLength_29 : DC 1 b_d_setLength 29 30 (.ireturn) := ⟨by decide +kernel, rfl⟩
theorem d_d_putLength_0 : DC 1 b_d_putLength 0 1 (.aload_n 0) := ⟨by decide +kernel, rfl⟩
theorem d_d_putLength_1 : DC 3 b_d_putLength 1 4 (.getfield 7) := ⟨by decide +kernel, rfl⟩
theorem d_d_putLength_4 : DC 1 b_d_putLength 4 5 (.iload_n 1) := ⟨by decide +kernel, rfl⟩
theorem d_d_putLength_5 : DC 2 b_d_putLength 5 7 (.bipush 7) := ⟨by decide +kernel, rfl⟩
theorem d_d_putLength_7 : DC 1 b_d_putLength 7 8 (.imul) := ⟨by decide +kernel, rfl⟩
theorem d_d_putLength_8 : DC 1 b_d_putLength 8 9 (.iload_n 2) := ⟨by decide +kernel, rfl⟩
theorem d_d_putLength_9 : DC 1 b_d_putLength 9 10 (.iadd) := ⟨by decide +kernel, rfl⟩
theorem d_d_putLength_10 : DC 1 b_d_putLength 10 11 (.iload_n 3) := ⟨by decide +kernel, rfl⟩
theorem d_d_putLength_11 : DC 1 b_d_putLength 11 12 (.i2b) := ⟨by decide +kernel, rfl⟩
theorem d_d_putLength_12 : DC 1 b_d_putLength 12 13 (.bastore) := ⟨by decide +kernel, rfl⟩
theorem d_d_putLength_13 : DC 1 b_d_putLength 13 14 (.aload_n 0) := ⟨by decide +kernel, rfl⟩
theorem d_d_putLength_14 : DC 3 b_d_putLength 14 17 (.getfield 7) := ⟨by decide +kernel, rfl⟩
theorem d_d_putLength_17 : DC 1 b_d_putLength 17 18 (.iload_n 2) := ⟨by decide +kernel, rfl⟩
theorem d_d_putLength_18 : DC 2 b_d_putLength 18 20 (.bipush 7) := ⟨by decide +kernel, rfl⟩
theorem d_d_putLength_20 : DC 1 b_d_putLength 20 21 (.imul) := ⟨by decide +kernel, rfl⟩
theorem d_d_putLength_21 : DC 1 b_d_putLength 21 22 (.iload_n 1) := ⟨by decide +kernel, rfl⟩
theorem d_d_putLength_22 : DC 1 b_d_putLength 22 23 (.iadd) := ⟨by decide +kernel, rfl⟩
theorem d_d_putLength_23 : DC 1 b_d_putLength 23 24 (.iload_n 3) := ⟨by decide +kernel, rfl⟩
theorem d_d_putLength_24 : DC 1 b_d_putLength 24 25 (.i2b) := ⟨by decide +kernel, rfl⟩
theorem d_d_putLength_25 : DC 1 b_d_putLength 25 26 (.bastore) := ⟨by decide +kernel, rfl⟩
theorem d_d_putLength_26 : DC 1 b_d_putLength 26 27 (.aload_n 0) := ⟨by decide +kernel, rfl⟩
theorem d_d_putLength_27 : DC 1 b_d_putLength 27 28 (.iconst 0) := ⟨by decide +kernel, rfl⟩
theorem d_d_putLength_28 : DC 3 b_d_putLength 28 31 (.putfield 54) := ⟨by decide +kernel, rfl⟩
theorem d_d_putLength_31 : DC 1 b_d_putLength 31 32 (.return_) := ⟨by decide +kernel, rfl⟩
theorem d_d_setRule_0 : DC 1 b_d_setRule 0 1 (.aload_n 0) := ⟨by decide +kernel, rfl⟩
theorem d_d_setRule_1 : DC 1 b_d_setRule 1 2 (.iload_n 1) := ⟨by decide +kernel, rfl⟩
theorem d_d_setRule_2 : DC 1 b_d_setRule 2 3 (.iload_n 2) := ⟨by decide +kernel, rfl⟩
theorem d_d_setRule_3 : DC 3 b_d_setRule 3 6 (.invokevirtual 46) := ⟨by decide +kernel, rfl⟩
theorem d_d_setRule_6 : DF b_d_setRule 6 9 18 .eq := ⟨12, by decide +kernel, by decide, rfl⟩
theorem d_d_setRule_9 : DC 1 b_d_setRule 9 10 (.iload_n 3) := ⟨by decide +kernel, rfl⟩
theorem d_d_setRule_10 : DF b_d_setRule 10 13 18 .lt := ⟨8, by decide +kernel, by decide, rfl⟩
theorem d_d_setRule_13 : DC 1 b_d_setRule 13 14 (.iload_n 3) := ⟨by decide +kernel, rfl⟩
theorem d_d_setRule_14 : DC 1 b_d_setRule 14 15 (.iconst 2) := ⟨by decide +kernel, rfl⟩
theorem d_d_setRule_15 : DI b_d_setRule 15 18 20 .le := ⟨5, by decide +kernel, by decide, rfl⟩
theorem d_d_setRule_18 : DC 1 b_d_setRule 18 19 (.iconst 0) := ⟨by decide +kernel, rfl⟩
theorem d_d_setRule_19 : DC 1 b_d_setRule 19 20 (.ireturn) := ⟨by decide +kernel, rfl⟩
theorem d_d_setRule_20 : DC 1 b_d_setRule 20 21 (.aload_n 0) := ⟨by decide +kernel, rfl⟩
theorem d_d_setRule_21 : DC 3 b_d_setRule 21 24 (.getfield 13) := ⟨by decide +kernel, rfl⟩
theorem d_d_setRule_24 : DC 1 b_d_setRule 24 25 (.iload_n 1) := ⟨by decide +kernel, rfl⟩
theorem d_d_setRule_25 : DC 2 b_d_setRule 25 27 (.bipush 7) := ⟨by decide +kernel, rfl⟩
theorem d_d_setRule_27 : DC 1 b_d_setRule 27 28 (.imul) := ⟨by decide +kernel, rfl⟩
theorem d_d_setRule_28 : DC 1 b_d_setRule 28 29 (.iload_n 2) := ⟨by decide +kernel, rfl⟩
theorem d_d_setRule_29 : DC 1 b_d_setRule 29 30 (.iadd) := ⟨by decide +kernel, rfl⟩
theorem d_d_setRule_30 : DC 1 b_d_setRule 30 31 (.iload_n 3) := ⟨by decide +kernel, rfl⟩
theorem d_d_setRule_31 : DC 1 b_d_setRule 31 32 (.i2b) := ⟨by decide +kernel, rfl⟩
theorem d_d_setRule_32 : DC 1 b_d_setRule 32 33 (.bastore) := ⟨by decide +kernel, rfl⟩
theorem d_d_setRule_33 : DC 1 b_d_setRule 33 34 (.aload_n 0) := ⟨by decide +kernel, rfl⟩
theorem d_d_setRule_34 : DC 3 b_d_setRule 34 37 (.getfield 13) := ⟨by decide +kernel, rfl⟩
theorem d_d_setRule_37 : DC 1 b_d_setRule 37 38 (.iload_n 2) := ⟨by decide +kernel, rfl⟩
theorem d_d_setRule_38 : DC 2 b_d_setRule 38 40 (.bipush 7) := ⟨by decide +kernel, rfl⟩
theorem d_d_setRule_40 : DC 1 b_d_setRule 40 41 (.imul) := ⟨by decide +kernel, rfl⟩
theorem d_d_setRule_41 : DC 1 b_d_setRule 41 42 (.iload_n 1) := ⟨by decide +kernel, rfl⟩
theorem d_d_setRule_42 : DC 1 b_d_setRule 42 43 (.iadd) := ⟨by decide +kernel, rfl⟩
theorem d_d_setRule_43 : DC 1 b_d_setRule 43 44 (.iload_n 3) := ⟨by decide +kernel, rfl⟩
theorem d_d_setRule_44 : DC 1 b_d_setRule 44 45 (.i2b) := ⟨by decide +kernel, rfl⟩
theorem d_d_setRule_45 : DC 1 b_d_setRule 45 46 (.bastore) := ⟨by decide +kernel, rfl⟩
theorem d_d_setRule_46 : DC 1 b_d_setRule 46 47 (.aload_n 0) := ⟨by decide +kernel, rfl⟩
theorem d_d_setRule_47 : DC 1 b_d_setRule 47 48 (.iconst 0) := ⟨by decide +kernel, rfl⟩
theorem d_d_setRule_48 : DC 3 b_d_setRule 48 51 (.putfield 54) := ⟨by decide +kernel, rfl⟩
theorem d_d_setRule_51 : DC 1 b_d_setRule 51 52 (.iconst 1) := ⟨by decide +kernel, rfl⟩
theorem d_d_setRule_52 : DC 1 b_d_setRule 52 53 (.ireturn) := ⟨by decide +kernel, rfl⟩
theorem d_d_shift_0 : DC 1 b_d_shift 0 1 (.iload_n 1) := ⟨by decide +kernel, rfl⟩
theorem d_d_shift_1 : DF b_d_shift 1 4 24 .lt := ⟨23, by decide +kernel, by decide, rfl⟩
theorem d_d_shift_4 : DC 1 b_d_shift 4 5 (.iload_n 1) := ⟨by decide +kernel, rfl⟩
theorem d_d_shift_5 : DC 1 b_d_shift 5 6 (.aload_n 0) := ⟨by decide +kernel, rfl⟩
theorem d_d_shift_6 : DC 3 b_d_shift 6 9 (.getfield 42) := ⟨by decide +kernel, rfl⟩
theorem d_d_shift_9 : DI b_d_shift 9 12 24 .ge := ⟨15, by decide +kernel, by decide, rfl⟩
theorem d_d_shift_12 : DC 1 b_d_shift 12 13 (.iload_n 2) := ⟨by decide +kernel, rfl⟩
theorem d_d_shift_13 : DC 2 b_d_shift 13 15 (.bipush (-99)) := ⟨by decide +kernel, rfl⟩
theorem d_d_shift_15 : DI b_d_shift 15 18 24 .lt := ⟨9, by decide +kernel, by decide, rfl⟩
theorem d_d_shift_18 : DC 1 b_d_shift 18 19 (.iload_n 2) := ⟨by decide +kernel, rfl⟩
theorem d_d_shift_19 : DC 2 b_d_shift 19 21 (.bipush 99) := ⟨by decide +kernel, rfl⟩
theorem d_d_shift_21 : DI b_d_shift 21 24 26 .le := ⟨5, by decide +kernel, by decide, rfl⟩
theorem d_d_shift_24 : DC 1 b_d_shift 24 25 (.iconst (-1)) := ⟨by decide +kernel, rfl⟩
theorem d_d_shift_25 : DC 1 b_d_shift 25 26 (.ireturn) := ⟨by decide +kernel, rfl⟩
theorem d_d_shift_26 : DC 1 b_d_shift 26 27 (.iconst 0) := ⟨by decide +kernel, rfl⟩
theorem d_d_shift_27 : DC 1 b_d_shift 27 28 (.istore_n 3) := ⟨by decide +kernel, rfl⟩
theorem d_d_shift_28 : DC 1 b_d_shift 28 29 (.iconst 0) := ⟨by decide +kernel, rfl⟩
theorem d_d_shift_29 : DC 2 b_d_shift 29 31 (.istore 4) := ⟨by decide +kernel, rfl⟩
theorem d_d_shift_31 : DC 2 b_d_shift 31 33 (.iload 4) := ⟨by decide +kernel, rfl⟩
theorem d_d_shift_33 : DC 1 b_d_shift 33 34 (.aload_n 0) := ⟨by decide +kernel, rfl⟩
theorem d_d_shift_34 : DC 3 b_d_shift 34 37 (.getfield 42) := ⟨by decide +kernel, rfl⟩
theorem d_d_shift_37 : DI b_d_shift 37 40 92 .ge := ⟨55, by decide +kernel, by decide, rfl⟩
theorem d_d_shift_40 : DC 1 b_d_shift 40 41 (.aload_n 0) := ⟨by decide +kernel, rfl⟩
theorem d_d_shift_41 : DC 3 b_d_shift 41 44 (.getfield 7) := ⟨by decide +kernel, rfl⟩
theorem d_d_shift_44 : DC 1 b_d_shift 44 45 (.iload_n 1) := ⟨by decide +kernel, rfl⟩
theorem d_d_shift_45 : DC 2 b_d_shift 45 47 (.bipush 7) := ⟨by decide +kernel, rfl⟩
theorem d_d_shift_47 : DC 1 b_d_shift 47 48 (.imul) := ⟨by decide +kernel, rfl⟩
theorem d_d_shift_48 : DC 2 b_d_shift 48 50 (.iload 4) := ⟨by decide +kernel, rfl⟩
theorem d_d_shift_50 : DC 1 b_d_shift 50 51 (.iadd) := ⟨by decide +kernel, rfl⟩
theorem d_d_shift_51 : DC 1 b_d_shift 51 52 (.baload) := ⟨by decide +kernel, rfl⟩
theorem d_d_shift_52 : DC 1 b_d_shift 52 53 (.iload_n 2) := ⟨by decide +kernel, rfl⟩
theorem d_d_shift_53 : DC 1 b_d_shift 53 54 (.iadd) := ⟨by decide +kernel, rfl⟩
theorem d_d_shift_54 : DC 2 b_d_shift 54 56 (.istore 5) := ⟨by decide +kernel, rfl⟩
theorem d_d_shift_56 : DC 2 b_d_shift 56 58 (.iload 4) := ⟨by decide +kernel, rfl⟩
theorem d_d_shift_58 : DC 1 b_d_shift 58 59 (.iload_n 1) := ⟨by decide +kernel, rfl⟩
theorem d_d_shift_59 : DI b_d_shift 59 62 86 .eq := ⟨27, by decide +kernel, by decide, rfl⟩
theorem d_d_shift_62 : DC 2 b_d_shift 62 64 (.iload 5) := ⟨by decide +kernel, rfl⟩
theorem d_d_shift_64 : DF b_d_shift 64 67 86 .lt := ⟨22, by decide +kernel, by decide, rfl⟩
theorem d_d_shift_67 : DC 2 b_d_shift 67 69 (.iload 5) := ⟨by decide +kernel, rfl⟩
theorem d_d_shift_69 : DC 2 b_d_shift 69 71 (.bipush 99) := ⟨by decide +kernel, rfl⟩
theorem d_d_shift_71 : DI b_d_shift 71 74 86 .gt := ⟨15, by decide +kernel, by decide, rfl⟩
theorem d_d_shift_74 : DC 1 b_d_shift 74 75 (.aload_n 0) := ⟨by decide +kernel, rfl⟩
theorem d_d_shift_75 : DC 1 b_d_shift 75 76 (.iload_n 1) := ⟨by decide +kernel, rfl⟩
theorem d_d_shift_76 : DC 2 b_d_shift 76 78 (.iload 4) := ⟨by decide +kernel, rfl⟩
theorem d_d_shift_78 : DC 2 b_d_shift 78 80 (.iload 5) := ⟨by decide +kernel, rfl⟩
theorem d_d_shift_80 : DC 3 b_d_shift 80 83 (.invokevirtual 50) := ⟨by decide +kernel, rfl⟩
theorem d_d_shift_83 : DC 3 b_d_shift 83 86 (.iinc 3 1) := ⟨by decide +kernel, rfl⟩
theorem d_d_shift_86 : DC 3 b_d_shift 86 89 (.iinc 4 1) := ⟨by decide +kernel, rfl⟩
theorem d_d_shift_89 : DG b_d_shift 89 31 := ⟨-58, by decide +kernel, by decide⟩
theorem d_d_shift_92 : DC 1 b_d_shift 92 93 (.iload_n 3) := ⟨by decide +kernel, rfl⟩
theorem d_d_shift_93 : DC 1 b_d_shift 93 94 (.ireturn) := ⟨by decide +kernel, rfl⟩
theorem d_d_length_0 : DC 1 b_d_length 0 1 (.aload_n 0) := ⟨by decide +kernel, rfl⟩
theorem d_d_length_1 : DC 1 b_d_length 1 2 (.iload_n 1) := ⟨by decide +kernel, rfl⟩
theorem d_d_length_2 : DC 1 b_d_length 2 3 (.iload_n 2) := ⟨by decide +kernel, rfl⟩
theorem d_d_length_3 : DC 3 b_d_length 3 6 (.invokevirtual 46) := ⟨by decide +kernel, rfl⟩
theorem d_d_length_6 : DF b_d_length 6 9 23 .eq := ⟨17, by decide +kernel, by decide, rfl⟩
theorem d_d_length_9 : DC 1 b_d_length 9 10 (.aload_n 0) := ⟨by decide +kernel, rfl⟩
theorem d_d_length_10 : DC 3 b_d_length 10 13 (.getfield 7) := ⟨by decide +kernel, rfl⟩
theorem d_d_length_13 : DC 1 b_d_length 13 14 (.iload_n 1) := ⟨by decide +kernel, rfl⟩
theorem d_d_length_14 : DC 2 b_d_length 14 16 (.bipush 7) := ⟨by decide +kernel, rfl⟩
theorem d_d_length_16 : DC 1 b_d_length 16 17 (.imul) := ⟨by decide +kernel, rfl⟩
theorem d_d_length_17 : DC 1 b_d_length 17 18 (.iload_n 2) := ⟨by decide +kernel, rfl⟩
theorem d_d_length_18 : DC 1 b_d_length 18 19 (.iadd) := ⟨by decide +kernel, rfl⟩
theorem d_d_length_19 : DC 1 b_d_length 19 20 (.baload) := ⟨by decide +kernel, rfl⟩
theorem d_d_length_20 : DG b_d_length 20 24 := ⟨4, by decide +kernel, by decide⟩
theorem d_d_length_23 : DC 1 b_d_length 23 24 (.iconst (-1)) := ⟨by decide +kernel, rfl⟩
theorem d_d_length_24 : DC 1 b_d_length 24 25 (.ireturn) := ⟨by decide +kernel, rfl⟩
theorem d_d_rule_0 : DC 1 b_d_rule 0 1 (.aload_n 0) := ⟨by decide +kernel, rfl⟩
theorem d_d_rule_1 : DC 1 b_d_rule 1 2 (.iload_n 1) := ⟨by decide +kernel, rfl⟩
theorem d_d_rule_2 : DC 1 b_d_rule 2 3 (.iload_n 2) := ⟨by decide +kernel, rfl⟩
theorem d_d_rule_3 : DC 3 b_d_rule 3 6 (.invokevirtual 46) := ⟨by decide +kernel, rfl⟩
theorem d_d_rule_6 : DF b_d_rule 6 9 23 .eq := ⟨17, by decide +kernel, by decide, rfl⟩
theorem d_d_rule_9 : DC 1 b_d_rule 9 10 (.aload_n 0) := ⟨by decide +kernel, rfl⟩
theorem d_d_rule_10 : DC 3 b_d_rule 10 13 (.getfield 13) := ⟨by decide +kernel, rfl⟩
theorem d_d_rule_13 : DC 1 b_d_rule 13 14 (.iload_n 1) := ⟨by decide +kernel, rfl⟩
theorem d_d_rule_14 : DC 2 b_d_rule 14 16 (.bipush 7) := ⟨by decide +kernel, rfl⟩
theorem d_d_rule_16 : DC 1 b_d_rule 16 17 (.imul) := ⟨by decide +kernel, rfl⟩
theorem d_d_rule_17 : DC 1 b_d_rule 17 18 (.iload_n 2) := ⟨by decide +kernel, rfl⟩
theorem d_d_rule_18 : DC 1 b_d_rule 18 19 (.iadd) := ⟨by decide +kernel, rfl⟩
theorem d_d_rule_19 : DC 1 b_d_rule 19 20 (.baload) := ⟨by decide +kernel, rfl⟩
theorem d_d_rule_20 : DG b_d_rule 20 24 := ⟨4, by decide +kernel, by decide⟩
theorem d_d_rule_23 : DC 1 b_d_rule 23 24 (.iconst (-1)) := ⟨by decide +kernel, rfl⟩
theorem d_d_rule_24 : DC 1 b_d_rule 24 25 (.ireturn) := ⟨by decide +kernel, rfl⟩
theorem d_d_best_0 : DC 1 b_d_best 0 1 (.aload_n 0) := ⟨by decide +kernel, rfl⟩
theorem d_d_best_1 : DC 3 b_d_best 1 4 (.invokevirtual 58) := ⟨by decide +kernel, rfl⟩
theorem d_d_best_4 : DC 1 b_d_best 4 5 (.aload_n 0) := ⟨by decide +kernel, rfl⟩
theorem d_d_best_5 : DC 3 b_d_best 5 8 (.getfield 61) := ⟨by decide +kernel, rfl⟩
theorem d_d_best_8 : DC 1 b_d_best 8 9 (.ireturn) := ⟨by decide +kernel, rfl⟩
theorem d_d_cityAt_0 : DC 1 b_d_cityAt 0 1 (.aload_n 0) := ⟨by decide +kernel, rfl⟩
theorem d_d_cityAt_1 : DC 3 b_d_cityAt 1 4 (.invokevirtual 58) := ⟨by decide +kernel, rfl⟩
theorem d_d_cityAt_4 : DC 1 b_d_cityAt 4 5 (.aload_n 0) := ⟨by decide +kernel, rfl⟩
theorem d_d_cityAt_5 : DC 3 b_d_cityAt 5 8 (.getfield 61) := ⟨by decide +kernel, rfl⟩
theorem d_d_cityAt_8 : DF b_d_cityAt 8 11 23 .lt := ⟨15, by decide +kernel, by decide, rfl⟩
theorem d_d_cityAt_11 : DC 1 b_d_cityAt 11 12 (.iload_n 1) := ⟨by decide +kernel, rfl⟩
theorem d_d_cityAt_12 : DF b_d_cityAt 12 15 23 .lt := ⟨11, by decide +kernel, by decide, rfl⟩
theorem d_d_cityAt_15 : DC 1 b_d_cityAt 15 16 (.iload_n 1) := ⟨by decide +kernel, rfl⟩
theorem d_d_cityAt_16 : DC 1 b_d_cityAt 16 17 (.aload_n 0) := ⟨by decide +kernel, rfl⟩
theorem d_d_cityAt_17 : DC 3 b_d_cityAt 17 20 (.getfield 42) := ⟨by decide +kernel, rfl⟩
theorem d_d_cityAt_20 : DI b_d_cityAt 20 23 25 .lt := ⟨5, by decide +kernel, by decide, rfl⟩
theorem d_d_cityAt_23 : DC 1 b_d_cityAt 23 24 (.iconst (-1)) := ⟨by decide +kernel, rfl⟩
theorem d_d_cityAt_24 : DC 1 b_d_cityAt 24 25 (.ireturn) := ⟨by decide +kernel, rfl⟩
theorem d_d_cityAt_25 : DC 1 b_d_cityAt 25 26 (.aload_n 0) := ⟨by decide +kernel, rfl⟩
theorem d_d_cityAt_26 : DC 3 b_d_cityAt 26 29 (.getfield 39) := ⟨by decide +kernel, rfl⟩
theorem d_d_cityAt_29 : DC 1 b_d_cityAt 29 30 (.iload_n 1) := ⟨by decide +kernel, rfl⟩
theorem d_d_cityAt_30 : DC 1 b_d_cityAt 30 31 (.baload) := ⟨by decide +kernel, rfl⟩
theorem d_d_cityAt_31 : DC 1 b_d_cityAt 31 32 (.ireturn) := ⟨by decide +kernel, rfl⟩
theorem d_d_bestWith_0 : DC 1 b_d_bestWith 0 1 (.aload_n 0) := ⟨by decide +kernel, rfl⟩
theorem d_d_bestWith_1 : DC 1 b_d_bestWith 1 2 (.iload_n 1) := ⟨by decide +kernel, rfl⟩
theorem d_d_bestWith_2 : DC 1 b_d_bestWith 2 3 (.iload_n 2) := ⟨by decide +kernel, rfl⟩
theorem d_d_bestWith_3 : DC 3 b_d_bestWith 3 6 (.invokevirtual 46) := ⟨by decide +kernel, rfl⟩
theorem d_d_bestWith_6 : DF b_d_bestWith 6 9 24 .eq := ⟨18, by decide +kernel, by decide, rfl⟩
theorem d_d_bestWith_9 : DC 1 b_d_bestWith 9 10 (.aload_n 0) := ⟨by decide +kernel, rfl⟩
theorem d_d_bestWith_10 : DC 3 b_d_bestWith 10 13 (.getfield 13) := ⟨by decide +kernel, rfl⟩
theorem d_d_bestWith_13 : DC 1 b_d_bestWith 13 14 (.iload_n 1) := ⟨by decide +kernel, rfl⟩
theorem d_d_bestWith_14 : DC 2 b_d_bestWith 14 16 (.bipush 7) := ⟨by decide +kernel, rfl⟩
theorem d_d_bestWith_16 : DC 1 b_d_bestWith 16 17 (.imul) := ⟨by decide +kernel, rfl⟩
theorem d_d_bestWith_17 : DC 1 b_d_bestWith 17 18 (.iload_n 2) := ⟨by decide +kernel, rfl⟩
theorem d_d_bestWith_18 : DC 1 b_d_bestWith 18 19 (.iadd) := ⟨by decide +kernel, rfl⟩
theorem d_d_bestWith_19 : DC 1 b_d_bestWith 19 20 (.baload) := ⟨by decide +kernel, rfl⟩
theorem d_d_bestWith_20 : DC 1 b_d_bestWith 20 21 (.iconst 2) := ⟨by decide +kernel, rfl⟩
theorem d_d_bestWith_21 : DI b_d_bestWith 21 24 26 .ne := ⟨5, by decide +kernel, by decide, rfl⟩
theorem d_d_bestWith_24 : DC 1 b_d_bestWith 24 25 (.iconst (-1)) := ⟨by decide +kernel, rfl⟩
theorem d_d_bestWith_25 : DC 1 b_d_bestWith 25 26 (.ireturn) := ⟨by decide +kernel, rfl⟩
theorem d_d_bestWith_26 : DC 1 b_d_bestWith 26 27 (.aload_n 0) := ⟨by decide +kernel, rfl⟩
theorem d_d_bestWith_27 : DC 3 b_d_bestWith 27 30 (.invokevirtual 64) := ⟨by decide +kernel, rfl⟩
theorem d_d_bestWith_30 : DC 1 b_d_bestWith 30 31 (.aload_n 0) := ⟨by decide +kernel, rfl⟩
theorem d_d_bestWith_31 : DC 1 b_d_bestWith 31 32 (.iload_n 1) := ⟨by decide +kernel, rfl⟩
theorem d_d_bestWith_32 : DC 1 b_d_bestWith 32 33 (.iload_n 2) := ⟨by decide +kernel, rfl⟩
theorem d_d_bestWith_33 : DC 1 b_d_bestWith 33 34 (.iconst 1) := ⟨by decide +kernel, rfl⟩
theorem d_d_bestWith_34 : DC 3 b_d_bestWith 34 37 (.invokevirtual 67) := ⟨by decide +kernel, rfl⟩
theorem d_d_bestWith_37 : DC 1 b_d_bestWith 37 38 (.aload_n 0) := ⟨by decide +kernel, rfl⟩
theorem d_d_bestWith_38 : DC 3 b_d_bestWith 38 41 (.invokevirtual 70) := ⟨by decide +kernel, rfl⟩
theorem d_d_bestWith_41 : DC 1 b_d_bestWith 41 42 (.ireturn) := ⟨by decide +kernel, rfl⟩
theorem d_d_bestWithout_0 : DC 1 b_d_bestWithout 0 1 (.aload_n 0) := ⟨by decide +kernel, rfl⟩
theorem d_d_bestWithout_1 : DC 1 b_d_bestWithout 1 2 (.iload_n 1) := ⟨by decide +kernel, rfl⟩
theorem d_d_bestWithout_2 : DC 1 b_d_bestWithout 2 3 (.iload_n 2) := ⟨by decide +kernel, rfl⟩
theorem d_d_bestWithout_3 : DC 3 b_d_bestWithout 3 6 (.invokevirtual 46) := ⟨by decide +kernel, rfl⟩
theorem d_d_bestWithout_6 : DF b_d_bestWithout 6 9 24 .eq := ⟨18, by decide +kernel, by decide, rfl⟩
theorem d_d_bestWithout_9 : DC 1 b_d_bestWithout 9 10 (.aload_n 0) := ⟨by decide +kernel, rfl⟩
theorem d_d_bestWithout_10 : DC 3 b_d_bestWithout 10 13 (.getfield 13) := ⟨by decide +kernel, rfl⟩
theorem d_d_bestWithout_13 : DC 1 b_d_bestWithout 13 14 (.iload_n 1) := ⟨by decide +kernel, rfl⟩
theorem d_d_bestWithout_14 : DC 2 b_d_bestWithout 14 16 (.bipush 7) := ⟨by decide +kernel, rfl⟩
theorem d_d_bestWithout_16 : DC 1 b_d_bestWithout 16 17 (.imul) := ⟨by decide +kernel, rfl⟩
theorem d_d_bestWithout_17 : DC 1 b_d_bestWithout 17 18 (.iload_n 2) := ⟨by decide +kernel, rfl⟩
theorem d_d_bestWithout_18 : DC 1 b_d_bestWithout 18 19 (.iadd) := ⟨by decide +kernel, rfl⟩
theorem d_d_bestWithout_19 : DC 1 b_d_bestWithout 19 20 (.baload) := ⟨by decide +kernel, rfl⟩
theorem d_d_bestWithout_20 : DC 1 b_d_bestWithout 20 21 (.iconst 1) := ⟨by decide +kernel, rfl⟩
theorem d_d_bestWithout_21 : DI b_d_bestWithout 21 24 26 .ne := ⟨5, by decide +kernel, by decide, rfl⟩
theorem d_d_bestWithout_24 : DC 1 b_d_bestWithout 24 25 (.iconst (-1)) := ⟨by decide +kernel, rfl⟩
theorem d_d_bestWithout_25 : DC 1 b_d_bestWithout 25 26 (.ireturn) := ⟨by decide +kernel, rfl⟩
theorem d_d_bestWithout_26 : DC 1 b_d_bestWithout 26 27 (.aload_n 0) := ⟨by decide +kernel, rfl⟩
theorem d_d_bestWithout_27 : DC 3 b_d_bestWithout 27 30 (.invokevirtual 64) := ⟨by decide +kernel, rfl⟩
theorem d_d_bestWithout_30 : DC 1 b_d_bestWithout 30 31 (.aload_n 0) := ⟨by decide +kernel, rfl⟩
theorem d_d_bestWithout_31 : DC 1 b_d_bestWithout 31 32 (.iload_n 1) := ⟨by decide +kernel, rfl⟩
theorem d_d_bestWithout_32 : DC 1 b_d_bestWithout 32 33 (.iload_n 2) := ⟨by decide +kernel, rfl⟩
theorem d_d_bestWithout_33 : DC 1 b_d_bestWithout 33 34 (.iconst 2) := ⟨by decide +kernel, rfl⟩
theorem d_d_bestWithout_34 : DC 3 b_d_bestWithout 34 37 (.invokevirtual 67) := ⟨by decide +kernel, rfl⟩
theorem d_d_bestWithout_37 : DC 1 b_d_bestWithout 37 38 (.aload_n 0) := ⟨by decide +kernel, rfl⟩
theorem d_d_bestWithout_38 : DC 3 b_d_bestWithout 38 41 (.invokevirtual 70) := ⟨by decide +kernel, rfl⟩
theorem d_d_bestWithout_41 : DC 1 b_d_bestWithout 41 42 (.ireturn) := ⟨by decide +kernel, rfl⟩
theorem d_d_neighbours_0 : DC 1 b_d_neighbours 0 1 (.aload_n 0) := ⟨by decide +kernel, rfl⟩
theorem d_d_neighbours_1 : DC 3 b_d_neighbours 1 4 (.invokevirtual 58) := ⟨by decide +kernel, rfl⟩
theorem d_d_neighbours_4 : DC 1 b_d_neighbours 4 5 (.iload_n 1) := ⟨by decide +kernel, rfl⟩
theorem d_d_neighbours_5 : DF b_d_neighbours 5 8 23 .lt := ⟨18, by decide +kernel, by decide, rfl⟩
theorem d_d_neighbours_8 : DC 1 b_d_neighbours 8 9 (.iload_n 1) := ⟨by decide +kernel, rfl⟩
theorem d_d_neighbours_9 : DC 1 b_d_neighbours 9 10 (.aload_n 0) := ⟨by decide +kernel, rfl⟩
theorem d_d_neighbours_10 : DC 3 b_d_neighbours 10 13 (.getfield 42) := ⟨by decide +kernel, rfl⟩
theorem d_d_neighbours_13 : DI b_d_neighbours 13 16 23 .ge := ⟨10, by decide +kernel, by decide, rfl⟩
theorem d_d_neighbours_16 : DC 1 b_d_neighbours 16 17 (.aload_n 0) := ⟨by decide +kernel, rfl⟩
theorem d_d_neighbours_17 : DC 3 b_d_neighbours 17 20 (.getfield 61) := ⟨by decide +kernel, rfl⟩
theorem d_d_neighbours_20 : DF b_d_neighbours 20 23 25 .ge := ⟨5, by decide +kernel, by decide, rfl⟩
theorem d_d_neighbours_23 : DC 1 b_d_neighbours 23 24 (.iconst 0) := ⟨by decide +kernel, rfl⟩
theorem d_d_neighbours_24 : DC 1 b_d_neighbours 24 25 (.ireturn) := ⟨by decide +kernel, rfl⟩
theorem d_d_neighbours_25 : DC 1 b_d_neighbours 25 26 (.iconst 0) := ⟨by decide +kernel, rfl⟩
theorem d_d_neighbours_26 : DC 1 b_d_neighbours 26 27 (.istore_n 2) := ⟨by decide +kernel, rfl⟩
theorem d_d_neighbours_27 : DC 1 b_d_neighbours 27 28 (.iconst 0) := ⟨by decide +kernel, rfl⟩
theorem d_d_neighbours_28 : DC 1 b_d_neighbours 28 29 (.istore_n 3) := ⟨by decide +kernel, rfl⟩
theorem d_d_neighbours_29 : DC 1 b_d_neighbours 29 30 (.iload_n 3) := ⟨by decide +kernel, rfl⟩
theorem d_d_neighbours_30 : DC 1 b_d_neighbours 30 31 (.aload_n 0) := ⟨by decide +kernel, rfl⟩
theorem d_d_neighbours_31 : DC 3 b_d_neighbours 31 34 (.getfield 42) := ⟨by decide +kernel, rfl⟩
theorem d_d_neighbours_34 : DI b_d_neighbours 34 37 66 .ge := ⟨32, by decide +kernel, by decide, rfl⟩
theorem d_d_neighbours_37 : DC 1 b_d_neighbours 37 38 (.aload_n 0) := ⟨by decide +kernel, rfl⟩
theorem d_d_neighbours_38 : DC 1 b_d_neighbours 38 39 (.iload_n 1) := ⟨by decide +kernel, rfl⟩
theorem d_d_neighbours_39 : DC 1 b_d_neighbours 39 40 (.iload_n 3) := ⟨by decide +kernel, rfl⟩
theorem d_d_neighbours_40 : DC 3 b_d_neighbours 40 43 (.invokevirtual 74) := ⟨by decide +kernel, rfl⟩
theorem d_d_neighbours_43 : DC 2 b_d_neighbours 43 45 (.istore 4) := ⟨by decide +kernel, rfl⟩
theorem d_d_neighbours_45 : DC 2 b_d_neighbours 45 47 (.iload 4) := ⟨by decide +kernel, rfl⟩
theorem d_d_neighbours_47 : DC 1 b_d_neighbours 47 48 (.aload_n 0) := ⟨by decide +kernel, rfl⟩
theorem d_d_neighbours_48 : DC 3 b_d_neighbours 48 51 (.getfield 61) := ⟨by decide +kernel, rfl⟩
theorem d_d_neighbours_51 : DI b_d_neighbours 51 54 60 .ne := ⟨9, by decide +kernel, by decide, rfl⟩
theorem d_d_neighbours_54 : DC 1 b_d_neighbours 54 55 (.iload_n 2) := ⟨by decide +kernel, rfl⟩
theorem d_d_neighbours_55 : DC 1 b_d_neighbours 55 56 (.iconst 1) := ⟨by decide +kernel, rfl⟩
theorem d_d_neighbours_56 : DC 1 b_d_neighbours 56 57 (.iload_n 3) := ⟨by decide +kernel, rfl⟩
theorem d_d_neighbours_57 : DC 1 b_d_neighbours 57 58 (.ishl) := ⟨by decide +kernel, rfl⟩
theorem d_d_neighbours_58 : DC 1 b_d_neighbours 58 59 (.ior) := ⟨by decide +kernel, rfl⟩
theorem d_d_neighbours_59 : DC 1 b_d_neighbours 59 60 (.istore_n 2) := ⟨by decide +kernel, rfl⟩
theorem d_d_neighbours_60 : DC 3 b_d_neighbours 60 63 (.iinc 3 1) := ⟨by decide +kernel, rfl⟩
theorem d_d_neighbours_63 : DG b_d_neighbours 63 29 := ⟨-34, by decide +kernel, by decide⟩
theorem d_d_neighbours_66 : DC 1 b_d_neighbours 66 67 (.iload_n 2) := ⟨by decide +kernel, rfl⟩
theorem d_d_neighbours_67 : DC 1 b_d_neighbours 67 68 (.ireturn) := ⟨by decide +kernel, rfl⟩
theorem d_d_limit_0 : DC 1 b_d_limit 0 1 (.aload_n 0) := ⟨by decide +kernel, rfl⟩
theorem d_d_limit_1 : DC 1 b_d_limit 1 2 (.iload_n 1) := ⟨by decide +kernel, rfl⟩
theorem d_d_limit_2 : DC 1 b_d_limit 2 3 (.iload_n 2) := ⟨by decide +kernel, rfl⟩
theorem d_d_limit_3 : DC 3 b_d_limit 3 6 (.invokevirtual 74) := ⟨by decide +kernel, rfl⟩
theorem d_d_limit_6 : DC 1 b_d_limit 6 7 (.istore_n 3) := ⟨by decide +kernel, rfl⟩
theorem d_d_limit_7 : DC 1 b_d_limit 7 8 (.iload_n 3) := ⟨by decide +kernel, rfl⟩
theorem d_d_limit_8 : DF b_d_limit 8 11 13 .ge := ⟨5, by decide +kernel, by decide, rfl⟩
theorem d_d_limit_11 : DC 1 b_d_limit 11 12 (.iconst (-1)) := ⟨by decide +kernel, rfl⟩
theorem d_d_limit_12 : DC 1 b_d_limit 12 13 (.ireturn) := ⟨by decide +kernel, rfl⟩
theorem d_d_limit_13 : DC 1 b_d_limit 13 14 (.aload_n 0) := ⟨by decide +kernel, rfl⟩
theorem d_d_limit_14 : DC 1 b_d_limit 14 15 (.iload_n 1) := ⟨by decide +kernel, rfl⟩
theorem d_d_limit_15 : DC 1 b_d_limit 15 16 (.iload_n 2) := ⟨by decide +kernel, rfl⟩
theorem d_d_limit_16 : DC 3 b_d_limit 16 19 (.invokevirtual 78) := ⟨by decide +kernel, rfl⟩
theorem d_d_limit_19 : DC 2 b_d_limit 19 21 (.istore 4) := ⟨by decide +kernel, rfl⟩
theorem d_d_limit_21 : DC 1 b_d_limit 21 22 (.iload_n 3) := ⟨by decide +kernel, rfl⟩
theorem d_d_limit_22 : DC 1 b_d_limit 22 23 (.aload_n 0) := ⟨by decide +kernel, rfl⟩
theorem d_d_limit_23 : DC 3 b_d_limit 23 26 (.getfield 7) := ⟨by decide +kernel, rfl⟩
theorem d_d_limit_26 : DC 1 b_d_limit 26 27 (.iload_n 1) := ⟨by decide +kernel, rfl⟩
theorem d_d_limit_27 : DC 2 b_d_limit 27 29 (.bipush 7) := ⟨by decide +kernel, rfl⟩
theorem d_d_limit_29 : DC 1 b_d_limit 29 30 (.imul) := ⟨by decide +kernel, rfl⟩
theorem d_d_limit_30 : DC 1 b_d_limit 30 31 (.iload_n 2) := ⟨by decide +kernel, rfl⟩
theorem d_d_limit_31 : DC 1 b_d_limit 31 32 (.iadd) := ⟨by decide +kernel, rfl⟩
theorem d_d_limit_32 : DC 1 b_d_limit 32 33 (.baload) := ⟨by decide +kernel, rfl⟩
theorem d_d_limit_33 : DC 1 b_d_limit 33 34 (.isub) := ⟨by decide +kernel, rfl⟩
theorem d_d_limit_34 : DC 2 b_d_limit 34 36 (.istore 5) := ⟨by decide +kernel, rfl⟩
theorem d_d_limit_36 : DC 2 b_d_limit 36 38 (.iload 4) := ⟨by decide +kernel, rfl⟩
theorem d_d_limit_38 : DF b_d_limit 38 41 51 .lt := ⟨13, by decide +kernel, by decide, rfl⟩
theorem d_d_limit_41 : DC 2 b_d_limit 41 43 (.iload 4) := ⟨by decide +kernel, rfl⟩
theorem d_d_limit_43 : DC 2 b_d_limit 43 45 (.iload 5) := ⟨by decide +kernel, rfl⟩
theorem d_d_limit_45 : DC 1 b_d_limit 45 46 (.isub) := ⟨by decide +kernel, rfl⟩
theorem d_d_limit_46 : DC 2 b_d_limit 46 48 (.bipush 99) := ⟨by decide +kernel, rfl⟩
theorem d_d_limit_48 : DI b_d_limit 48 51 54 .le := ⟨6, by decide +kernel, by decide, rfl⟩
theorem d_d_limit_51 : DC 2 b_d_limit 51 53 (.bipush 99) := ⟨by decide +kernel, rfl⟩
theorem d_d_limit_53 : DC 1 b_d_limit 53 54 (.ireturn) := ⟨by decide +kernel, rfl⟩
theorem d_d_limit_54 : DC 2 b_d_limit 54 56 (.iload 4) := ⟨by decide +kernel, rfl⟩
theorem d_d_limit_56 : DC 2 b_d_limit 56 58 (.iload 5) := ⟨by decide +kernel, rfl⟩
theorem d_d_limit_58 : DI b_d_limit 58 61 65 .ge := ⟨7, by decide +kernel, by decide, rfl⟩
theorem d_d_limit_61 : DC 1 b_d_limit 61 62 (.iconst (-1)) := ⟨by decide +kernel, rfl⟩
theorem d_d_limit_62 : DG b_d_limit 62 70 := ⟨8, by decide +kernel, by decide⟩
theorem d_d_limit_65 : DC 2 b_d_limit 65 67 (.iload 4) := ⟨by decide +kernel, rfl⟩
theorem d_d_limit_67 : DC 2 b_d_limit 67 69 (.iload 5) := ⟨by decide +kernel, rfl⟩
theorem d_d_limit_69 : DC 1 b_d_limit 69 70 (.isub) := ⟨by decide +kernel, rfl⟩
theorem d_d_limit_70 : DC 1 b_d_limit 70 71 (.ireturn) := ⟨by decide +kernel, rfl⟩
theorem d_d_findTour_0 : DC 1 b_d_findTour 0 1 (.aload_n 0) := ⟨by decide +kernel, rfl⟩
theorem d_d_findTour_1 : DC 3 b_d_findTour 1 4 (.getfield 54) := ⟨by decide +kernel, rfl⟩
theorem d_d_findTour_4 : DF b_d_findTour 4 7 8 .eq := ⟨4, by decide +kernel, by decide, rfl⟩
theorem d_d_findTour_7 : DC 1 b_d_findTour 7 8 (.return_) := ⟨by decide +kernel, rfl⟩
theorem d_d_findTour_8 : DC 1 b_d_findTour 8 9 (.aload_n 0) := ⟨by decide +kernel, rfl⟩
theorem d_d_findTour_9 : DC 1 b_d_findTour 9 10 (.iconst 1) := ⟨by decide +kernel, rfl⟩
theorem d_d_findTour_10 : DC 3 b_d_findTour 10 13 (.putfield 54) := ⟨by decide +kernel, rfl⟩
theorem d_d_findTour_13 : DC 1 b_d_findTour 13 14 (.aload_n 0) := ⟨by decide +kernel, rfl⟩
theorem d_d_findTour_14 : DC 3 b_d_findTour 14 17 (.invokevirtual 64) := ⟨by decide +kernel, rfl⟩
theorem d_d_findTour_17 : DC 1 b_d_findTour 17 18 (.aload_n 0) := ⟨by decide +kernel, rfl⟩
theorem d_d_findTour_18 : DC 1 b_d_findTour 18 19 (.aload_n 0) := ⟨by decide +kernel, rfl⟩
theorem d_d_findTour_19 : DC 3 b_d_findTour 19 22 (.invokevirtual 70) := ⟨by decide +kernel, rfl⟩
theorem d_d_findTour_22 : DC 3 b_d_findTour 22 25 (.putfield 61) := ⟨by decide +kernel, rfl⟩
theorem d_d_findTour_25 : DC 1 b_d_findTour 25 26 (.aload_n 0) := ⟨by decide +kernel, rfl⟩
theorem d_d_findTour_26 : DC 3 b_d_findTour 26 29 (.getfield 61) := ⟨by decide +kernel, rfl⟩
theorem d_d_findTour_29 : DF b_d_findTour 29 32 33 .ge := ⟨4, by decide +kernel, by decide, rfl⟩
theorem d_d_findTour_32 : DC 1 b_d_findTour 32 33 (.return_) := ⟨by decide +kernel, rfl⟩
theorem d_d_findTour_33 : DC 1 b_d_findTour 33 34 (.aload_n 0) := ⟨by decide +kernel, rfl⟩
theorem d_d_findTour_34 : DC 3 b_d_findTour 34 37 (.getfield 39) := ⟨by decide +kernel, rfl⟩
theorem d_d_findTour_37 : DC 1 b_d_findTour 37 38 (.iconst 0) := ⟨by decide +kernel, rfl⟩
theorem d_d_findTour_38 : DC 1 b_d_findTour 38 39 (.iconst 0) := ⟨by decide +kernel, rfl⟩
theorem d_d_findTour_39 : DC 1 b_d_findTour 39 40 (.bastore) := ⟨by decide +kernel, rfl⟩
theorem d_d_findTour_40 : DC 1 b_d_findTour 40 41 (.iconst 1) := ⟨by decide +kernel, rfl⟩
theorem d_d_findTour_41 : DC 1 b_d_findTour 41 42 (.istore_n 1) := ⟨by decide +kernel, rfl⟩
theorem d_d_findTour_42 : DC 1 b_d_findTour 42 43 (.iconst 1) := ⟨by decide +kernel, rfl⟩
theorem d_d_findTour_43 : DC 1 b_d_findTour 43 44 (.istore_n 2) := ⟨by decide +kernel, rfl⟩
theorem d_d_findTour_44 : DC 1 b_d_findTour 44 45 (.iload_n 2) := ⟨by decide +kernel, rfl⟩
theorem d_d_findTour_45 : DC 1 b_d_findTour 45 46 (.aload_n 0) := ⟨by decide +kernel, rfl⟩
theorem d_d_findTour_46 : DC 3 b_d_findTour 46 49 (.getfield 42) := ⟨by decide +kernel, rfl⟩
theorem d_d_findTour_49 : DI b_d_findTour 49 52 100 .ge := ⟨51, by decide +kernel, by decide, rfl⟩
theorem d_d_findTour_52 : DC 1 b_d_findTour 52 53 (.aload_n 0) := ⟨by decide +kernel, rfl⟩
theorem d_d_findTour_53 : DC 1 b_d_findTour 53 54 (.aload_n 0) := ⟨by decide +kernel, rfl⟩
theorem d_d_findTour_54 : DC 3 b_d_findTour 54 57 (.getfield 39) := ⟨by decide +kernel, rfl⟩
theorem d_d_findTour_57 : DC 1 b_d_findTour 57 58 (.iload_n 2) := ⟨by decide +kernel, rfl⟩
theorem d_d_findTour_58 : DC 1 b_d_findTour 58 59 (.iconst 1) := ⟨by decide +kernel, rfl⟩
theorem d_d_findTour_59 : DC 1 b_d_findTour 59 60 (.isub) := ⟨by decide +kernel, rfl⟩
theorem d_d_findTour_60 : DC 1 b_d_findTour 60 61 (.baload) := ⟨by decide +kernel, rfl⟩
theorem d_d_findTour_61 : DC 1 b_d_findTour 61 62 (.iload_n 1) := ⟨by decide +kernel, rfl⟩
theorem d_d_findTour_62 : DC 3 b_d_findTour 62 65 (.invokevirtual 81) := ⟨by decide +kernel, rfl⟩
theorem d_d_findTour_65 : DC 1 b_d_findTour 65 66 (.istore_n 3) := ⟨by decide +kernel, rfl⟩
theorem d_d_findTour_66 : DC 1 b_d_findTour 66 67 (.aload_n 0) := ⟨by decide +kernel, rfl⟩
theorem d_d_findTour_67 : DC 3 b_d_findTour 67 70 (.getfield 39) := ⟨by decide +kernel, rfl⟩
theorem d_d_findTour_70 : DC 1 b_d_findTour 70 71 (.iload_n 2) := ⟨by decide +kernel, rfl⟩
theorem d_d_findTour_71 : DC 1 b_d_findTour 71 72 (.iload_n 3) := ⟨by decide +kernel, rfl⟩
theorem d_d_findTour_72 : DC 1 b_d_findTour 72 73 (.i2b) := ⟨by decide +kernel, rfl⟩
theorem d_d_findTour_73 : DC 1 b_d_findTour 73 74 (.bastore) := ⟨by decide +kernel, rfl⟩
theorem d_d_findTour_74 : DC 1 b_d_findTour 74 75 (.aload_n 0) := ⟨by decide +kernel, rfl⟩
theorem d_d_findTour_75 : DC 1 b_d_findTour 75 76 (.aload_n 0) := ⟨by decide +kernel, rfl⟩
theorem d_d_findTour_76 : DC 3 b_d_findTour 76 79 (.getfield 39) := ⟨by decide +kernel, rfl⟩
theorem d_d_findTour_79 : DC 1 b_d_findTour 79 80 (.iload_n 2) := ⟨by decide +kernel, rfl⟩
theorem d_d_findTour_80 : DC 1 b_d_findTour 80 81 (.iconst 1) := ⟨by decide +kernel, rfl⟩
theorem d_d_findTour_81 : DC 1 b_d_findTour 81 82 (.isub) := ⟨by decide +kernel, rfl⟩
theorem d_d_findTour_82 : DC 1 b_d_findTour 82 83 (.baload) := ⟨by decide +kernel, rfl⟩
theorem d_d_findTour_83 : DC 1 b_d_findTour 83 84 (.iload_n 3) := ⟨by decide +kernel, rfl⟩
theorem d_d_findTour_84 : DC 1 b_d_findTour 84 85 (.iconst 1) := ⟨by decide +kernel, rfl⟩
theorem d_d_findTour_85 : DC 3 b_d_findTour 85 88 (.invokevirtual 67) := ⟨by decide +kernel, rfl⟩
theorem d_d_findTour_88 : DC 1 b_d_findTour 88 89 (.iload_n 1) := ⟨by decide +kernel, rfl⟩
theorem d_d_findTour_89 : DC 1 b_d_findTour 89 90 (.iconst 1) := ⟨by decide +kernel, rfl⟩
theorem d_d_findTour_90 : DC 1 b_d_findTour 90 91 (.iload_n 3) := ⟨by decide +kernel, rfl⟩
theorem d_d_findTour_91 : DC 1 b_d_findTour 91 92 (.ishl) := ⟨by decide +kernel, rfl⟩
theorem d_d_findTour_92 : DC 1 b_d_findTour 92 93 (.ior) := ⟨by decide +kernel, rfl⟩
theorem d_d_findTour_93 : DC 1 b_d_findTour 93 94 (.istore_n 1) := ⟨by decide +kernel, rfl⟩
theorem d_d_findTour_94 : DC 3 b_d_findTour 94 97 (.iinc 2 1) := ⟨by decide +kernel, rfl⟩
theorem d_d_findTour_97 : DG b_d_findTour 97 44 := ⟨-53, by decide +kernel, by decide⟩
theorem d_d_findTour_100 : DC 1 b_d_findTour 100 101 (.return_) := ⟨by decide +kernel, rfl⟩
end
section
/-! decode rows: pc, the next pc, the instruction (printed by program) -/
theorem d_d_nextCity_0 : DC 1 b_d_nextCity 0 1 (.iconst 0) := ⟨by decide +kernel, rfl⟩
theorem d_d_nextCity_1 : DC 1 b_d_nextCity 1 2 (.istore_n 3) := ⟨by decide +kernel, rfl⟩
theorem d_d_nextCity_2 : DC 1 b_d_nextCity 2 3 (.iload_n 3) := ⟨by decide +kernel, rfl⟩
theorem d_d_nextCity_3 : DC 1 b_d_nextCity 3 4 (.aload_n 0) := ⟨by decide +kernel, rfl⟩
theorem d_d_nextCity_4 : DC 3 b_d_nextCity 4 7 (.getfield 42) := ⟨by decide +kernel, rfl⟩
theorem d_d_nextCity_7 : DI b_d_nextCity 7 10 75 .ge := ⟨68, by decide +kernel, by decide, rfl⟩
theorem d_d_nextCity_10 : DC 1 b_d_nextCity 10 11 (.aload_n 0) := ⟨by decide +kernel, rfl⟩
theorem d_d_nextCity_11 : DC 3 b_d_nextCity 11 14 (.getfield 16) := ⟨by decide +kernel, rfl⟩
theorem d_d_nextCity_14 : DC 1 b_d_nextCity 14 15 (.iload_n 1) := ⟨by decide +kernel, rfl⟩
theorem d_d_nextCity_15 : DC 2 b_d_nextCity 15 17 (.bipush 7) := ⟨by decide +kernel, rfl⟩
theorem d_d_nextCity_17 : DC 1 b_d_nextCity 17 18 (.imul) := ⟨by decide +kernel, rfl⟩
theorem d_d_nextCity_18 : DC 1 b_d_nextCity 18 19 (.iload_n 3) := ⟨by decide +kernel, rfl⟩
theorem d_d_nextCity_19 : DC 1 b_d_nextCity 19 20 (.iadd) := ⟨by decide +kernel, rfl⟩
theorem d_d_nextCity_20 : DC 1 b_d_nextCity 20 21 (.baload) := ⟨by decide +kernel, rfl⟩
theorem d_d_nextCity_21 : DC 2 b_d_nextCity 21 23 (.istore 4) := ⟨by decide +kernel, rfl⟩
theorem d_d_nextCity_23 : DC 1 b_d_nextCity 23 24 (.iload_n 2) := ⟨by decide +kernel, rfl⟩
theorem d_d_nextCity_24 : DC 1 b_d_nextCity 24 25 (.iload_n 3) := ⟨by decide +kernel, rfl⟩
theorem d_d_nextCity_25 : DC 1 b_d_nextCity 25 26 (.ishr) := ⟨by decide +kernel, rfl⟩
theorem d_d_nextCity_26 : DC 1 b_d_nextCity 26 27 (.iconst 1) := ⟨by decide +kernel, rfl⟩
theorem d_d_nextCity_27 : DC 1 b_d_nextCity 27 28 (.iand) := ⟨by decide +kernel, rfl⟩
theorem d_d_nextCity_28 : DF b_d_nextCity 28 31 69 .ne := ⟨41, by decide +kernel, by decide, rfl⟩
theorem d_d_nextCity_31 : DC 2 b_d_nextCity 31 33 (.iload 4) := ⟨by decide +kernel, rfl⟩
theorem d_d_nextCity_33 : DC 1 b_d_nextCity 33 34 (.iconst 2) := ⟨by decide +kernel, rfl⟩
theorem d_d_nextCity_34 : DI b_d_nextCity 34 37 69 .eq := ⟨35, by decide +kernel, by decide, rfl⟩
theorem d_d_nextCity_37 : DC 1 b_d_nextCity 37 38 (.aload_n 0) := ⟨by decide +kernel, rfl⟩
theorem d_d_nextCity_38 : DC 1 b_d_nextCity 38 39 (.iload_n 1) := ⟨by decide +kernel, rfl⟩
theorem d_d_nextCity_39 : DC 1 b_d_nextCity 39 40 (.iload_n 3) := ⟨by decide +kernel, rfl⟩
theorem d_d_nextCity_40 : DC 1 b_d_nextCity 40 41 (.iconst 1) := ⟨by decide +kernel, rfl⟩
theorem d_d_nextCity_41 : DC 3 b_d_nextCity 41 44 (.invokevirtual 67) := ⟨by decide +kernel, rfl⟩
theorem d_d_nextCity_44 : DC 1 b_d_nextCity 44 45 (.aload_n 0) := ⟨by decide +kernel, rfl⟩
theorem d_d_nextCity_45 : DC 3 b_d_nextCity 45 48 (.invokevirtual 70) := ⟨by decide +kernel, rfl⟩
theorem d_d_nextCity_48 : DC 2 b_d_nextCity 48 50 (.istore 5) := ⟨by decide +kernel, rfl⟩
theorem d_d_nextCity_50 : DC 1 b_d_nextCity 50 51 (.aload_n 0) := ⟨by decide +kernel, rfl⟩
theorem d_d_nextCity_51 : DC 1 b_d_nextCity 51 52 (.iload_n 1) := ⟨by decide +kernel, rfl⟩
theorem d_d_nextCity_52 : DC 1 b_d_nextCity 52 53 (.iload_n 3) := ⟨by decide +kernel, rfl⟩
theorem d_d_nextCity_53 : DC 2 b_d_nextCity 53 55 (.iload 4) := ⟨by decide +kernel, rfl⟩
theorem d_d_nextCity_55 : DC 3 b_d_nextCity 55 58 (.invokevirtual 67) := ⟨by decide +kernel, rfl⟩
theorem d_d_nextCity_58 : DC 2 b_d_nextCity 58 60 (.iload 5) := ⟨by decide +kernel, rfl⟩
theorem d_d_nextCity_60 : DC 1 b_d_nextCity 60 61 (.aload_n 0) := ⟨by decide +kernel, rfl⟩
theorem d_d_nextCity_61 : DC 3 b_d_nextCity 61 64 (.getfield 61) := ⟨by decide +kernel, rfl⟩
theorem d_d_nextCity_64 : DI b_d_nextCity 64 67 69 .ne := ⟨5, by decide +kernel, by decide, rfl⟩
theorem d_d_nextCity_67 : DC 1 b_d_nextCity 67 68 (.iload_n 3) := ⟨by decide +kernel, rfl⟩
theorem d_d_nextCity_68 : DC 1 b_d_nextCity 68 69 (.ireturn) := ⟨by decide +kernel, rfl⟩
theorem d_d_nextCity_69 : DC 3 b_d_nextCity 69 72 (.iinc 3 1) := ⟨by decide +kernel, rfl⟩
theorem d_d_nextCity_72 : DG b_d_nextCity 72 2 := ⟨-70, by decide +kernel, by decide⟩
theorem d_d_nextCity_75 : DC 1 b_d_nextCity 75 76 (.iconst 0) := ⟨by decide +kernel, rfl⟩
theorem d_d_nextCity_76 : DC 1 b_d_nextCity 76 77 (.ireturn) := ⟨by decide +kernel, rfl⟩
theorem d_d_askPlainly_0 : DC 1 b_d_askPlainly 0 1 (.iconst 0) := ⟨by decide +kernel, rfl⟩
theorem d_d_askPlainly_1 : DC 1 b_d_askPlainly 1 2 (.istore_n 1) := ⟨by decide +kernel, rfl⟩
theorem d_d_askPlainly_2 : DC 1 b_d_askPlainly 2 3 (.iload_n 1) := ⟨by decide +kernel, rfl⟩
theorem d_d_askPlainly_3 : DC 2 b_d_askPlainly 3 5 (.bipush 49) := ⟨by decide +kernel, rfl⟩
theorem d_d_askPlainly_5 : DI b_d_askPlainly 5 8 26 .ge := ⟨21, by decide +kernel, by decide, rfl⟩
theorem d_d_askPlainly_8 : DC 1 b_d_askPlainly 8 9 (.aload_n 0) := ⟨by decide +kernel, rfl⟩
theorem d_d_askPlainly_9 : DC 3 b_d_askPlainly 9 12 (.getfield 16) := ⟨by decide +kernel, rfl⟩
theorem d_d_askPlainly_12 : DC 1 b_d_askPlainly 12 13 (.iload_n 1) := ⟨by decide +kernel, rfl⟩
theorem d_d_askPlainly_13 : DC 1 b_d_askPlainly 13 14 (.aload_n 0) := ⟨by decide +kernel, rfl⟩
theorem d_d_askPlainly_14 : DC 3 b_d_askPlainly 14 17 (.getfield 13) := ⟨by decide +kernel, rfl⟩
theorem d_d_askPlainly_17 : DC 1 b_d_askPlainly 17 18 (.iload_n 1) := ⟨by decide +kernel, rfl⟩
theorem d_d_askPlainly_18 : DC 1 b_d_askPlainly 18 19 (.baload) := ⟨by decide +kernel, rfl⟩
theorem d_d_askPlainly_19 : DC 1 b_d_askPlainly 19 20 (.bastore) := ⟨by decide +kernel, rfl⟩
theorem d_d_askPlainly_20 : DC 3 b_d_askPlainly 20 23 (.iinc 1 1) := ⟨by decide +kernel, rfl⟩
theorem d_d_askPlainly_23 : DG b_d_askPlainly 23 2 := ⟨-21, by decide +kernel, by decide⟩
theorem d_d_askPlainly_26 : DC 1 b_d_askPlainly 26 27 (.return_) := ⟨by decide +kernel, rfl⟩
theorem d_d_decide_0 : DC 1 b_d_decide 0 1 (.aload_n 0) := ⟨by decide +kernel, rfl⟩
theorem d_d_decide_1 : DC 3 b_d_decide 1 4 (.getfield 16) := ⟨by decide +kernel, rfl⟩
theorem d_d_decide_4 : DC 1 b_d_decide 4 5 (.iload_n 1) := ⟨by decide +kernel, rfl⟩
theorem d_d_decide_5 : DC 2 b_d_decide 5 7 (.bipush 7) := ⟨by decide +kernel, rfl⟩
theorem d_d_decide_7 : DC 1 b_d_decide 7 8 (.imul) := ⟨by decide +kernel, rfl⟩
theorem d_d_decide_8 : DC 1 b_d_decide 8 9 (.iload_n 2) := ⟨by decide +kernel, rfl⟩
theorem d_d_decide_9 : DC 1 b_d_decide 9 10 (.iadd) := ⟨by decide +kernel, rfl⟩
theorem d_d_decide_10 : DC 1 b_d_decide 10 11 (.iload_n 3) := ⟨by decide +kernel, rfl⟩
theorem d_d_decide_11 : DC 1 b_d_decide 11 12 (.i2b) := ⟨by decide +kernel, rfl⟩
theorem d_d_decide_12 : DC 1 b_d_decide 12 13 (.bastore) := ⟨by decide +kernel, rfl⟩
theorem d_d_decide_13 : DC 1 b_d_decide 13 14 (.aload_n 0) := ⟨by decide +kernel, rfl⟩
theorem d_d_decide_14 : DC 3 b_d_decide 14 17 (.getfield 16) := ⟨by decide +kernel, rfl⟩
theorem d_d_decide_17 : DC 1 b_d_decide 17 18 (.iload_n 2) := ⟨by decide +kernel, rfl⟩
theorem d_d_decide_18 : DC 2 b_d_decide 18 20 (.bipush 7) := ⟨by decide +kernel, rfl⟩
theorem d_d_decide_20 : DC 1 b_d_decide 20 21 (.imul) := ⟨by decide +kernel, rfl⟩
theorem d_d_decide_21 : DC 1 b_d_decide 21 22 (.iload_n 1) := ⟨by decide +kernel, rfl⟩
theorem d_d_decide_22 : DC 1 b_d_decide 22 23 (.iadd) := ⟨by decide +kernel, rfl⟩
theorem d_d_decide_23 : DC 1 b_d_decide 23 24 (.iload_n 3) := ⟨by decide +kernel, rfl⟩
theorem d_d_decide_24 : DC 1 b_d_decide 24 25 (.i2b) := ⟨by decide +kernel, rfl⟩
theorem d_d_decide_25 : DC 1 b_d_decide 25 26 (.bastore) := ⟨by decide +kernel, rfl⟩
theorem d_d_decide_26 : DC 1 b_d_decide 26 27 (.return_) := ⟨by decide +kernel, rfl⟩
theorem d_d_solve_0 : DC 1 b_d_solve 0 1 (.aload_n 0) := ⟨by decide +kernel, rfl⟩
theorem d_d_solve_1 : DC 2 b_d_solve 1 3 (.ldc 84) := ⟨by decide +kernel, rfl⟩
theorem d_d_solve_3 : DC 3 b_d_solve 3 6 (.putfield 85) := ⟨by decide +kernel, rfl⟩
theorem d_d_solve_6 : DC 1 b_d_solve 6 7 (.iconst 0) := ⟨by decide +kernel, rfl⟩
theorem d_d_solve_7 : DC 1 b_d_solve 7 8 (.istore_n 1) := ⟨by decide +kernel, rfl⟩
theorem d_d_solve_8 : DC 1 b_d_solve 8 9 (.iconst 1) := ⟨by decide +kernel, rfl⟩
theorem d_d_solve_9 : DC 1 b_d_solve 9 10 (.istore_n 2) := ⟨by decide +kernel, rfl⟩
theorem d_d_solve_10 : DC 1 b_d_solve 10 11 (.iconst 0) := ⟨by decide +kernel, rfl⟩
theorem d_d_solve_11 : DC 1 b_d_solve 11 12 (.istore_n 3) := ⟨by decide +kernel, rfl⟩
theorem d_d_solve_12 : DC 1 b_d_solve 12 13 (.iload_n 3) := ⟨by decide +kernel, rfl⟩
theorem d_d_solve_13 : DC 2 b_d_solve 13 15 (.ldc 88) := ⟨by decide +kernel, rfl⟩
theorem d_d_solve_15 : DI b_d_solve 15 18 100 .ge := ⟨85, by decide +kernel, by decide, rfl⟩
theorem d_d_solve_18 : DC 1 b_d_solve 18 19 (.iload_n 1) := ⟨by decide +kernel, rfl⟩
theorem d_d_solve_19 : DF b_d_solve 19 22 100 .lt := ⟨81, by decide +kernel, by decide, rfl⟩
theorem d_d_solve_22 : DC 1 b_d_solve 22 23 (.iload_n 2) := ⟨by decide +kernel, rfl⟩
theorem d_d_solve_23 : DF b_d_solve 23 26 33 .eq := ⟨10, by decide +kernel, by decide, rfl⟩
theorem d_d_solve_26 : DC 1 b_d_solve 26 27 (.aload_n 0) := ⟨by decide +kernel, rfl⟩
theorem d_d_solve_27 : DC 3 b_d_solve 27 30 (.invokevirtual 89) := ⟨by decide +kernel, rfl⟩
theorem d_d_solve_30 : DG b_d_solve 30 34 := ⟨4, by decide +kernel, by decide⟩
theorem d_d_solve_33 : DC 1 b_d_solve 33 34 (.iconst (-1)) := ⟨by decide +kernel, rfl⟩
theorem d_d_solve_34 : DC 2 b_d_solve 34 36 (.istore 4) := ⟨by decide +kernel, rfl⟩
theorem d_d_solve_36 : DC 2 b_d_solve 36 38 (.iload 4) := ⟨by decide +kernel, rfl⟩
theorem d_d_solve_38 : DF b_d_solve 38 41 78 .lt := ⟨40, by decide +kernel, by decide, rfl⟩
theorem d_d_solve_41 : DC 1 b_d_solve 41 42 (.aload_n 0) := ⟨by decide +kernel, rfl⟩
theorem d_d_solve_42 : DC 3 b_d_solve 42 45 (.getfield 33) := ⟨by decide +kernel, rfl⟩
theorem d_d_solve_45 : DC 1 b_d_solve 45 46 (.iload_n 1) := ⟨by decide +kernel, rfl⟩
theorem d_d_solve_46 : DC 2 b_d_solve 46 48 (.iload 4) := ⟨by decide +kernel, rfl⟩
theorem d_d_solve_48 : DC 1 b_d_solve 48 49 (.i2b) := ⟨by decide +kernel, rfl⟩
theorem d_d_solve_49 : DC 1 b_d_solve 49 50 (.bastore) := ⟨by decide +kernel, rfl⟩
theorem d_d_solve_50 : DC 1 b_d_solve 50 51 (.aload_n 0) := ⟨by decide +kernel, rfl⟩
theorem d_d_solve_51 : DC 3 b_d_solve 51 54 (.getfield 36) := ⟨by decide +kernel, rfl⟩
theorem d_d_solve_54 : DC 1 b_d_solve 54 55 (.iload_n 1) := ⟨by decide +kernel, rfl⟩
theorem d_d_solve_55 : DC 1 b_d_solve 55 56 (.iconst 0) := ⟨by decide +kernel, rfl⟩
theorem d_d_solve_56 : DC 1 b_d_solve 56 57 (.bastore) := ⟨by decide +kernel, rfl⟩
theorem d_d_solve_57 : DC 1 b_d_solve 57 58 (.aload_n 0) := ⟨by decide +kernel, rfl⟩
theorem d_d_solve_58 : DC 2 b_d_solve 58 60 (.iload 4) := ⟨by decide +kernel, rfl⟩
theorem d_d_solve_60 : DC 2 b_d_solve 60 62 (.bipush 7) := ⟨by decide +kernel, rfl⟩
theorem d_d_solve_62 : DC 1 b_d_solve 62 63 (.idiv) := ⟨by decide +kernel, rfl⟩
theorem d_d_solve_63 : DC 2 b_d_solve 63 65 (.iload 4) := ⟨by decide +kernel, rfl⟩
theorem d_d_solve_65 : DC 2 b_d_solve 65 67 (.bipush 7) := ⟨by decide +kernel, rfl⟩
theorem d_d_solve_67 : DC 1 b_d_solve 67 68 (.irem) := ⟨by decide +kernel, rfl⟩
theorem d_d_solve_68 : DC 1 b_d_solve 68 69 (.iconst 2) := ⟨by decide +kernel, rfl⟩
theorem d_d_solve_69 : DC 3 b_d_solve 69 72 (.invokevirtual 67) := ⟨by decide +kernel, rfl⟩
theorem d_d_solve_72 : DC 3 b_d_solve 72 75 (.iinc 1 1) := ⟨by decide +kernel, rfl⟩
theorem d_d_solve_75 : DG b_d_solve 75 94 := ⟨19, by decide +kernel, by decide⟩
theorem d_d_solve_78 : DC 1 b_d_solve 78 79 (.aload_n 0) := ⟨by decide +kernel, rfl⟩
theorem d_d_solve_79 : DC 1 b_d_solve 79 80 (.iload_n 1) := ⟨by decide +kernel, rfl⟩
theorem d_d_solve_80 : DC 3 b_d_solve 80 83 (.invokevirtual 92) := ⟨by decide +kernel, rfl⟩
theorem d_d_solve_83 : DC 1 b_d_solve 83 84 (.istore_n 1) := ⟨by decide +kernel, rfl⟩
theorem d_d_solve_84 : DC 1 b_d_solve 84 85 (.iload_n 1) := ⟨by decide +kernel, rfl⟩
theorem d_d_solve_85 : DF b_d_solve 85 88 92 .lt := ⟨7, by decide +kernel, by decide, rfl⟩
theorem d_d_solve_88 : DC 1 b_d_solve 88 89 (.iconst 1) := ⟨by decide +kernel, rfl⟩
theorem d_d_solve_89 : DG b_d_solve 89 93 := ⟨4, by decide +kernel, by decide⟩
theorem d_d_solve_92 : DC 1 b_d_solve 92 93 (.iconst 0) := ⟨by decide +kernel, rfl⟩
theorem d_d_solve_93 : DC 1 b_d_solve 93 94 (.istore_n 2) := ⟨by decide +kernel, rfl⟩
theorem d_d_solve_94 : DC 3 b_d_solve 94 97 (.iinc 3 1) := ⟨by decide +kernel, rfl⟩
theorem d_d_solve_97 : DG b_d_solve 97 12 := ⟨-85, by decide +kernel, by decide⟩
theorem d_d_solve_100 : DC 1 b_d_solve 100 101 (.aload_n 0) := ⟨by decide +kernel, rfl⟩
theorem d_d_solve_101 : DC 3 b_d_solve 101 104 (.getfield 85) := ⟨by decide +kernel, rfl⟩
theorem d_d_solve_104 : DC 2 b_d_solve 104 106 (.ldc 84) := ⟨by decide +kernel, rfl⟩
theorem d_d_solve_106 : DI b_d_solve 106 109 113 .ne := ⟨7, by decide +kernel, by decide, rfl⟩
theorem d_d_solve_109 : DC 1 b_d_solve 109 110 (.iconst (-1)) := ⟨by decide +kernel, rfl⟩
theorem d_d_solve_110 : DG b_d_solve 110 117 := ⟨7, by decide +kernel, by decide⟩
theorem d_d_solve_113 : DC 1 b_d_solve 113 114 (.aload_n 0) := ⟨by decide +kernel, rfl⟩
theorem d_d_solve_114 : DC 3 b_d_solve 114 117 (.getfield 85) := ⟨by decide +kernel, rfl⟩
theorem d_d_solve_117 : DC 1 b_d_solve 117 118 (.ireturn) := ⟨by decide +kernel, rfl⟩
theorem d_d_backUp_0 : DC 1 b_d_backUp 0 1 (.iload_n 1) := ⟨by decide +kernel, rfl⟩
theorem d_d_backUp_1 : DC 1 b_d_backUp 1 2 (.iconst 1) := ⟨by decide +kernel, rfl⟩
theorem d_d_backUp_2 : DC 1 b_d_backUp 2 3 (.isub) := ⟨by decide +kernel, rfl⟩
theorem d_d_backUp_3 : DC 1 b_d_backUp 3 4 (.istore_n 2) := ⟨by decide +kernel, rfl⟩
theorem d_d_backUp_4 : DC 1 b_d_backUp 4 5 (.iload_n 2) := ⟨by decide +kernel, rfl⟩
theorem d_d_backUp_5 : DF b_d_backUp 5 8 46 .lt := ⟨41, by decide +kernel, by decide, rfl⟩
theorem d_d_backUp_8 : DC 1 b_d_backUp 8 9 (.aload_n 0) := ⟨by decide +kernel, rfl⟩
theorem d_d_backUp_9 : DC 3 b_d_backUp 9 12 (.getfield 36) := ⟨by decide +kernel, rfl⟩
theorem d_d_backUp_12 : DC 1 b_d_backUp 12 13 (.iload_n 2) := ⟨by decide +kernel, rfl⟩
theorem d_d_backUp_13 : DC 1 b_d_backUp 13 14 (.baload) := ⟨by decide +kernel, rfl⟩
theorem d_d_backUp_14 : DF b_d_backUp 14 17 46 .eq := ⟨32, by decide +kernel, by decide, rfl⟩
theorem d_d_backUp_17 : DC 1 b_d_backUp 17 18 (.aload_n 0) := ⟨by decide +kernel, rfl⟩
theorem d_d_backUp_18 : DC 1 b_d_backUp 18 19 (.aload_n 0) := ⟨by decide +kernel, rfl⟩
theorem d_d_backUp_19 : DC 3 b_d_backUp 19 22 (.getfield 33) := ⟨by decide +kernel, rfl⟩
theorem d_d_backUp_22 : DC 1 b_d_backUp 22 23 (.iload_n 2) := ⟨by decide +kernel, rfl⟩
theorem d_d_backUp_23 : DC 1 b_d_backUp 23 24 (.baload) := ⟨by decide +kernel, rfl⟩
theorem d_d_backUp_24 : DC 2 b_d_backUp 24 26 (.bipush 7) := ⟨by decide +kernel, rfl⟩
theorem d_d_backUp_26 : DC 1 b_d_backUp 26 27 (.idiv) := ⟨by decide +kernel, rfl⟩
theorem d_d_backUp_27 : DC 1 b_d_backUp 27 28 (.aload_n 0) := ⟨by decide +kernel, rfl⟩
theorem d_d_backUp_28 : DC 3 b_d_backUp 28 31 (.getfield 33) := ⟨by decide +kernel, rfl⟩
theorem d_d_backUp_31 : DC 1 b_d_backUp 31 32 (.iload_n 2) := ⟨by decide +kernel, rfl⟩
theorem d_d_backUp_32 : DC 1 b_d_backUp 32 33 (.baload) := ⟨by decide +kernel, rfl⟩
theorem d_d_backUp_33 : DC 2 b_d_backUp 33 35 (.bipush 7) := ⟨by decide +kernel, rfl⟩
theorem d_d_backUp_35 : DC 1 b_d_backUp 35 36 (.irem) := ⟨by decide +kernel, rfl⟩
theorem d_d_backUp_36 : DC 1 b_d_backUp 36 37 (.iconst 0) := ⟨by decide +kernel, rfl⟩
theorem d_d_backUp_37 : DC 3 b_d_backUp 37 40 (.invokevirtual 67) := ⟨by decide +kernel, rfl⟩
theorem d_d_backUp_40 : DC 3 b_d_backUp 40 43 (.iinc 2 (-1)) := ⟨by decide +kernel, rfl⟩
theorem d_d_backUp_43 : DG b_d_backUp 43 4 := ⟨-39, by decide +kernel, by decide⟩
theorem d_d_backUp_46 : DC 1 b_d_backUp 46 47 (.iload_n 2) := ⟨by decide +kernel, rfl⟩
theorem d_d_backUp_47 : DF b_d_backUp 47 50 52 .ge := ⟨5, by decide +kernel, by decide, rfl⟩
theorem d_d_backUp_50 : DC 1 b_d_backUp 50 51 (.iconst (-1)) := ⟨by decide +kernel, rfl⟩
theorem d_d_backUp_51 : DC 1 b_d_backUp 51 52 (.ireturn) := ⟨by decide +kernel, rfl⟩
theorem d_d_backUp_52 : DC 1 b_d_backUp 52 53 (.aload_n 0) := ⟨by decide +kernel, rfl⟩
theorem d_d_backUp_53 : DC 3 b_d_backUp 53 56 (.getfield 36) := ⟨by decide +kernel, rfl⟩
theorem d_d_backUp_56 : DC 1 b_d_backUp 56 57 (.iload_n 2) := ⟨by decide +kernel, rfl⟩
theorem d_d_backUp_57 : DC 1 b_d_backUp 57 58 (.iconst 1) := ⟨by decide +kernel, rfl⟩
theorem d_d_backUp_58 : DC 1 b_d_backUp 58 59 (.bastore) := ⟨by decide +kernel, rfl⟩
theorem d_d_backUp_59 : DC 1 b_d_backUp 59 60 (.aload_n 0) := ⟨by decide +kernel, rfl⟩
theorem d_d_backUp_60 : DC 1 b_d_backUp 60 61 (.aload_n 0) := ⟨by decide +kernel, rfl⟩
theorem d_d_backUp_61 : DC 3 b_d_backUp 61 64 (.getfield 33) := ⟨by decide +kernel, rfl⟩
theorem d_d_backUp_64 : DC 1 b_d_backUp 64 65 (.iload_n 2) := ⟨by decide +kernel, rfl⟩
theorem d_d_backUp_65 : DC 1 b_d_backUp 65 66 (.baload) := ⟨by decide +kernel, rfl⟩
theorem d_d_backUp_66 : DC 2 b_d_backUp 66 68 (.bipush 7) := ⟨by decide +kernel, rfl⟩
theorem d_d_backUp_68 : DC 1 b_d_backUp 68 69 (.idiv) := ⟨by decide +kernel, rfl⟩
theorem d_d_backUp_69 : DC 1 b_d_backUp 69 70 (.aload_n 0) := ⟨by decide +kernel, rfl⟩
theorem d_d_backUp_70 : DC 3 b_d_backUp 70 73 (.getfield 33) := ⟨by decide +kernel, rfl⟩
theorem d_d_backUp_73 : DC 1 b_d_backUp 73 74 (.iload_n 2) := ⟨by decide +kernel, rfl⟩
theorem d_d_backUp_74 : DC 1 b_d_backUp 74 75 (.baload) := ⟨by decide +kernel, rfl⟩
theorem d_d_backUp_75 : DC 2 b_d_backUp 75 77 (.bipush 7) := ⟨by decide +kernel, rfl⟩
theorem d_d_backUp_77 : DC 1 b_d_backUp 77 78 (.irem) := ⟨by decide +kernel, rfl⟩
theorem d_d_backUp_78 : DC 1 b_d_backUp 78 79 (.iconst 1) := ⟨by decide +kernel, rfl⟩
theorem d_d_backUp_79 : DC 3 b_d_backUp 79 82 (.invokevirtual 67) := ⟨by decide +kernel, rfl⟩
theorem d_d_backUp_82 : DC 1 b_d_backUp 82 83 (.iload_n 2) := ⟨by decide +kernel, rfl⟩
theorem d_d_backUp_83 : DC 1 b_d_backUp 83 84 (.iconst 1) := ⟨by decide +kernel, rfl⟩
theorem d_d_backUp_84 : DC 1 b_d_backUp 84 85 (.iadd) := ⟨by decide +kernel, rfl⟩
theorem d_d_backUp_85 : DC 1 b_d_backUp 85 86 (.ireturn) := ⟨by decide +kernel, rfl⟩
theorem d_d_examine_0 : DC 1 b_d_examine 0 1 (.iconst 0) := ⟨by decide +kernel, rfl⟩
theorem d_d_examine_1 : DC 1 b_d_examine 1 2 (.istore_n 1) := ⟨by decide +kernel, rfl⟩
theorem d_d_examine_2 : DC 1 b_d_examine 2 3 (.iload_n 1) := ⟨by decide +kernel, rfl⟩
theorem d_d_examine_3 : DC 1 b_d_examine 3 4 (.aload_n 0) := ⟨by decide +kernel, rfl⟩
theorem d_d_examine_4 : DC 3 b_d_examine 4 7 (.getfield 42) := ⟨by decide +kernel, rfl⟩
theorem d_d_examine_7 : DI b_d_examine 7 10 23 .ge := ⟨16, by decide +kernel, by decide, rfl⟩
theorem d_d_examine_10 : DC 1 b_d_examine 10 11 (.aload_n 0) := ⟨by decide +kernel, rfl⟩
theorem d_d_examine_11 : DC 3 b_d_examine 11 14 (.getfield 19) := ⟨by decide +kernel, rfl⟩
theorem d_d_examine_14 : DC 1 b_d_examine 14 15 (.iload_n 1) := ⟨by decide +kernel, rfl⟩
theorem d_d_examine_15 : DC 1 b_d_examine 15 16 (.iconst 0) := ⟨by decide +kernel, rfl⟩
theorem d_d_examine_16 : DC 1 b_d_examine 16 17 (.iastore) := ⟨by decide +kernel, rfl⟩
theorem d_d_examine_17 : DC 3 b_d_examine 17 20 (.iinc 1 1) := ⟨by decide +kernel, rfl⟩
theorem d_d_examine_20 : DG b_d_examine 20 2 := ⟨-18, by decide +kernel, by decide⟩
theorem d_d_examine_23 : DC 2 b_d_examine 23 25 (.bipush 32) := ⟨by decide +kernel, rfl⟩
theorem d_d_examine_25 : DC 1 b_d_examine 25 26 (.istore_n 1) := ⟨by decide +kernel, rfl⟩
theorem d_d_examine_26 : DC 1 b_d_examine 26 27 (.iconst 0) := ⟨by decide +kernel, rfl⟩
theorem d_d_examine_27 : DC 1 b_d_examine 27 28 (.istore_n 2) := ⟨by decide +kernel, rfl⟩
theorem d_d_examine_28 : DC 1 b_d_examine 28 29 (.iload_n 2) := ⟨by decide +kernel, rfl⟩
theorem d_d_examine_29 : DC 2 b_d_examine 29 31 (.bipush 24) := ⟨by decide +kernel, rfl⟩
theorem d_d_examine_31 : DI b_d_examine 31 34 109 .ge := ⟨78, by decide +kernel, by decide, rfl⟩
theorem d_d_examine_34 : DC 1 b_d_examine 34 35 (.aload_n 0) := ⟨by decide +kernel, rfl⟩
theorem d_d_examine_35 : DC 3 b_d_examine 35 38 (.invokevirtual 96) := ⟨by decide +kernel, rfl⟩
theorem d_d_examine_38 : DF b_d_examine 38 41 43 .ne := ⟨5, by decide +kernel, by decide, rfl⟩
theorem d_d_examine_41 : DC 1 b_d_examine 41 42 (.iconst (-1)) := ⟨by decide +kernel, rfl⟩
theorem d_d_examine_42 : DC 1 b_d_examine 42 43 (.ireturn) := ⟨by decide +kernel, rfl⟩
theorem d_d_examine_43 : DC 1 b_d_examine 43 44 (.aload_n 0) := ⟨by decide +kernel, rfl⟩
theorem d_d_examine_44 : DC 3 b_d_examine 44 47 (.getfield 100) := ⟨by decide +kernel, rfl⟩
theorem d_d_examine_47 : DC 1 b_d_examine 47 48 (.aload_n 0) := ⟨by decide +kernel, rfl⟩
theorem d_d_examine_48 : DC 3 b_d_examine 48 51 (.invokevirtual 103) := ⟨by decide +kernel, rfl⟩
theorem d_d_examine_51 : DC 1 b_d_examine 51 52 (.isub) := ⟨by decide +kernel, rfl⟩
theorem d_d_examine_52 : DC 1 b_d_examine 52 53 (.istore_n 3) := ⟨by decide +kernel, rfl⟩
theorem d_d_examine_53 : DC 1 b_d_examine 53 54 (.iload_n 3) := ⟨by decide +kernel, rfl⟩
theorem d_d_examine_54 : DC 1 b_d_examine 54 55 (.aload_n 0) := ⟨by decide +kernel, rfl⟩
theorem d_d_examine_55 : DC 3 b_d_examine 55 58 (.getfield 85) := ⟨by decide +kernel, rfl⟩
theorem d_d_examine_58 : DI b_d_examine 58 61 63 .lt := ⟨5, by decide +kernel, by decide, rfl⟩
theorem d_d_examine_61 : DC 1 b_d_examine 61 62 (.iconst (-1)) := ⟨by decide +kernel, rfl⟩
theorem d_d_examine_62 : DC 1 b_d_examine 62 63 (.ireturn) := ⟨by decide +kernel, rfl⟩
theorem d_d_examine_63 : DC 1 b_d_examine 63 64 (.aload_n 0) := ⟨by decide +kernel, rfl⟩
theorem d_d_examine_64 : DC 3 b_d_examine 64 67 (.invokevirtual 106) := ⟨by decide +kernel, rfl⟩
theorem d_d_examine_67 : DF b_d_examine 67 70 77 .eq := ⟨10, by decide +kernel, by decide, rfl⟩
theorem d_d_examine_70 : DC 1 b_d_examine 70 71 (.aload_n 0) := ⟨by decide +kernel, rfl⟩
theorem d_d_examine_71 : DC 1 b_d_examine 71 72 (.iload_n 3) := ⟨by decide +kernel, rfl⟩
theorem d_d_examine_72 : DC 3 b_d_examine 72 75 (.putfield 85) := ⟨by decide +kernel, rfl⟩
theorem d_d_examine_75 : DC 1 b_d_examine 75 76 (.iconst (-1)) := ⟨by decide +kernel, rfl⟩
theorem d_d_examine_76 : DC 1 b_d_examine 76 77 (.ireturn) := ⟨by decide +kernel, rfl⟩
theorem d_d_examine_77 : DC 1 b_d_examine 77 78 (.iload_n 2) := ⟨by decide +kernel, rfl⟩
theorem d_d_examine_78 : DC 2 b_d_examine 78 80 (.bipush 23) := ⟨by decide +kernel, rfl⟩
theorem d_d_examine_80 : DI b_d_examine 80 83 103 .ge := ⟨23, by decide +kernel, by decide, rfl⟩
theorem d_d_examine_83 : DC 1 b_d_examine 83 84 (.aload_n 0) := ⟨by decide +kernel, rfl⟩
theorem d_d_examine_84 : DC 1 b_d_examine 84 85 (.iload_n 1) := ⟨by decide +kernel, rfl⟩
theorem d_d_examine_85 : DC 3 b_d_examine 85 88 (.invokevirtual 109) := ⟨by decide +kernel, rfl⟩
theorem d_d_examine_88 : DC 1 b_d_examine 88 89 (.iload_n 1) := ⟨by decide +kernel, rfl⟩
theorem d_d_examine_89 : DC 1 b_d_examine 89 90 (.iconst 2) := ⟨by decide +kernel, rfl⟩
theorem d_d_examine_90 : DI b_d_examine 90 93 101 .le := ⟨11, by decide +kernel, by decide, rfl⟩
theorem d_d_examine_93 : DC 1 b_d_examine 93 94 (.iload_n 1) := ⟨by decide +kernel, rfl⟩
theorem d_d_examine_94 : DC 1 b_d_examine 94 95 (.iload_n 1) := ⟨by decide +kernel, rfl⟩
theorem d_d_examine_95 : DC 1 b_d_examine 95 96 (.iconst 2) := ⟨by decide +kernel, rfl⟩
theorem d_d_examine_96 : DC 1 b_d_examine 96 97 (.ishr) := ⟨by decide +kernel, rfl⟩
theorem d_d_examine_97 : DC 1 b_d_examine 97 98 (.isub) := ⟨by decide +kernel, rfl⟩
theorem d_d_examine_98 : DG b_d_examine 98 102 := ⟨4, by decide +kernel, by decide⟩
theorem d_d_examine_101 : DC 1 b_d_examine 101 102 (.iconst 1) := ⟨by decide +kernel, rfl⟩
theorem d_d_examine_102 : DC 1 b_d_examine 102 103 (.istore_n 1) := ⟨by decide +kernel, rfl⟩
theorem d_d_examine_103 : DC 3 b_d_examine 103 106 (.iinc 2 1) := ⟨by decide +kernel, rfl⟩
theorem d_d_examine_106 : DG b_d_examine 106 28 := ⟨-78, by decide +kernel, by decide⟩
theorem d_d_examine_109 : DC 1 b_d_examine 109 110 (.aload_n 0) := ⟨by decide +kernel, rfl⟩
theorem d_d_examine_110 : DC 3 b_d_examine 110 113 (.invokevirtual 113) := ⟨by decide +kernel, rfl⟩
theorem d_d_examine_113 : DC 1 b_d_examine 113 114 (.ireturn) := ⟨by decide +kernel, rfl⟩
theorem d_d_twicePenalties_0 : DC 1 b_d_twicePenalties 0 1 (.iconst 0) := ⟨by decide +kernel, rfl⟩
theorem d_d_twicePenalties_1 : DC 1 b_d_twicePenalties 1 2 (.istore_n 1) := ⟨by decide +kernel, rfl⟩
theorem d_d_twicePenalties_2 : DC 1 b_d_twicePenalties 2 3 (.iconst 0) := ⟨by decide +kernel, rfl⟩
theorem d_d_twicePenalties_3 : DC 1 b_d_twicePenalties 3 4 (.istore_n 2) := ⟨by decide +kernel, rfl⟩
theorem d_d_twicePenalties_4 : DC 1 b_d_twicePenalties 4 5 (.iload_n 2) := ⟨by decide +kernel, rfl⟩
theorem d_d_twicePenalties_5 : DC 1 b_d_twicePenalties 5 6 (.aload_n 0) := ⟨by decide +kernel, rfl⟩
theorem d_d_twicePenalties_6 : DC 3 b_d_twicePenalties 6 9 (.getfield 42) := ⟨by decide +kernel, rfl⟩
theorem d_d_twicePenalties_9 : DI b_d_twicePenalties 9 12 27 .ge := ⟨18, by decide +kernel, by decide, rfl⟩
theorem d_d_twicePenalties_12 : DC 1 b_d_twicePenalties 12 13 (.iload_n 1) := ⟨by decide +kernel, rfl⟩
theorem d_d_twicePenalties_13 : DC 1 b_d_twicePenalties 13 14 (.aload_n 0) := ⟨by decide +kernel, rfl⟩
theorem d_d_twicePenalties_14 : DC 3 b_d_twicePenalties 14 17 (.getfield 19) := ⟨by decide +kernel, rfl⟩
theorem d_d_twicePenalties_17 : DC 1 b_d_twicePenalties 17 18 (.iload_n 2) := ⟨by decide +kernel, rfl⟩
theorem d_d_twicePenalties_18 : DC 1 b_d_twicePenalties 18 19 (.iaload) := ⟨by decide +kernel, rfl⟩
theorem d_d_twicePenalties_19 : DC 1 b_d_twicePenalties 19 20 (.iadd) := ⟨by decide +kernel, rfl⟩
theorem d_d_twicePenalties_20 : DC 1 b_d_twicePenalties 20 21 (.istore_n 1) := ⟨by decide +kernel, rfl⟩
theorem d_d_twicePenalties_21 : DC 3 b_d_twicePenalties 21 24 (.iinc 2 1) := ⟨by decide +kernel, rfl⟩
theorem d_d_twicePenalties_24 : DG b_d_twicePenalties 24 4 := ⟨-20, by decide +kernel, by decide⟩
theorem d_d_twicePenalties_27 : DC 1 b_d_twicePenalties 27 28 (.iconst 2) := ⟨by decide +kernel, rfl⟩
theorem d_d_twicePenalties_28 : DC 1 b_d_twicePenalties 28 29 (.iload_n 1) := ⟨by decide +kernel, rfl⟩
theorem d_d_twicePenalties_29 : DC 1 b_d_twicePenalties 29 30 (.imul) := ⟨by decide +kernel, rfl⟩
theorem d_d_twicePenalties_30 : DC 1 b_d_twicePenalties 30 31 (.ireturn) := ⟨by decide +kernel, rfl⟩
theorem d_d_isTour_0 : DC 1 b_d_isTour 0 1 (.iconst 0) := ⟨by decide +kernel, rfl⟩
theorem d_d_isTour_1 : DC 1 b_d_isTour 1 2 (.istore_n 1) := ⟨by decide +kernel, rfl⟩
theorem d_d_isTour_2 : DC 1 b_d_isTour 2 3 (.iload_n 1) := ⟨by decide +kernel, rfl⟩
theorem d_d_isTour_3 : DC 1 b_d_isTour 3 4 (.aload_n 0) := ⟨by decide +kernel, rfl⟩
theorem d_d_isTour_4 : DC 3 b_d_isTour 4 7 (.getfield 42) := ⟨by decide +kernel, rfl⟩
theorem d_d_isTour_7 : DI b_d_isTour 7 10 28 .ge := ⟨21, by decide +kernel, by decide, rfl⟩
theorem d_d_isTour_10 : DC 1 b_d_isTour 10 11 (.aload_n 0) := ⟨by decide +kernel, rfl⟩
theorem d_d_isTour_11 : DC 3 b_d_isTour 11 14 (.getfield 26) := ⟨by decide +kernel, rfl⟩
theorem d_d_isTour_14 : DC 1 b_d_isTour 14 15 (.iload_n 1) := ⟨by decide +kernel, rfl⟩
theorem d_d_isTour_15 : DC 1 b_d_isTour 15 16 (.baload) := ⟨by decide +kernel, rfl⟩
theorem d_d_isTour_16 : DC 1 b_d_isTour 16 17 (.iconst 2) := ⟨by decide +kernel, rfl⟩
theorem d_d_isTour_17 : DI b_d_isTour 17 20 22 .eq := ⟨5, by decide +kernel, by decide, rfl⟩
theorem d_d_isTour_20 : DC 1 b_d_isTour 20 21 (.iconst 0) := ⟨by decide +kernel, rfl⟩
theorem d_d_isTour_21 : DC 1 b_d_isTour 21 22 (.ireturn) := ⟨by decide +kernel, rfl⟩
theorem d_d_isTour_22 : DC 3 b_d_isTour 22 25 (.iinc 1 1) := ⟨by decide +kernel, rfl⟩
theorem d_d_isTour_25 : DG b_d_isTour 25 2 := ⟨-23, by decide +kernel, by decide⟩
theorem d_d_isTour_28 : DC 1 b_d_isTour 28 29 (.iconst 1) := ⟨by decide +kernel, rfl⟩
theorem d_d_isTour_29 : DC 1 b_d_isTour 29 30 (.ireturn) := ⟨by decide +kernel, rfl⟩
theorem d_d_bend_0 : DC 1 b_d_bend 0 1 (.iconst 0) := ⟨by decide +kernel, rfl⟩
theorem d_d_bend_1 : DC 1 b_d_bend 1 2 (.istore_n 2) := ⟨by decide +kernel, rfl⟩
theorem d_d_bend_2 : DC 1 b_d_bend 2 3 (.iload_n 2) := ⟨by decide +kernel, rfl⟩
theorem d_d_bend_3 : DC 1 b_d_bend 3 4 (.aload_n 0) := ⟨by decide +kernel, rfl⟩
theorem d_d_bend_4 : DC 3 b_d_bend 4 7 (.getfield 42) := ⟨by decide +kernel, rfl⟩
theorem d_d_bend_7 : DI b_d_bend 7 10 35 .ge := ⟨28, by decide +kernel, by decide, rfl⟩
theorem d_d_bend_10 : DC 1 b_d_bend 10 11 (.aload_n 0) := ⟨by decide +kernel, rfl⟩
theorem d_d_bend_11 : DC 3 b_d_bend 11 14 (.getfield 19) := ⟨by decide +kernel, rfl⟩
theorem d_d_bend_14 : DC 1 b_d_bend 14 15 (.iload_n 2) := ⟨by decide +kernel, rfl⟩
theorem d_d_bend_15 : DC 1 b_d_bend 15 16 (.dup2) := ⟨by decide +kernel, rfl⟩
theorem d_d_bend_16 : DC 1 b_d_bend 16 17 (.iaload) := ⟨by decide +kernel, rfl⟩
theorem d_d_bend_17 : DC 1 b_d_bend 17 18 (.iload_n 1) := ⟨by decide +kernel, rfl⟩
theorem d_d_bend_18 : DC 1 b_d_bend 18 19 (.aload_n 0) := ⟨by decide +kernel, rfl⟩
theorem d_d_bend_19 : DC 3 b_d_bend 19 22 (.getfield 26) := ⟨by decide +kernel, rfl⟩
theorem d_d_bend_22 : DC 1 b_d_bend 22 23 (.iload_n 2) := ⟨by decide +kernel, rfl⟩
theorem d_d_bend_23 : DC 1 b_d_bend 23 24 (.baload) := ⟨by decide +kernel, rfl⟩
theorem d_d_bend_24 : DC 1 b_d_bend 24 25 (.iconst 2) := ⟨by decide +kernel, rfl⟩
theorem d_d_bend_25 : DC 1 b_d_bend 25 26 (.isub) := ⟨by decide +kernel, rfl⟩
theorem d_d_bend_26 : DC 1 b_d_bend 26 27 (.imul) := ⟨by decide +kernel, rfl⟩
theorem d_d_bend_27 : DC 1 b_d_bend 27 28 (.iadd) := ⟨by decide +kernel, rfl⟩
theorem d_d_bend_28 : DC 1 b_d_bend 28 29 (.iastore) := ⟨by decide +kernel, rfl⟩
theorem d_d_bend_29 : DC 3 b_d_bend 29 32 (.iinc 2 1) := ⟨by decide +kernel, rfl⟩
theorem d_d_bend_32 : DG b_d_bend 32 2 := ⟨-30, by decide +kernel, by decide⟩
theorem d_d_bend_35 : DC 1 b_d_bend 35 36 (.return_) := ⟨by decide +kernel, rfl⟩
theorem d_d_linkToBranch_0 : DC 1 b_d_linkToBranch 0 1 (.iconst 0) := ⟨by decide +kernel, rfl⟩
theorem d_d_linkToBranch_1 : DC 1 b_d_linkToBranch 1 2 (.istore_n 1) := ⟨by decide +kernel, rfl⟩
theorem d_d_linkToBranch_2 : DC 1 b_d_linkToBranch 2 3 (.iload_n 1) := ⟨by decide +kernel, rfl⟩
theorem d_d_linkToBranch_3 : DC 1 b_d_linkToBranch 3 4 (.aload_n 0) := ⟨by decide +kernel, rfl⟩
theorem d_d_linkToBranch_4 : DC 3 b_d_linkToBranch 4 7 (.getfield 42) := ⟨by decide +kernel, rfl⟩
theorem d_d_linkToBranch_7 : DI b_d_linkToBranch 7 10 69 .ge := ⟨62, by decide +kernel, by decide, rfl⟩
theorem d_d_linkToBranch_10 : DC 1 b_d_linkToBranch 10 11 (.iconst 0) := ⟨by decide +kernel, rfl⟩
theorem d_d_linkToBranch_11 : DC 1 b_d_linkToBranch 11 12 (.istore_n 2) := ⟨by decide +kernel, rfl⟩
theorem d_d_linkToBranch_12 : DC 1 b_d_linkToBranch 12 13 (.iload_n 2) := ⟨by decide +kernel, rfl⟩
theorem d_d_linkToBranch_13 : DC 1 b_d_linkToBranch 13 14 (.aload_n 0) := ⟨by decide +kernel, rfl⟩
theorem d_d_linkToBranch_14 : DC 3 b_d_linkToBranch 14 17 (.getfield 42) := ⟨by decide +kernel, rfl⟩
theorem d_d_linkToBranch_17 : DI b_d_linkToBranch 17 20 63 .ge := ⟨46, by decide +kernel, by decide, rfl⟩
theorem d_d_linkToBranch_20 : DC 1 b_d_linkToBranch 20 21 (.iload_n 1) := ⟨by decide +kernel, rfl⟩
theorem d_d_linkToBranch_21 : DC 2 b_d_linkToBranch 21 23 (.bipush 7) := ⟨by decide +kernel, rfl⟩
theorem d_d_linkToBranch_23 : DC 1 b_d_linkToBranch 23 24 (.imul) := ⟨by decide +kernel, rfl⟩
theorem d_d_linkToBranch_24 : DC 1 b_d_linkToBranch 24 25 (.iload_n 2) := ⟨by decide +kernel, rfl⟩
theorem d_d_linkToBranch_25 : DC 1 b_d_linkToBranch 25 26 (.iadd) := ⟨by decide +kernel, rfl⟩
theorem d_d_linkToBranch_26 : DC 1 b_d_linkToBranch 26 27 (.istore_n 3) := ⟨by decide +kernel, rfl⟩
theorem d_d_linkToBranch_27 : DC 1 b_d_linkToBranch 27 28 (.aload_n 0) := ⟨by decide +kernel, rfl⟩
theorem d_d_linkToBranch_28 : DC 3 b_d_linkToBranch 28 31 (.getfield 26) := ⟨by decide +kernel, rfl⟩
theorem d_d_linkToBranch_31 : DC 1 b_d_linkToBranch 31 32 (.iload_n 1) := ⟨by decide +kernel, rfl⟩
theorem d_d_linkToBranch_32 : DC 1 b_d_linkToBranch 32 33 (.baload) := ⟨by decide +kernel, rfl⟩
theorem d_d_linkToBranch_33 : DC 1 b_d_linkToBranch 33 34 (.iconst 2) := ⟨by decide +kernel, rfl⟩
theorem d_d_linkToBranch_34 : DI b_d_linkToBranch 34 37 57 .le := ⟨23, by decide +kernel, by decide, rfl⟩
theorem d_d_linkToBranch_37 : DC 1 b_d_linkToBranch 37 38 (.aload_n 0) := ⟨by decide +kernel, rfl⟩
theorem d_d_linkToBranch_38 : DC 3 b_d_linkToBranch 38 41 (.getfield 29) := ⟨by decide +kernel, rfl⟩
theorem d_d_linkToBranch_41 : DC 1 b_d_linkToBranch 41 42 (.iload_n 3) := ⟨by decide +kernel, rfl⟩
theorem d_d_linkToBranch_42 : DC 1 b_d_linkToBranch 42 43 (.baload) := ⟨by decide +kernel, rfl⟩
theorem d_d_linkToBranch_43 : DF b_d_linkToBranch 43 46 57 .eq := ⟨14, by decide +kernel, by decide, rfl⟩
theorem d_d_linkToBranch_46 : DC 1 b_d_linkToBranch 46 47 (.aload_n 0) := ⟨by decide +kernel, rfl⟩
theorem d_d_linkToBranch_47 : DC 3 b_d_linkToBranch 47 50 (.getfield 16) := ⟨by decide +kernel, rfl⟩
theorem d_d_linkToBranch_50 : DC 1 b_d_linkToBranch 50 51 (.iload_n 3) := ⟨by decide +kernel, rfl⟩
theorem d_d_linkToBranch_51 : DC 1 b_d_linkToBranch 51 52 (.baload) := ⟨by decide +kernel, rfl⟩
theorem d_d_linkToBranch_52 : DF b_d_linkToBranch 52 55 57 .ne := ⟨5, by decide +kernel, by decide, rfl⟩
theorem d_d_linkToBranch_55 : DC 1 b_d_linkToBranch 55 56 (.iload_n 3) := ⟨by decide +kernel, rfl⟩
theorem d_d_linkToBranch_56 : DC 1 b_d_linkToBranch 56 57 (.ireturn) := ⟨by decide +kernel, rfl⟩
theorem d_d_linkToBranch_57 : DC 3 b_d_linkToBranch 57 60 (.iinc 2 1) := ⟨by decide +kernel, rfl⟩
theorem d_d_linkToBranch_60 : DG b_d_linkToBranch 60 12 := ⟨-48, by decide +kernel, by decide⟩
theorem d_d_linkToBranch_63 : DC 3 b_d_linkToBranch 63 66 (.iinc 1 1) := ⟨by decide +kernel, rfl⟩
theorem d_d_linkToBranch_66 : DG b_d_linkToBranch 66 2 := ⟨-64, by decide +kernel, by decide⟩
theorem d_d_linkToBranch_69 : DC 1 b_d_linkToBranch 69 70 (.iconst (-1)) := ⟨by decide +kernel, rfl⟩
theorem d_d_linkToBranch_70 : DC 1 b_d_linkToBranch 70 71 (.ireturn) := ⟨by decide +kernel, rfl⟩
theorem d_d_build_0 : DC 1 b_d_build 0 1 (.aload_n 0) := ⟨by decide +kernel, rfl⟩
theorem d_d_build_1 : DC 1 b_d_build 1 2 (.iconst 0) := ⟨by decide +kernel, rfl⟩
theorem d_d_build_2 : DC 3 b_d_build 2 5 (.putfield 100) := ⟨by decide +kernel, rfl⟩
theorem d_d_build_5 : DC 1 b_d_build 5 6 (.iconst 0) := ⟨by decide +kernel, rfl⟩
theorem d_d_build_6 : DC 1 b_d_build 6 7 (.istore_n 1) := ⟨by decide +kernel, rfl⟩
theorem d_d_build_7 : DC 1 b_d_build 7 8 (.iload_n 1) := ⟨by decide +kernel, rfl⟩
theorem d_d_build_8 : DC 1 b_d_build 8 9 (.aload_n 0) := ⟨by decide +kernel, rfl⟩
theorem d_d_build_9 : DC 3 b_d_build 9 12 (.getfield 42) := ⟨by decide +kernel, rfl⟩
theorem d_d_build_12 : DI b_d_build 12 15 36 .ge := ⟨24, by decide +kernel, by decide, rfl⟩
theorem d_d_build_15 : DC 1 b_d_build 15 16 (.aload_n 0) := ⟨by decide +kernel, rfl⟩
theorem d_d_build_16 : DC 3 b_d_build 16 19 (.getfield 23) := ⟨by decide +kernel, rfl⟩
theorem d_d_build_19 : DC 1 b_d_build 19 20 (.iload_n 1) := ⟨by decide +kernel, rfl⟩
theorem d_d_build_20 : DC 1 b_d_build 20 21 (.iload_n 1) := ⟨by decide +kernel, rfl⟩
theorem d_d_build_21 : DC 1 b_d_build 21 22 (.i2b) := ⟨by decide +kernel, rfl⟩
theorem d_d_build_22 : DC 1 b_d_build 22 23 (.bastore) := ⟨by decide +kernel, rfl⟩
theorem d_d_build_23 : DC 1 b_d_build 23 24 (.aload_n 0) := ⟨by decide +kernel, rfl⟩
theorem d_d_build_24 : DC 3 b_d_build 24 27 (.getfield 26) := ⟨by decide +kernel, rfl⟩
theorem d_d_build_27 : DC 1 b_d_build 27 28 (.iload_n 1) := ⟨by decide +kernel, rfl⟩
theorem d_d_build_28 : DC 1 b_d_build 28 29 (.iconst 0) := ⟨by decide +kernel, rfl⟩
theorem d_d_build_29 : DC 1 b_d_build 29 30 (.bastore) := ⟨by decide +kernel, rfl⟩
theorem d_d_build_30 : DC 3 b_d_build 30 33 (.iinc 1 1) := ⟨by decide +kernel, rfl⟩
theorem d_d_build_33 : DG b_d_build 33 7 := ⟨-26, by decide +kernel, by decide⟩
theorem d_d_build_36 : DC 1 b_d_build 36 37 (.iconst 0) := ⟨by decide +kernel, rfl⟩
theorem d_d_build_37 : DC 1 b_d_build 37 38 (.istore_n 1) := ⟨by decide +kernel, rfl⟩
theorem d_d_build_38 : DC 1 b_d_build 38 39 (.iload_n 1) := ⟨by decide +kernel, rfl⟩
theorem d_d_build_39 : DC 2 b_d_build 39 41 (.bipush 49) := ⟨by decide +kernel, rfl⟩
theorem d_d_build_41 : DI b_d_build 41 44 57 .ge := ⟨16, by decide +kernel, by decide, rfl⟩
theorem d_d_build_44 : DC 1 b_d_build 44 45 (.aload_n 0) := ⟨by decide +kernel, rfl⟩
theorem d_d_build_45 : DC 3 b_d_build 45 48 (.getfield 29) := ⟨by decide +kernel, rfl⟩
theorem d_d_build_48 : DC 1 b_d_build 48 49 (.iload_n 1) := ⟨by decide +kernel, rfl⟩
theorem d_d_build_49 : DC 1 b_d_build 49 50 (.iconst 0) := ⟨by decide +kernel, rfl⟩
theorem d_d_build_50 : DC 1 b_d_build 50 51 (.bastore) := ⟨by decide +kernel, rfl⟩
theorem d_d_build_51 : DC 3 b_d_build 51 54 (.iinc 1 1) := ⟨by decide +kernel, rfl⟩
theorem d_d_build_54 : DG b_d_build 54 38 := ⟨-16, by decide +kernel, by decide⟩
theorem d_d_build_57 : DC 1 b_d_build 57 58 (.aload_n 0) := ⟨by decide +kernel, rfl⟩
theorem d_d_build_58 : DC 3 b_d_build 58 61 (.invokevirtual 116) := ⟨by decide +kernel, rfl⟩
theorem d_d_build_61 : DF b_d_build 61 64 66 .ne := ⟨5, by decide +kernel, by decide, rfl⟩
theorem d_d_build_64 : DC 1 b_d_build 64 65 (.iconst 0) := ⟨by decide +kernel, rfl⟩
theorem d_d_build_65 : DC 1 b_d_build 65 66 (.ireturn) := ⟨by decide +kernel, rfl⟩
theorem d_d_build_66 : DC 1 b_d_build 66 67 (.aload_n 0) := ⟨by decide +kernel, rfl⟩
theorem d_d_build_67 : DC 3 b_d_build 67 70 (.invokevirtual 119) := ⟨by decide +kernel, rfl⟩
theorem d_d_build_70 : DF b_d_build 70 73 84 .eq := ⟨14, by decide +kernel, by decide, rfl⟩
theorem d_d_build_73 : DC 1 b_d_build 73 74 (.aload_n 0) := ⟨by decide +kernel, rfl⟩
theorem d_d_build_74 : DC 3 b_d_build 74 77 (.invokevirtual 122) := ⟨by decide +kernel, rfl⟩
theorem d_d_build_77 : DF b_d_build 77 80 84 .eq := ⟨7, by decide +kernel, by decide, rfl⟩
theorem d_d_build_80 : DC 1 b_d_build 80 81 (.iconst 1) := ⟨by decide +kernel, rfl⟩
theorem d_d_build_81 : DG b_d_build 81 85 := ⟨4, by decide +kernel, by decide⟩
theorem d_d_build_84 : DC 1 b_d_build 84 85 (.iconst 0) := ⟨by decide +kernel, rfl⟩
theorem d_d_build_85 : DC 1 b_d_build 85 86 (.ireturn) := ⟨by decide +kernel, rfl⟩
theorem d_d_takeRequired_0 : DC 1 b_d_takeRequired 0 1 (.iconst 0) := ⟨by decide +kernel, rfl⟩
theorem d_d_takeRequired_1 : DC 1 b_d_takeRequired 1 2 (.istore_n 1) := ⟨by decide +kernel, rfl⟩
theorem d_d_takeRequired_2 : DC 1 b_d_takeRequired 2 3 (.iload_n 1) := ⟨by decide +kernel, rfl⟩
theorem d_d_takeRequired_3 : DC 1 b_d_takeRequired 3 4 (.aload_n 0) := ⟨by decide +kernel, rfl⟩
theorem d_d_takeRequired_4 : DC 3 b_d_takeRequired 4 7 (.getfield 42) := ⟨by decide +kernel, rfl⟩
theorem d_d_takeRequired_7 : DI b_d_takeRequired 7 10 60 .ge := ⟨53, by decide +kernel, by decide, rfl⟩
theorem d_d_takeRequired_10 : DC 1 b_d_takeRequired 10 11 (.iload_n 1) := ⟨by decide +kernel, rfl⟩
theorem d_d_takeRequired_11 : DC 1 b_d_takeRequired 11 12 (.iconst 1) := ⟨by decide +kernel, rfl⟩
theorem d_d_takeRequired_12 : DC 1 b_d_takeRequired 12 13 (.iadd) := ⟨by decide +kernel, rfl⟩
theorem d_d_takeRequired_13 : DC 1 b_d_takeRequired 13 14 (.istore_n 2) := ⟨by decide +kernel, rfl⟩
theorem d_d_takeRequired_14 : DC 1 b_d_takeRequired 14 15 (.iload_n 2) := ⟨by decide +kernel, rfl⟩
theorem d_d_takeRequired_15 : DC 1 b_d_takeRequired 15 16 (.aload_n 0) := ⟨by decide +kernel, rfl⟩
theorem d_d_takeRequired_16 : DC 3 b_d_takeRequired 16 19 (.getfield 42) := ⟨by decide +kernel, rfl⟩
theorem d_d_takeRequired_19 : DI b_d_takeRequired 19 22 54 .ge := ⟨35, by decide +kernel, by decide, rfl⟩
theorem d_d_takeRequired_22 : DC 1 b_d_takeRequired 22 23 (.aload_n 0) := ⟨by decide +kernel, rfl⟩
theorem d_d_takeRequired_23 : DC 3 b_d_takeRequired 23 26 (.getfield 16) := ⟨by decide +kernel, rfl⟩
theorem d_d_takeRequired_26 : DC 1 b_d_takeRequired 26 27 (.iload_n 1) := ⟨by decide +kernel, rfl⟩
theorem d_d_takeRequired_27 : DC 2 b_d_takeRequired 27 29 (.bipush 7) := ⟨by decide +kernel, rfl⟩
theorem d_d_takeRequired_29 : DC 1 b_d_takeRequired 29 30 (.imul) := ⟨by decide +kernel, rfl⟩
theorem d_d_takeRequired_30 : DC 1 b_d_takeRequired 30 31 (.iload_n 2) := ⟨by decide +kernel, rfl⟩
theorem d_d_takeRequired_31 : DC 1 b_d_takeRequired 31 32 (.iadd) := ⟨by decide +kernel, rfl⟩
theorem d_d_takeRequired_32 : DC 1 b_d_takeRequired 32 33 (.baload) := ⟨by decide +kernel, rfl⟩
theorem d_d_takeRequired_33 : DC 1 b_d_takeRequired 33 34 (.iconst 1) := ⟨by decide +kernel, rfl⟩
theorem d_d_takeRequired_34 : DI b_d_takeRequired 34 37 48 .ne := ⟨14, by decide +kernel, by decide, rfl⟩
theorem d_d_takeRequired_37 : DC 1 b_d_takeRequired 37 38 (.aload_n 0) := ⟨by decide +kernel, rfl⟩
theorem d_d_takeRequired_38 : DC 1 b_d_takeRequired 38 39 (.iload_n 1) := ⟨by decide +kernel, rfl⟩
theorem d_d_takeRequired_39 : DC 1 b_d_takeRequired 39 40 (.iload_n 2) := ⟨by decide +kernel, rfl⟩
theorem d_d_takeRequired_40 : DC 3 b_d_takeRequired 40 43 (.invokevirtual 125) := ⟨by decide +kernel, rfl⟩
theorem d_d_takeRequired_43 : DF b_d_takeRequired 43 46 48 .ne := ⟨5, by decide +kernel, by decide, rfl⟩
theorem d_d_takeRequired_46 : DC 1 b_d_takeRequired 46 47 (.iconst 0) := ⟨by decide +kernel, rfl⟩
theorem d_d_takeRequired_47 : DC 1 b_d_takeRequired 47 48 (.ireturn) := ⟨by decide +kernel, rfl⟩
theorem d_d_takeRequired_48 : DC 3 b_d_takeRequired 48 51 (.iinc 2 1) := ⟨by decide +kernel, rfl⟩
theorem d_d_takeRequired_51 : DG b_d_takeRequired 51 14 := ⟨-37, by decide +kernel, by decide⟩
theorem d_d_takeRequired_54 : DC 3 b_d_takeRequired 54 57 (.iinc 1 1) := ⟨by decide +kernel, rfl⟩
theorem d_d_takeRequired_57 : DG b_d_takeRequired 57 2 := ⟨-55, by decide +kernel, by decide⟩
theorem d_d_takeRequired_60 : DC 1 b_d_takeRequired 60 61 (.iconst 1) := ⟨by decide +kernel, rfl⟩
theorem d_d_takeRequired_61 : DC 1 b_d_takeRequired 61 62 (.ireturn) := ⟨by decide +kernel, rfl⟩
theorem d_d_takeOne_0 : DC 1 b_d_takeOne 0 1 (.aload_n 0) := ⟨by decide +kernel, rfl⟩
theorem d_d_takeOne_1 : DC 3 b_d_takeOne 1 4 (.getfield 26) := ⟨by decide +kernel, rfl⟩
theorem d_d_takeOne_4 : DC 1 b_d_takeOne 4 5 (.iload_n 1) := ⟨by decide +kernel, rfl⟩
theorem d_d_takeOne_5 : DC 1 b_d_takeOne 5 6 (.baload) := ⟨by decide +kernel, rfl⟩
theorem d_d_takeOne_6 : DC 1 b_d_takeOne 6 7 (.iconst 2) := ⟨by decide +kernel, rfl⟩
theorem d_d_takeOne_7 : DI b_d_takeOne 7 10 20 .ge := ⟨13, by decide +kernel, by decide, rfl⟩
theorem d_d_takeOne_10 : DC 1 b_d_takeOne 10 11 (.aload_n 0) := ⟨by decide +kernel, rfl⟩
theorem d_d_takeOne_11 : DC 3 b_d_takeOne 11 14 (.getfield 26) := ⟨by decide +kernel, rfl⟩
theorem d_d_takeOne_14 : DC 1 b_d_takeOne 14 15 (.iload_n 2) := ⟨by decide +kernel, rfl⟩
theorem d_d_takeOne_15 : DC 1 b_d_takeOne 15 16 (.baload) := ⟨by decide +kernel, rfl⟩
theorem d_d_takeOne_16 : DC 1 b_d_takeOne 16 17 (.iconst 2) := ⟨by decide +kernel, rfl⟩
theorem d_d_takeOne_17 : DI b_d_takeOne 17 20 22 .lt := ⟨5, by decide +kernel, by decide, rfl⟩
theorem d_d_takeOne_20 : DC 1 b_d_takeOne 20 21 (.iconst 0) := ⟨by decide +kernel, rfl⟩
theorem d_d_takeOne_21 : DC 1 b_d_takeOne 21 22 (.ireturn) := ⟨by decide +kernel, rfl⟩
theorem d_d_takeOne_22 : DC 1 b_d_takeOne 22 23 (.iload_n 1) := ⟨by decide +kernel, rfl⟩
theorem d_d_takeOne_23 : DF b_d_takeOne 23 26 43 .eq := ⟨20, by decide +kernel, by decide, rfl⟩
theorem d_d_takeOne_26 : DC 1 b_d_takeOne 26 27 (.aload_n 0) := ⟨by decide +kernel, rfl⟩
theorem d_d_takeOne_27 : DC 3 b_d_takeOne 27 30 (.getfield 23) := ⟨by decide +kernel, rfl⟩
theorem d_d_takeOne_30 : DC 1 b_d_takeOne 30 31 (.iload_n 1) := ⟨by decide +kernel, rfl⟩
theorem d_d_takeOne_31 : DC 1 b_d_takeOne 31 32 (.baload) := ⟨by decide +kernel, rfl⟩
theorem d_d_takeOne_32 : DC 1 b_d_takeOne 32 33 (.aload_n 0) := ⟨by decide +kernel, rfl⟩
theorem d_d_takeOne_33 : DC 3 b_d_takeOne 33 36 (.getfield 23) := ⟨by decide +kernel, rfl⟩
theorem d_d_takeOne_36 : DC 1 b_d_takeOne 36 37 (.iload_n 2) := ⟨by decide +kernel, rfl⟩
theorem d_d_takeOne_37 : DC 1 b_d_takeOne 37 38 (.baload) := ⟨by decide +kernel, rfl⟩
theorem d_d_takeOne_38 : DI b_d_takeOne 38 41 43 .ne := ⟨5, by decide +kernel, by decide, rfl⟩
theorem d_d_takeOne_41 : DC 1 b_d_takeOne 41 42 (.iconst 0) := ⟨by decide +kernel, rfl⟩
theorem d_d_takeOne_42 : DC 1 b_d_takeOne 42 43 (.ireturn) := ⟨by decide +kernel, rfl⟩
theorem d_d_takeOne_43 : DC 1 b_d_takeOne 43 44 (.aload_n 0) := ⟨by decide +kernel, rfl⟩
theorem d_d_takeOne_44 : DC 1 b_d_takeOne 44 45 (.iload_n 1) := ⟨by decide +kernel, rfl⟩
theorem d_d_takeOne_45 : DC 1 b_d_takeOne 45 46 (.iload_n 2) := ⟨by decide +kernel, rfl⟩
theorem d_d_takeOne_46 : DC 3 b_d_takeOne 46 49 (.invokevirtual 128) := ⟨by decide +kernel, rfl⟩
theorem d_d_takeOne_49 : DC 1 b_d_takeOne 49 50 (.iconst 1) := ⟨by decide +kernel, rfl⟩
theorem d_d_takeOne_50 : DC 1 b_d_takeOne 50 51 (.ireturn) := ⟨by decide +kernel, rfl⟩
theorem d_d_take_0 : DC 1 b_d_take 0 1 (.iload_n 1) := ⟨by decide +kernel, rfl⟩
theorem d_d_take_1 : DC 2 b_d_take 1 3 (.bipush 7) := ⟨by decide +kernel, rfl⟩
theorem d_d_take_3 : DC 1 b_d_take 3 4 (.imul) := ⟨by decide +kernel, rfl⟩
theorem d_d_take_4 : DC 1 b_d_take 4 5 (.iload_n 2) := ⟨by decide +kernel, rfl⟩
theorem d_d_take_5 : DC 1 b_d_take 5 6 (.iadd) := ⟨by decide +kernel, rfl⟩
theorem d_d_take_6 : DC 1 b_d_take 6 7 (.istore_n 3) := ⟨by decide +kernel, rfl⟩
theorem d_d_take_7 : DC 1 b_d_take 7 8 (.aload_n 0) := ⟨by decide +kernel, rfl⟩
theorem d_d_take_8 : DC 3 b_d_take 8 11 (.getfield 29) := ⟨by decide +kernel, rfl⟩
theorem d_d_take_11 : DC 1 b_d_take 11 12 (.iload_n 3) := ⟨by decide +kernel, rfl⟩
theorem d_d_take_12 : DC 1 b_d_take 12 13 (.iconst 1) := ⟨by decide +kernel, rfl⟩
theorem d_d_take_13 : DC 1 b_d_take 13 14 (.bastore) := ⟨by decide +kernel, rfl⟩
theorem d_d_take_14 : DC 1 b_d_take 14 15 (.aload_n 0) := ⟨by decide +kernel, rfl⟩
theorem d_d_take_15 : DC 3 b_d_take 15 18 (.getfield 29) := ⟨by decide +kernel, rfl⟩
theorem d_d_take_18 : DC 1 b_d_take 18 19 (.iload_n 2) := ⟨by decide +kernel, rfl⟩
theorem d_d_take_19 : DC 2 b_d_take 19 21 (.bipush 7) := ⟨by decide +kernel, rfl⟩
theorem d_d_take_21 : DC 1 b_d_take 21 22 (.imul) := ⟨by decide +kernel, rfl⟩
theorem d_d_take_22 : DC 1 b_d_take 22 23 (.iload_n 1) := ⟨by decide +kernel, rfl⟩
theorem d_d_take_23 : DC 1 b_d_take 23 24 (.iadd) := ⟨by decide +kernel, rfl⟩
theorem d_d_take_24 : DC 1 b_d_take 24 25 (.iconst 1) := ⟨by decide +kernel, rfl⟩
theorem d_d_take_25 : DC 1 b_d_take 25 26 (.bastore) := ⟨by decide +kernel, rfl⟩
theorem d_d_take_26 : DC 1 b_d_take 26 27 (.aload_n 0) := ⟨by decide +kernel, rfl⟩
theorem d_d_take_27 : DC 3 b_d_take 27 30 (.getfield 26) := ⟨by decide +kernel, rfl⟩
theorem d_d_take_30 : DC 1 b_d_take 30 31 (.iload_n 1) := ⟨by decide +kernel, rfl⟩
theorem d_d_take_31 : DC 1 b_d_take 31 32 (.dup2) := ⟨by decide +kernel, rfl⟩
theorem d_d_take_32 : DC 1 b_d_take 32 33 (.baload) := ⟨by decide +kernel, rfl⟩
theorem d_d_take_33 : DC 1 b_d_take 33 34 (.iconst 1) := ⟨by decide +kernel, rfl⟩
theorem d_d_take_34 : DC 1 b_d_take 34 35 (.iadd) := ⟨by decide +kernel, rfl⟩
theorem d_d_take_35 : DC 1 b_d_take 35 36 (.i2b) := ⟨by decide +kernel, rfl⟩
theorem d_d_take_36 : DC 1 b_d_take 36 37 (.bastore) := ⟨by decide +kernel, rfl⟩
theorem d_d_take_37 : DC 1 b_d_take 37 38 (.aload_n 0) := ⟨by decide +kernel, rfl⟩
theorem d_d_take_38 : DC 3 b_d_take 38 41 (.getfield 26) := ⟨by decide +kernel, rfl⟩
theorem d_d_take_41 : DC 1 b_d_take 41 42 (.iload_n 2) := ⟨by decide +kernel, rfl⟩
theorem d_d_take_42 : DC 1 b_d_take 42 43 (.dup2) := ⟨by decide +kernel, rfl⟩
theorem d_d_take_43 : DC 1 b_d_take 43 44 (.baload) := ⟨by decide +kernel, rfl⟩
theorem d_d_take_44 : DC 1 b_d_take 44 45 (.iconst 1) := ⟨by decide +kernel, rfl⟩
theorem d_d_take_45 : DC 1 b_d_take 45 46 (.iadd) := ⟨by decide +kernel, rfl⟩
theorem d_d_take_46 : DC 1 b_d_take 46 47 (.i2b) := ⟨by decide +kernel, rfl⟩
theorem d_d_take_47 : DC 1 b_d_take 47 48 (.bastore) := ⟨by decide +kernel, rfl⟩
theorem d_d_take_48 : DC 1 b_d_take 48 49 (.aload_n 0) := ⟨by decide +kernel, rfl⟩
theorem d_d_take_49 : DC 1 b_d_take 49 50 (.dup) := ⟨by decide +kernel, rfl⟩
theorem d_d_take_50 : DC 3 b_d_take 50 53 (.getfield 100) := ⟨by decide +kernel, rfl⟩
theorem d_d_take_53 : DC 1 b_d_take 53 54 (.aload_n 0) := ⟨by decide +kernel, rfl⟩
theorem d_d_take_54 : DC 1 b_d_take 54 55 (.iload_n 1) := ⟨by decide +kernel, rfl⟩
theorem d_d_take_55 : DC 1 b_d_take 55 56 (.iload_n 2) := ⟨by decide +kernel, rfl⟩
theorem d_d_take_56 : DC 3 b_d_take 56 59 (.invokevirtual 132) := ⟨by decide +kernel, rfl⟩
theorem d_d_take_59 : DC 1 b_d_take 59 60 (.iadd) := ⟨by decide +kernel, rfl⟩
theorem d_d_take_60 : DC 3 b_d_take 60 63 (.putfield 100) := ⟨by decide +kernel, rfl⟩
theorem d_d_take_63 : DC 1 b_d_take 63 64 (.iload_n 1) := ⟨by decide +kernel, rfl⟩
theorem d_d_take_64 : DF b_d_take 64 67 87 .eq := ⟨23, by decide +kernel, by decide, rfl⟩
theorem d_d_take_67 : DC 1 b_d_take 67 68 (.iload_n 2) := ⟨by decide +kernel, rfl⟩
theorem d_d_take_68 : DF b_d_take 68 71 87 .eq := ⟨19, by decide +kernel, by decide, rfl⟩
theorem d_d_take_71 : DC 1 b_d_take 71 72 (.aload_n 0) := ⟨by decide +kernel, rfl⟩
theorem d_d_take_72 : DC 1 b_d_take 72 73 (.aload_n 0) := ⟨by decide +kernel, rfl⟩
theorem d_d_take_73 : DC 3 b_d_take 73 76 (.getfield 23) := ⟨by decide +kernel, rfl⟩
theorem d_d_take_76 : DC 1 b_d_take 76 77 (.iload_n 1) := ⟨by decide +kernel, rfl⟩
theorem d_d_take_77 : DC 1 b_d_take 77 78 (.baload) := ⟨by decide +kernel, rfl⟩
theorem d_d_take_78 : DC 1 b_d_take 78 79 (.aload_n 0) := ⟨by decide +kernel, rfl⟩
theorem d_d_take_79 : DC 3 b_d_take 79 82 (.getfield 23) := ⟨by decide +kernel, rfl⟩
theorem d_d_take_82 : DC 1 b_d_take 82 83 (.iload_n 2) := ⟨by decide +kernel, rfl⟩
theorem d_d_take_83 : DC 1 b_d_take 83 84 (.baload) := ⟨by decide +kernel, rfl⟩
theorem d_d_take_84 : DC 3 b_d_take 84 87 (.invokevirtual 135) := ⟨by decide +kernel, rfl⟩
theorem d_d_take_87 : DC 1 b_d_take 87 88 (.return_) := ⟨by decide +kernel, rfl⟩
theorem d_d_merge_0 : DC 1 b_d_merge 0 1 (.iconst 0) := ⟨by decide +kernel, rfl⟩
theorem d_d_merge_1 : DC 1 b_d_merge 1 2 (.istore_n 3) := ⟨by decide +kernel, rfl⟩
theorem d_d_merge_2 : DC 1 b_d_merge 2 3 (.iload_n 3) := ⟨by decide +kernel, rfl⟩
theorem d_d_merge_3 : DC 1 b_d_merge 3 4 (.aload_n 0) := ⟨by decide +kernel, rfl⟩
theorem d_d_merge_4 : DC 3 b_d_merge 4 7 (.getfield 42) := ⟨by decide +kernel, rfl⟩
theorem d_d_merge_7 : DI b_d_merge 7 10 34 .ge := ⟨27, by decide +kernel, by decide, rfl⟩
theorem d_d_merge_10 : DC 1 b_d_merge 10 11 (.aload_n 0) := ⟨by decide +kernel, rfl⟩
theorem d_d_merge_11 : DC 3 b_d_merge 11 14 (.getfield 23) := ⟨by decide +kernel, rfl⟩
theorem d_d_merge_14 : DC 1 b_d_merge 14 15 (.iload_n 3) := ⟨by decide +kernel, rfl⟩
theorem d_d_merge_15 : DC 1 b_d_merge 15 16 (.baload) := ⟨by decide +kernel, rfl⟩
theorem d_d_merge_16 : DC 1 b_d_merge 16 17 (.iload_n 2) := ⟨by decide +kernel, rfl⟩
theorem d_d_merge_17 : DI b_d_merge 17 20 28 .ne := ⟨11, by decide +kernel, by decide, rfl⟩
theorem d_d_merge_20 : DC 1 b_d_merge 20 21 (.aload_n 0) := ⟨by decide +kernel, rfl⟩
theorem d_d_merge_21 : DC 3 b_d_merge 21 24 (.getfield 23) := ⟨by decide +kernel, rfl⟩
theorem d_d_merge_24 : DC 1 b_d_merge 24 25 (.iload_n 3) := ⟨by decide +kernel, rfl⟩
theorem d_d_merge_25 : DC 1 b_d_merge 25 26 (.iload_n 1) := ⟨by decide +kernel, rfl⟩
theorem d_d_merge_26 : DC 1 b_d_merge 26 27 (.i2b) := ⟨by decide +kernel, rfl⟩
theorem d_d_merge_27 : DC 1 b_d_merge 27 28 (.bastore) := ⟨by decide +kernel, rfl⟩
theorem d_d_merge_28 : DC 3 b_d_merge 28 31 (.iinc 3 1) := ⟨by decide +kernel, rfl⟩
theorem d_d_merge_31 : DG b_d_merge 31 2 := ⟨-29, by decide +kernel, by decide⟩
theorem d_d_merge_34 : DC 1 b_d_merge 34 35 (.return_) := ⟨by decide +kernel, rfl⟩
theorem d_d_weight_0 : DC 1 b_d_weight 0 1 (.aload_n 0) := ⟨by decide +kernel, rfl⟩
theorem d_d_weight_1 : DC 3 b_d_weight 1 4 (.getfield 7) := ⟨by decide +kernel, rfl⟩
theorem d_d_weight_4 : DC 1 b_d_weight 4 5 (.iload_n 1) := ⟨by decide +kernel, rfl⟩
theorem d_d_weight_5 : DC 2 b_d_weight 5 7 (.bipush 7) := ⟨by decide +kernel, rfl⟩
theorem d_d_weight_7 : DC 1 b_d_weight 7 8 (.imul) := ⟨by decide +kernel, rfl⟩
theorem d_d_weight_8 : DC 1 b_d_weight 8 9 (.iload_n 2) := ⟨by decide +kernel, rfl⟩
theorem d_d_weight_9 : DC 1 b_d_weight 9 10 (.iadd) := ⟨by decide +kernel, rfl⟩
theorem d_d_weight_10 : DC 1 b_d_weight 10 11 (.baload) := ⟨by decide +kernel, rfl⟩
theorem d_d_weight_11 : DC 1 b_d_weight 11 12 (.aload_n 0) := ⟨by decide +kernel, rfl⟩
theorem d_d_weight_12 : DC 3 b_d_weight 12 15 (.getfield 19) := ⟨by decide +kernel, rfl⟩
theorem d_d_weight_15 : DC 1 b_d_weight 15 16 (.iload_n 1) := ⟨by decide +kernel, rfl⟩
theorem d_d_weight_16 : DC 1 b_d_weight 16 17 (.iaload) := ⟨by decide +kernel, rfl⟩
theorem d_d_weight_17 : DC 1 b_d_weight 17 18 (.iadd) := ⟨by decide +kernel, rfl⟩
theorem d_d_weight_18 : DC 1 b_d_weight 18 19 (.aload_n 0) := ⟨by decide +kernel, rfl⟩
theorem d_d_weight_19 : DC 3 b_d_weight 19 22 (.getfield 19) := ⟨by decide +kernel, rfl⟩
theorem d_d_weight_22 : DC 1 b_d_weight 22 23 (.iload_n 2) := ⟨by decide +kernel, rfl⟩
theorem d_d_weight_23 : DC 1 b_d_weight 23 24 (.iaload) := ⟨by decide +kernel, rfl⟩
theorem d_d_weight_24 : DC 1 b_d_weight 24 25 (.iadd) := ⟨by decide +kernel, rfl⟩
theorem d_d_weight_25 : DC 1 b_d_weight 25 26 (.ireturn) := ⟨by decide +kernel, rfl⟩
theorem d_d_growTree_0 : DC 1 b_d_growTree 0 1 (.iconst 1) := ⟨by decide +kernel, rfl⟩
theorem d_d_growTree_1 : DC 1 b_d_growTree 1 2 (.istore_n 1) := ⟨by decide +kernel, rfl⟩
theorem d_d_growTree_2 : DC 1 b_d_growTree 2 3 (.iload_n 1) := ⟨by decide +kernel, rfl⟩
theorem d_d_growTree_3 : DC 1 b_d_growTree 3 4 (.aload_n 0) := ⟨by decide +kernel, rfl⟩
theorem d_d_growTree_4 : DC 3 b_d_growTree 4 7 (.getfield 42) := ⟨by decide +kernel, rfl⟩
theorem d_d_growTree_7 : DI b_d_growTree 7 10 42 .ge := ⟨35, by decide +kernel, by decide, rfl⟩
theorem d_d_growTree_10 : DC 1 b_d_growTree 10 11 (.aload_n 0) := ⟨by decide +kernel, rfl⟩
theorem d_d_growTree_11 : DC 3 b_d_growTree 11 14 (.invokevirtual 138) := ⟨by decide +kernel, rfl⟩
theorem d_d_growTree_14 : DC 1 b_d_growTree 14 15 (.istore_n 2) := ⟨by decide +kernel, rfl⟩
theorem d_d_growTree_15 : DC 1 b_d_growTree 15 16 (.iload_n 2) := ⟨by decide +kernel, rfl⟩
theorem d_d_growTree_16 : DF b_d_growTree 16 19 24 .ge := ⟨8, by decide +kernel, by decide, rfl⟩
theorem d_d_growTree_19 : DC 1 b_d_growTree 19 20 (.aload_n 0) := ⟨by decide +kernel, rfl⟩
theorem d_d_growTree_20 : DC 3 b_d_growTree 20 23 (.invokevirtual 141) := ⟨by decide +kernel, rfl⟩
theorem d_d_growTree_23 : DC 1 b_d_growTree 23 24 (.ireturn) := ⟨by decide +kernel, rfl⟩
theorem d_d_growTree_24 : DC 1 b_d_growTree 24 25 (.aload_n 0) := ⟨by decide +kernel, rfl⟩
theorem d_d_growTree_25 : DC 1 b_d_growTree 25 26 (.iload_n 2) := ⟨by decide +kernel, rfl⟩
theorem d_d_growTree_26 : DC 2 b_d_growTree 26 28 (.bipush 7) := ⟨by decide +kernel, rfl⟩
theorem d_d_growTree_28 : DC 1 b_d_growTree 28 29 (.idiv) := ⟨by decide +kernel, rfl⟩
theorem d_d_growTree_29 : DC 1 b_d_growTree 29 30 (.iload_n 2) := ⟨by decide +kernel, rfl⟩
theorem d_d_growTree_30 : DC 2 b_d_growTree 30 32 (.bipush 7) := ⟨by decide +kernel, rfl⟩
theorem d_d_growTree_32 : DC 1 b_d_growTree 32 33 (.irem) := ⟨by decide +kernel, rfl⟩
theorem d_d_growTree_33 : DC 3 b_d_growTree 33 36 (.invokevirtual 128) := ⟨by decide +kernel, rfl⟩
theorem d_d_growTree_36 : DC 3 b_d_growTree 36 39 (.iinc 1 1) := ⟨by decide +kernel, rfl⟩
theorem d_d_growTree_39 : DG b_d_growTree 39 2 := ⟨-37, by decide +kernel, by decide⟩
theorem d_d_growTree_42 : DC 1 b_d_growTree 42 43 (.aload_n 0) := ⟨by decide +kernel, rfl⟩
theorem d_d_growTree_43 : DC 3 b_d_growTree 43 46 (.invokevirtual 141) := ⟨by decide +kernel, rfl⟩
theorem d_d_growTree_46 : DC 1 b_d_growTree 46 47 (.ireturn) := ⟨by decide +kernel, rfl⟩
theorem d_d_joined_0 : DC 1 b_d_joined 0 1 (.iconst 2) := ⟨by decide +kernel, rfl⟩
theorem d_d_joined_1 : DC 1 b_d_joined 1 2 (.istore_n 1) := ⟨by decide +kernel, rfl⟩
theorem d_d_joined_2 : DC 1 b_d_joined 2 3 (.iload_n 1) := ⟨by decide +kernel, rfl⟩
theorem d_d_joined_3 : DC 1 b_d_joined 3 4 (.aload_n 0) := ⟨by decide +kernel, rfl⟩
theorem d_d_joined_4 : DC 3 b_d_joined 4 7 (.getfield 42) := ⟨by decide +kernel, rfl⟩
theorem d_d_joined_7 : DI b_d_joined 7 10 33 .ge := ⟨26, by decide +kernel, by decide, rfl⟩
theorem d_d_joined_10 : DC 1 b_d_joined 10 11 (.aload_n 0) := ⟨by decide +kernel, rfl⟩
theorem d_d_joined_11 : DC 3 b_d_joined 11 14 (.getfield 23) := ⟨by decide +kernel, rfl⟩
theorem d_d_joined_14 : DC 1 b_d_joined 14 15 (.iload_n 1) := ⟨by decide +kernel, rfl⟩
theorem d_d_joined_15 : DC 1 b_d_joined 15 16 (.baload) := ⟨by decide +kernel, rfl⟩
theorem d_d_joined_16 : DC 1 b_d_joined 16 17 (.aload_n 0) := ⟨by decide +kernel, rfl⟩
theorem d_d_joined_17 : DC 3 b_d_joined 17 20 (.getfield 23) := ⟨by decide +kernel, rfl⟩
theorem d_d_joined_20 : DC 1 b_d_joined 20 21 (.iconst 1) := ⟨by decide +kernel, rfl⟩
theorem d_d_joined_21 : DC 1 b_d_joined 21 22 (.baload) := ⟨by decide +kernel, rfl⟩
theorem d_d_joined_22 : DI b_d_joined 22 25 27 .eq := ⟨5, by decide +kernel, by decide, rfl⟩
theorem d_d_joined_25 : DC 1 b_d_joined 25 26 (.iconst 0) := ⟨by decide +kernel, rfl⟩
theorem d_d_joined_26 : DC 1 b_d_joined 26 27 (.ireturn) := ⟨by decide +kernel, rfl⟩
theorem d_d_joined_27 : DC 3 b_d_joined 27 30 (.iinc 1 1) := ⟨by decide +kernel, rfl⟩
theorem d_d_joined_30 : DG b_d_joined 30 2 := ⟨-28, by decide +kernel, by decide⟩
theorem d_d_joined_33 : DC 1 b_d_joined 33 34 (.iconst 1) := ⟨by decide +kernel, rfl⟩
theorem d_d_joined_34 : DC 1 b_d_joined 34 35 (.ireturn) := ⟨by decide +kernel, rfl⟩
theorem d_d_cheapestJoin_0 : DC 1 b_d_cheapestJoin 0 1 (.iconst (-1)) := ⟨by decide +kernel, rfl⟩
theorem d_d_cheapestJoin_1 : DC 1 b_d_cheapestJoin 1 2 (.istore_n 1) := ⟨by decide +kernel, rfl⟩
theorem d_d_cheapestJoin_2 : DC 1 b_d_cheapestJoin 2 3 (.iconst 0) := ⟨by decide +kernel, rfl⟩
theorem d_d_cheapestJoin_3 : DC 1 b_d_cheapestJoin 3 4 (.istore_n 2) := ⟨by decide +kernel, rfl⟩
theorem d_d_cheapestJoin_4 : DC 1 b_d_cheapestJoin 4 5 (.iconst 1) := ⟨by decide +kernel, rfl⟩
theorem d_d_cheapestJoin_5 : DC 1 b_d_cheapestJoin 5 6 (.istore_n 3) := ⟨by decide +kernel, rfl⟩
theorem d_d_cheapestJoin_6 : DC 1 b_d_cheapestJoin 6 7 (.iload_n 3) := ⟨by decide +kernel, rfl⟩
theorem d_d_cheapestJoin_7 : DC 1 b_d_cheapestJoin 7 8 (.aload_n 0) := ⟨by decide +kernel, rfl⟩
theorem d_d_cheapestJoin_8 : DC 3 b_d_cheapestJoin 8 11 (.getfield 42) := ⟨by decide +kernel, rfl⟩
theorem d_d_cheapestJoin_11 : DI b_d_cheapestJoin 11 14 113 .ge := ⟨102, by decide +kernel, by decide, rfl⟩
theorem d_d_cheapestJoin_14 : DC 1 b_d_cheapestJoin 14 15 (.iload_n 3) := ⟨by decide +kernel, rfl⟩
theorem d_d_cheapestJoin_15 : DC 1 b_d_cheapestJoin 15 16 (.iconst 1) := ⟨by decide +kernel, rfl⟩
theorem d_d_cheapestJoin_16 : DC 1 b_d_cheapestJoin 16 17 (.iadd) := ⟨by decide +kernel, rfl⟩
theorem d_d_cheapestJoin_17 : DC 2 b_d_cheapestJoin 17 19 (.istore 4) := ⟨by decide +kernel, rfl⟩
theorem d_d_cheapestJoin_19 : DC 2 b_d_cheapestJoin 19 21 (.iload 4) := ⟨by decide +kernel, rfl⟩
theorem d_d_cheapestJoin_21 : DC 1 b_d_cheapestJoin 21 22 (.aload_n 0) := ⟨by decide +kernel, rfl⟩
theorem d_d_cheapestJoin_22 : DC 3 b_d_cheapestJoin 22 25 (.getfield 42) := ⟨by decide +kernel, rfl⟩
theorem d_d_cheapestJoin_25 : DI b_d_cheapestJoin 25 28 107 .ge := ⟨82, by decide +kernel, by decide, rfl⟩
theorem d_d_cheapestJoin_28 : DC 1 b_d_cheapestJoin 28 29 (.aload_n 0) := ⟨by decide +kernel, rfl⟩
theorem d_d_cheapestJoin_29 : DC 1 b_d_cheapestJoin 29 30 (.iload_n 3) := ⟨by decide +kernel, rfl⟩
theorem d_d_cheapestJoin_30 : DC 2 b_d_cheapestJoin 30 32 (.iload 4) := ⟨by decide +kernel, rfl⟩
theorem d_d_cheapestJoin_32 : DC 3 b_d_cheapestJoin 32 35 (.invokevirtual 132) := ⟨by decide +kernel, rfl⟩
theorem d_d_cheapestJoin_35 : DC 2 b_d_cheapestJoin 35 37 (.istore 5) := ⟨by decide +kernel, rfl⟩
theorem d_d_cheapestJoin_37 : DC 1 b_d_cheapestJoin 37 38 (.aload_n 0) := ⟨by decide +kernel, rfl⟩
theorem d_d_cheapestJoin_38 : DC 3 b_d_cheapestJoin 38 41 (.getfield 16) := ⟨by decide +kernel, rfl⟩
theorem d_d_cheapestJoin_41 : DC 1 b_d_cheapestJoin 41 42 (.iload_n 3) := ⟨by decide +kernel, rfl⟩
theorem d_d_cheapestJoin_42 : DC 2 b_d_cheapestJoin 42 44 (.bipush 7) := ⟨by decide +kernel, rfl⟩
theorem d_d_cheapestJoin_44 : DC 1 b_d_cheapestJoin 44 45 (.imul) := ⟨by decide +kernel, rfl⟩
theorem d_d_cheapestJoin_45 : DC 2 b_d_cheapestJoin 45 47 (.iload 4) := ⟨by decide +kernel, rfl⟩
theorem d_d_cheapestJoin_47 : DC 1 b_d_cheapestJoin 47 48 (.iadd) := ⟨by decide +kernel, rfl⟩
theorem d_d_cheapestJoin_48 : DC 1 b_d_cheapestJoin 48 49 (.baload) := ⟨by decide +kernel, rfl⟩
theorem d_d_cheapestJoin_49 : DF b_d_cheapestJoin 49 52 72 .ne := ⟨23, by decide +kernel, by decide, rfl⟩
theorem d_d_cheapestJoin_52 : DC 1 b_d_cheapestJoin 52 53 (.aload_n 0) := ⟨by decide +kernel, rfl⟩
theorem d_d_cheapestJoin_53 : DC 3 b_d_cheapestJoin 53 56 (.getfield 23) := ⟨by decide +kernel, rfl⟩
theorem d_d_cheapestJoin_56 : DC 1 b_d_cheapestJoin 56 57 (.iload_n 3) := ⟨by decide +kernel, rfl⟩
theorem d_d_cheapestJoin_57 : DC 1 b_d_cheapestJoin 57 58 (.baload) := ⟨by decide +kernel, rfl⟩
theorem d_d_cheapestJoin_58 : DC 1 b_d_cheapestJoin 58 59 (.aload_n 0) := ⟨by decide +kernel, rfl⟩
theorem d_d_cheapestJoin_59 : DC 3 b_d_cheapestJoin 59 62 (.getfield 23) := ⟨by decide +kernel, rfl⟩
theorem d_d_cheapestJoin_62 : DC 2 b_d_cheapestJoin 62 64 (.iload 4) := ⟨by decide +kernel, rfl⟩
theorem d_d_cheapestJoin_64 : DC 1 b_d_cheapestJoin 64 65 (.baload) := ⟨by decide +kernel, rfl⟩
theorem d_d_cheapestJoin_65 : DI b_d_cheapestJoin 65 68 72 .eq := ⟨7, by decide +kernel, by decide, rfl⟩
theorem d_d_cheapestJoin_68 : DC 1 b_d_cheapestJoin 68 69 (.iconst 1) := ⟨by decide +kernel, rfl⟩
theorem d_d_cheapestJoin_69 : DG b_d_cheapestJoin 69 73 := ⟨4, by decide +kernel, by decide⟩
theorem d_d_cheapestJoin_72 : DC 1 b_d_cheapestJoin 72 73 (.iconst 0) := ⟨by decide +kernel, rfl⟩
theorem d_d_cheapestJoin_73 : DC 2 b_d_cheapestJoin 73 75 (.istore 6) := ⟨by decide +kernel, rfl⟩
theorem d_d_cheapestJoin_75 : DC 2 b_d_cheapestJoin 75 77 (.iload 6) := ⟨by decide +kernel, rfl⟩
theorem d_d_cheapestJoin_77 : DF b_d_cheapestJoin 77 80 101 .eq := ⟨24, by decide +kernel, by decide, rfl⟩
theorem d_d_cheapestJoin_80 : DC 1 b_d_cheapestJoin 80 81 (.iload_n 1) := ⟨by decide +kernel, rfl⟩
theorem d_d_cheapestJoin_81 : DF b_d_cheapestJoin 81 84 90 .lt := ⟨9, by decide +kernel, by decide, rfl⟩
theorem d_d_cheapestJoin_84 : DC 2 b_d_cheapestJoin 84 86 (.iload 5) := ⟨by decide +kernel, rfl⟩
theorem d_d_cheapestJoin_86 : DC 1 b_d_cheapestJoin 86 87 (.iload_n 2) := ⟨by decide +kernel, rfl⟩
theorem d_d_cheapestJoin_87 : DI b_d_cheapestJoin 87 90 101 .ge := ⟨14, by decide +kernel, by decide, rfl⟩
theorem d_d_cheapestJoin_90 : DC 1 b_d_cheapestJoin 90 91 (.iload_n 3) := ⟨by decide +kernel, rfl⟩
theorem d_d_cheapestJoin_91 : DC 2 b_d_cheapestJoin 91 93 (.bipush 7) := ⟨by decide +kernel, rfl⟩
theorem d_d_cheapestJoin_93 : DC 1 b_d_cheapestJoin 93 94 (.imul) := ⟨by decide +kernel, rfl⟩
theorem d_d_cheapestJoin_94 : DC 2 b_d_cheapestJoin 94 96 (.iload 4) := ⟨by decide +kernel, rfl⟩
theorem d_d_cheapestJoin_96 : DC 1 b_d_cheapestJoin 96 97 (.iadd) := ⟨by decide +kernel, rfl⟩
theorem d_d_cheapestJoin_97 : DC 1 b_d_cheapestJoin 97 98 (.istore_n 1) := ⟨by decide +kernel, rfl⟩
theorem d_d_cheapestJoin_98 : DC 2 b_d_cheapestJoin 98 100 (.iload 5) := ⟨by decide +kernel, rfl⟩
theorem d_d_cheapestJoin_100 : DC 1 b_d_cheapestJoin 100 101 (.istore_n 2) := ⟨by decide +kernel, rfl⟩
theorem d_d_cheapestJoin_101 : DC 3 b_d_cheapestJoin 101 104 (.iinc 4 1) := ⟨by decide +kernel, rfl⟩
theorem d_d_cheapestJoin_104 : DG b_d_cheapestJoin 104 19 := ⟨-85, by decide +kernel, by decide⟩
theorem d_d_cheapestJoin_107 : DC 3 b_d_cheapestJoin 107 110 (.iinc 3 1) := ⟨by decide +kernel, rfl⟩
theorem d_d_cheapestJoin_110 : DG b_d_cheapestJoin 110 6 := ⟨-104, by decide +kernel, by decide⟩
theorem d_d_cheapestJoin_113 : DC 1 b_d_cheapestJoin 113 114 (.iload_n 1) := ⟨by decide +kernel, rfl⟩
theorem d_d_cheapestJoin_114 : DC 1 b_d_cheapestJoin 114 115 (.ireturn) := ⟨by decide +kernel, rfl⟩
theorem d_d_closeAtZero_0 : DC 1 b_d_closeAtZero 0 1 (.iconst 0) := ⟨by decide +kernel, rfl⟩
theorem d_d_closeAtZero_1 : DC 1 b_d_closeAtZero 1 2 (.istore_n 1) := ⟨by decide +kernel, rfl⟩
theorem d_d_closeAtZero_2 : DC 1 b_d_closeAtZero 2 3 (.iload_n 1) := ⟨by decide +kernel, rfl⟩
theorem d_d_closeAtZero_3 : DC 1 b_d_closeAtZero 3 4 (.iconst 2) := ⟨by decide +kernel, rfl⟩
theorem d_d_closeAtZero_4 : DI b_d_closeAtZero 4 7 114 .ge := ⟨110, by decide +kernel, by decide, rfl⟩
theorem d_d_closeAtZero_7 : DC 1 b_d_closeAtZero 7 8 (.aload_n 0) := ⟨by decide +kernel, rfl⟩
theorem d_d_closeAtZero_8 : DC 3 b_d_closeAtZero 8 11 (.getfield 26) := ⟨by decide +kernel, rfl⟩
theorem d_d_closeAtZero_11 : DC 1 b_d_closeAtZero 11 12 (.iconst 0) := ⟨by decide +kernel, rfl⟩
theorem d_d_closeAtZero_12 : DC 1 b_d_closeAtZero 12 13 (.baload) := ⟨by decide +kernel, rfl⟩
theorem d_d_closeAtZero_13 : DC 1 b_d_closeAtZero 13 14 (.iconst 2) := ⟨by decide +kernel, rfl⟩
theorem d_d_closeAtZero_14 : DI b_d_closeAtZero 14 17 114 .ge := ⟨100, by decide +kernel, by decide, rfl⟩
theorem d_d_closeAtZero_17 : DC 1 b_d_closeAtZero 17 18 (.iconst (-1)) := ⟨by decide +kernel, rfl⟩
theorem d_d_closeAtZero_18 : DC 1 b_d_closeAtZero 18 19 (.istore_n 2) := ⟨by decide +kernel, rfl⟩
theorem d_d_closeAtZero_19 : DC 1 b_d_closeAtZero 19 20 (.iconst 0) := ⟨by decide +kernel, rfl⟩
theorem d_d_closeAtZero_20 : DC 1 b_d_closeAtZero 20 21 (.istore_n 3) := ⟨by decide +kernel, rfl⟩
theorem d_d_closeAtZero_21 : DC 1 b_d_closeAtZero 21 22 (.iconst 1) := ⟨by decide +kernel, rfl⟩
theorem d_d_closeAtZero_22 : DC 2 b_d_closeAtZero 22 24 (.istore 4) := ⟨by decide +kernel, rfl⟩
theorem d_d_closeAtZero_24 : DC 2 b_d_closeAtZero 24 26 (.iload 4) := ⟨by decide +kernel, rfl⟩
theorem d_d_closeAtZero_26 : DC 1 b_d_closeAtZero 26 27 (.aload_n 0) := ⟨by decide +kernel, rfl⟩
theorem d_d_closeAtZero_27 : DC 3 b_d_closeAtZero 27 30 (.getfield 42) := ⟨by decide +kernel, rfl⟩
theorem d_d_closeAtZero_30 : DI b_d_closeAtZero 30 33 96 .ge := ⟨66, by decide +kernel, by decide, rfl⟩
theorem d_d_closeAtZero_33 : DC 1 b_d_closeAtZero 33 34 (.aload_n 0) := ⟨by decide +kernel, rfl⟩
theorem d_d_closeAtZero_34 : DC 1 b_d_closeAtZero 34 35 (.iconst 0) := ⟨by decide +kernel, rfl⟩
theorem d_d_closeAtZero_35 : DC 2 b_d_closeAtZero 35 37 (.iload 4) := ⟨by decide +kernel, rfl⟩
theorem d_d_closeAtZero_37 : DC 3 b_d_closeAtZero 37 40 (.invokevirtual 132) := ⟨by decide +kernel, rfl⟩
theorem d_d_closeAtZero_40 : DC 2 b_d_closeAtZero 40 42 (.istore 5) := ⟨by decide +kernel, rfl⟩
theorem d_d_closeAtZero_42 : DC 1 b_d_closeAtZero 42 43 (.aload_n 0) := ⟨by decide +kernel, rfl⟩
theorem d_d_closeAtZero_43 : DC 3 b_d_closeAtZero 43 46 (.getfield 16) := ⟨by decide +kernel, rfl⟩
theorem d_d_closeAtZero_46 : DC 2 b_d_closeAtZero 46 48 (.iload 4) := ⟨by decide +kernel, rfl⟩
theorem d_d_closeAtZero_48 : DC 1 b_d_closeAtZero 48 49 (.baload) := ⟨by decide +kernel, rfl⟩
theorem d_d_closeAtZero_49 : DF b_d_closeAtZero 49 52 66 .ne := ⟨17, by decide +kernel, by decide, rfl⟩
theorem d_d_closeAtZero_52 : DC 1 b_d_closeAtZero 52 53 (.aload_n 0) := ⟨by decide +kernel, rfl⟩
theorem d_d_closeAtZero_53 : DC 3 b_d_closeAtZero 53 56 (.getfield 29) := ⟨by decide +kernel, rfl⟩
theorem d_d_closeAtZero_56 : DC 2 b_d_closeAtZero 56 58 (.iload 4) := ⟨by decide +kernel, rfl⟩
theorem d_d_closeAtZero_58 : DC 1 b_d_closeAtZero 58 59 (.baload) := ⟨by decide +kernel, rfl⟩
theorem d_d_closeAtZero_59 : DF b_d_closeAtZero 59 62 66 .ne := ⟨7, by decide +kernel, by decide, rfl⟩
theorem d_d_closeAtZero_62 : DC 1 b_d_closeAtZero 62 63 (.iconst 1) := ⟨by decide +kernel, rfl⟩
theorem d_d_closeAtZero_63 : DG b_d_closeAtZero 63 67 := ⟨4, by decide +kernel, by decide⟩
theorem d_d_closeAtZero_66 : DC 1 b_d_closeAtZero 66 67 (.iconst 0) := ⟨by decide +kernel, rfl⟩
theorem d_d_closeAtZero_67 : DC 2 b_d_closeAtZero 67 69 (.istore 6) := ⟨by decide +kernel, rfl⟩
theorem d_d_closeAtZero_69 : DC 2 b_d_closeAtZero 69 71 (.iload 6) := ⟨by decide +kernel, rfl⟩
theorem d_d_closeAtZero_71 : DF b_d_closeAtZero 71 74 90 .eq := ⟨19, by decide +kernel, by decide, rfl⟩
theorem d_d_closeAtZero_74 : DC 1 b_d_closeAtZero 74 75 (.iload_n 2) := ⟨by decide +kernel, rfl⟩
theorem d_d_closeAtZero_75 : DF b_d_closeAtZero 75 78 84 .lt := ⟨9, by decide +kernel, by decide, rfl⟩
theorem d_d_closeAtZero_78 : DC 2 b_d_closeAtZero 78 80 (.iload 5) := ⟨by decide +kernel, rfl⟩
theorem d_d_closeAtZero_80 : DC 1 b_d_closeAtZero 80 81 (.iload_n 3) := ⟨by decide +kernel, rfl⟩
theorem d_d_closeAtZero_81 : DI b_d_closeAtZero 81 84 90 .ge := ⟨9, by decide +kernel, by decide, rfl⟩
theorem d_d_closeAtZero_84 : DC 2 b_d_closeAtZero 84 86 (.iload 4) := ⟨by decide +kernel, rfl⟩
theorem d_d_closeAtZero_86 : DC 1 b_d_closeAtZero 86 87 (.istore_n 2) := ⟨by decide +kernel, rfl⟩
theorem d_d_closeAtZero_87 : DC 2 b_d_closeAtZero 87 89 (.iload 5) := ⟨by decide +kernel, rfl⟩
theorem d_d_closeAtZero_89 : DC 1 b_d_closeAtZero 89 90 (.istore_n 3) := ⟨by decide +kernel, rfl⟩
theorem d_d_closeAtZero_90 : DC 3 b_d_closeAtZero 90 93 (.iinc 4 1) := ⟨by decide +kernel, rfl⟩
theorem d_d_closeAtZero_93 : DG b_d_closeAtZero 93 24 := ⟨-69, by decide +kernel, by decide⟩
theorem d_d_closeAtZero_96 : DC 1 b_d_closeAtZero 96 97 (.iload_n 2) := ⟨by decide +kernel, rfl⟩
theorem d_d_closeAtZero_97 : DF b_d_closeAtZero 97 100 102 .ge := ⟨5, by decide +kernel, by decide, rfl⟩
theorem d_d_closeAtZero_100 : DC 1 b_d_closeAtZero 100 101 (.iconst 0) := ⟨by decide +kernel, rfl⟩
theorem d_d_closeAtZero_101 : DC 1 b_d_closeAtZero 101 102 (.ireturn) := ⟨by decide +kernel, rfl⟩
theorem d_d_closeAtZero_102 : DC 1 b_d_closeAtZero 102 103 (.aload_n 0) := ⟨by decide +kernel, rfl⟩
theorem d_d_closeAtZero_103 : DC 1 b_d_closeAtZero 103 104 (.iconst 0) := ⟨by decide +kernel, rfl⟩
theorem d_d_closeAtZero_104 : DC 1 b_d_closeAtZero 104 105 (.iload_n 2) := ⟨by decide +kernel, rfl⟩
theorem d_d_closeAtZero_105 : DC 3 b_d_closeAtZero 105 108 (.invokevirtual 128) := ⟨by decide +kernel, rfl⟩
theorem d_d_closeAtZero_108 : DC 3 b_d_closeAtZero 108 111 (.iinc 1 1) := ⟨by decide +kernel, rfl⟩
theorem d_d_closeAtZero_111 : DG b_d_closeAtZero 111 2 := ⟨-109, by decide +kernel, by decide⟩
theorem d_d_closeAtZero_114 : DC 1 b_d_closeAtZero 114 115 (.aload_n 0) := ⟨by decide +kernel, rfl⟩
theorem d_d_closeAtZero_115 : DC 3 b_d_closeAtZero 115 118 (.getfield 26) := ⟨by decide +kernel, rfl⟩
theorem d_d_closeAtZero_118 : DC 1 b_d_closeAtZero 118 119 (.iconst 0) := ⟨by decide +kernel, rfl⟩
theorem d_d_closeAtZero_119 : DC 1 b_d_closeAtZero 119 120 (.baload) := ⟨by decide +kernel, rfl⟩
theorem d_d_closeAtZero_120 : DC 1 b_d_closeAtZero 120 121 (.iconst 2) := ⟨by decide +kernel, rfl⟩
theorem d_d_closeAtZero_121 : DI b_d_closeAtZero 121 124 128 .ne := ⟨7, by decide +kernel, by decide, rfl⟩
theorem d_d_closeAtZero_124 : DC 1 b_d_closeAtZero 124 125 (.iconst 1) := ⟨by decide +kernel, rfl⟩
theorem d_d_closeAtZero_125 : DG b_d_closeAtZero 125 129 := ⟨4, by decide +kernel, by decide⟩
theorem d_d_closeAtZero_128 : DC 1 b_d_closeAtZero 128 129 (.iconst 0) := ⟨by decide +kernel, rfl⟩
theorem d_d_closeAtZero_129 : DC 1 b_d_closeAtZero 129 130 (.ireturn) := ⟨by decide +kernel, rfl⟩
end
section
/-! decode rows: pc, the next pc, the instruction (printed by program) -/
theorem d_m_init_0 : DC 1 b_m_init 0 1 (.aload_n 0) := ⟨by decide +kernel, rfl⟩
theorem d_m_init_1 : DC 3 b_m_init 1 4 (.invokespecial 1) := ⟨by decide +kernel, rfl⟩
theorem d_m_init_4 : DC 1 b_m_init 4 5 (.aload_n 0) := ⟨by decide +kernel, rfl⟩
theorem d_m_init_5 : DC 2 b_m_init 5 7 (.bipush 49) := ⟨by decide +kernel, rfl⟩
theorem d_m_init_7 : DC 2 b_m_init 7 9 (.newarray .int) := ⟨by decide +kernel, rfl⟩
theorem d_m_init_9 : DC 3 b_m_init 9 12 (.putfield 7) := ⟨by decide +kernel, rfl⟩
theorem d_m_init_12 : DC 1 b_m_init 12 13 (.aload_n 0) := ⟨by decide +kernel, rfl⟩
theorem d_m_init_13 : DC 2 b_m_init 13 15 (.bipush 49) := ⟨by decide +kernel, rfl⟩
theorem d_m_init_15 : DC 2 b_m_init 15 17 (.newarray .int) := ⟨by decide +kernel, rfl⟩
theorem d_m_init_17 : DC 3 b_m_init 17 20 (.putfield 13) := ⟨by decide +kernel, rfl⟩
theorem d_m_init_20 : DC 1 b_m_init 20 21 (.aload_n 0) := ⟨by decide +kernel, rfl⟩
theorem d_m_init_21 : DC 2 b_m_init 21 23 (.bipush 7) := ⟨by decide +kernel, rfl⟩
theorem d_m_init_23 : DC 2 b_m_init 23 25 (.newarray .int) := ⟨by decide +kernel, rfl⟩
theorem d_m_init_25 : DC 3 b_m_init 25 28 (.putfield 16) := ⟨by decide +kernel, rfl⟩
theorem d_m_init_28 : DC 1 b_m_init 28 29 (.aload_n 0) := ⟨by decide +kernel, rfl⟩
theorem d_m_init_29 : DC 1 b_m_init 29 30 (.iload_n 1) := ⟨by decide +kernel, rfl⟩
theorem d_m_init_30 : DC 1 b_m_init 30 31 (.iconst 3) := ⟨by decide +kernel, rfl⟩
theorem d_m_init_31 : DI b_m_init 31 34 38 .ge := ⟨7, by decide +kernel, by decide, rfl⟩
theorem d_m_init_34 : DC 1 b_m_init 34 35 (.iconst 3) := ⟨by decide +kernel, rfl⟩
theorem d_m_init_35 : DG b_m_init 35 50 := ⟨15, by decide +kernel, by decide⟩
theorem d_m_init_38 : DC 1 b_m_init 38 39 (.iload_n 1) := ⟨by decide +kernel, rfl⟩
theorem d_m_init_39 : DC 2 b_m_init 39 41 (.bipush 7) := ⟨by decide +kernel, rfl⟩
theorem d_m_init_41 : DI b_m_init 41 44 49 .le := ⟨8, by decide +kernel, by decide, rfl⟩
theorem d_m_init_44 : DC 2 b_m_init 44 46 (.bipush 7) := ⟨by decide +kernel, rfl⟩
theorem d_m_init_46 : DG b_m_init 46 50 := ⟨4, by decide +kernel, by decide⟩
theorem d_m_init_49 : DC 1 b_m_init 49 50 (.iload_n 1) := ⟨by decide +kernel, rfl⟩
theorem d_m_init_50 : DC 3 b_m_init 50 53 (.putfield 19) := ⟨by decide +kernel, rfl⟩
theorem d_m_init_53 : DC 1 b_m_init 53 54 (.iload_n 2) := ⟨by decide +kernel, rfl⟩
theorem d_m_init_54 : DF b_m_init 54 57 61 .ge := ⟨7, by decide +kernel, by decide, rfl⟩
theorem d_m_init_57 : DC 1 b_m_init 57 58 (.iconst 0) := ⟨by decide +kernel, rfl⟩
theorem d_m_init_58 : DG b_m_init 58 73 := ⟨15, by decide +kernel, by decide⟩
theorem d_m_init_61 : DC 1 b_m_init 61 62 (.iload_n 2) := ⟨by decide +kernel, rfl⟩
theorem d_m_init_62 : DC 2 b_m_init 62 64 (.bipush 99) := ⟨by decide +kernel, rfl⟩
theorem d_m_init_64 : DI b_m_init 64 67 72 .le := ⟨8, by decide +kernel, by decide, rfl⟩
theorem d_m_init_67 : DC 2 b_m_init 67 69 (.bipush 99) := ⟨by decide +kernel, rfl⟩
theorem d_m_init_69 : DG b_m_init 69 73 := ⟨4, by decide +kernel, by decide⟩
theorem d_m_init_72 : DC 1 b_m_init 72 73 (.iload_n 2) := ⟨by decide +kernel, rfl⟩
theorem d_m_init_73 : DC 1 b_m_init 73 74 (.istore_n 3) := ⟨by decide +kernel, rfl⟩
theorem d_m_init_74 : DC 1 b_m_init 74 75 (.iconst 0) := ⟨by decide +kernel, rfl⟩
theorem d_m_init_75 : DC 2 b_m_init 75 77 (.istore 4) := ⟨by decide +kernel, rfl⟩
theorem d_m_init_77 : DC 2 b_m_init 77 79 (.iload 4) := ⟨by decide +kernel, rfl⟩
theorem d_m_init_79 : DC 2 b_m_init 79 81 (.bipush 49) := ⟨by decide +kernel, rfl⟩
theorem d_m_init_81 : DI b_m_init 81 84 98 .ge := ⟨17, by decide +kernel, by decide, rfl⟩
theorem d_m_init_84 : DC 1 b_m_init 84 85 (.aload_n 0) := ⟨by decide +kernel, rfl⟩
theorem d_m_init_85 : DC 3 b_m_init 85 88 (.getfield 7) := ⟨by decide +kernel, rfl⟩
theorem d_m_init_88 : DC 2 b_m_init 88 90 (.iload 4) := ⟨by decide +kernel, rfl⟩
theorem d_m_init_90 : DC 1 b_m_init 90 91 (.iload_n 3) := ⟨by decide +kernel, rfl⟩
theorem d_m_init_91 : DC 1 b_m_init 91 92 (.iastore) := ⟨by decide +kernel, rfl⟩
theorem d_m_init_92 : DC 3 b_m_init 92 95 (.iinc 4 1) := ⟨by decide +kernel, rfl⟩
theorem d_m_init_95 : DG b_m_init 95 77 := ⟨-18, by decide +kernel, by decide⟩
theorem d_m_init_98 : DC 1 b_m_init 98 99 (.aload_n 0) := ⟨by decide +kernel, rfl⟩
theorem d_m_init_99 : DC 1 b_m_init 99 100 (.iconst 1) := ⟨by decide +kernel, rfl⟩
theorem d_m_init_100 : DC 3 b_m_init 100 103 (.putfield 23) := ⟨by decide +kernel, rfl⟩
theorem d_m_init_103 : DC 1 b_m_init 103 104 (.iconst 2) := ⟨by decide +kernel, rfl⟩
theorem d_m_init_104 : DC 2 b_m_init 104 106 (.istore 4) := ⟨by decide +kernel, rfl⟩
theorem d_m_init_106 : DC 2 b_m_init 106 108 (.iload 4) := ⟨by decide +kernel, rfl⟩
theorem d_m_init_108 : DC 1 b_m_init 108 109 (.aload_n 0) := ⟨by decide +kernel, rfl⟩
theorem d_m_init_109 : DC 3 b_m_init 109 112 (.getfield 19) := ⟨by decide +kernel, rfl⟩
theorem d_m_init_112 : DI b_m_init 112 115 132 .ge := ⟨20, by decide +kernel, by decide, rfl⟩
theorem d_m_init_115 : DC 1 b_m_init 115 116 (.aload_n 0) := ⟨by decide +kernel, rfl⟩
theorem d_m_init_116 : DC 1 b_m_init 116 117 (.aload_n 0) := ⟨by decide +kernel, rfl⟩
theorem d_m_init_117 : DC 3 b_m_init 117 120 (.getfield 23) := ⟨by decide +kernel, rfl⟩
theorem d_m_init_120 : DC 2 b_m_init 120 122 (.iload 4) := ⟨by decide +kernel, rfl⟩
theorem d_m_init_122 : DC 1 b_m_init 122 123 (.imul) := ⟨by decide +kernel, rfl⟩
theorem d_m_init_123 : DC 3 b_m_init 123 126 (.putfield 23) := ⟨by decide +kernel, rfl⟩
theorem d_m_init_126 : DC 3 b_m_init 126 129 (.iinc 4 1) := ⟨by decide +kernel, rfl⟩
theorem d_m_init_129 : DG b_m_init 129 106 := ⟨-23, by decide +kernel, by decide⟩
theorem d_m_init_132 : DC 1 b_m_init 132 133 (.return_) := ⟨by decide +kernel, rfl⟩
theorem d_m_link_0 : DC 1 b_m_link 0 1 (.iload_n 1) := ⟨by decide +kernel, rfl⟩
theorem d_m_link_1 : DF b_m_link 1 4 33 .lt := ⟨32, by decide +kernel, by decide, rfl⟩
theorem d_m_link_4 : DC 1 b_m_link 4 5 (.iload_n 1) := ⟨by decide +kernel, rfl⟩
theorem d_m_link_5 : DC 1 b_m_link 5 6 (.aload_n 0) := ⟨by decide +kernel, rfl⟩
theorem d_m_link_6 : DC 3 b_m_link 6 9 (.getfield 19) := ⟨by decide +kernel, rfl⟩
theorem d_m_link_9 : DI b_m_link 9 12 33 .ge := ⟨24, by decide +kernel, by decide, rfl⟩
theorem d_m_link_12 : DC 1 b_m_link 12 13 (.iload_n 2) := ⟨by decide +kernel, rfl⟩
theorem d_m_link_13 : DF b_m_link 13 16 33 .lt := ⟨20, by decide +kernel, by decide, rfl⟩
theorem d_m_link_16 : DC 1 b_m_link 16 17 (.iload_n 2) := ⟨by decide +kernel, rfl⟩
theorem d_m_link_17 : DC 1 b_m_link 17 18 (.aload_n 0) := ⟨by decide +kernel, rfl⟩
theorem d_m_link_18 : DC 3 b_m_link 18 21 (.getfield 19) := ⟨by decide +kernel, rfl⟩
theorem d_m_link_21 : DI b_m_link 21 24 33 .ge := ⟨12, by decide +kernel, by decide, rfl⟩
theorem d_m_link_24 : DC 1 b_m_link 24 25 (.iload_n 1) := ⟨by decide +kernel, rfl⟩
theorem d_m_link_25 : DC 1 b_m_link 25 26 (.iload_n 2) := ⟨by decide +kernel, rfl⟩
theorem d_m_link_26 : DI b_m_link 26 29 33 .eq := ⟨7, by decide +kernel, by decide, rfl⟩
theorem d_m_link_29 : DC 1 b_m_link 29 30 (.iconst 1) := ⟨by decide +kernel, rfl⟩
theorem d_m_link_30 : DG b_m_link 30 34 := ⟨4, by decide +kernel, by decide⟩
theorem d_m_link_33 : DC 1 b_m_link 33 34 (.iconst 0) := ⟨by decide +kernel, rfl⟩
theorem d_m_link_34 : DC 1 b_m_link 34 35 (.ireturn) := ⟨by decide +kernel, rfl⟩
theorem d_m_setLength_0 : DC 1 b_m_setLength 0 1 (.aload_n 0) := ⟨by decide +kernel, rfl⟩
theorem d_m_setLength_1 : DC 1 b_m_setLength 1 2 (.iload_n 1) := ⟨by decide +kernel, rfl⟩
theorem d_m_setLength_2 : DC 1 b_m_setLength 2 3 (.iload_n 2) := ⟨by decide +kernel, rfl⟩
theorem d_m_setLength_3 : DC 3 b_m_setLength 3 6 (.invokevirtual 26) := ⟨by decide +kernel, rfl⟩
theorem d_m_setLength_6 : DF b_m_setLength 6 9 19 .eq := ⟨13, by decide +kernel, by decide, rfl⟩
theorem d_m_setLength_9 : DC 1 b_m_setLength 9 10 (.iload_n 3) := ⟨by decide +kernel, rfl⟩
theorem d_m_setLength_10 : DF b_m_setLength 10 13 19 .lt := ⟨9, by decide +kernel, by decide, rfl⟩
theorem d_m_setLength_13 : DC 1 b_m_setLength 13 14 (.iload_n 3) := ⟨by decide +kernel, rfl⟩
theorem d_m_setLength_14 : DC 2 b_m_setLength 14 16 (.bipush 99) := ⟨by decide +kernel, rfl⟩
theorem d_m_setLength_16 : DI b_m_setLength 16 19 21 .le := ⟨5, by decide +kernel, by decide, rfl⟩
theorem d_m_setLength_19 : DC 1 b_m_setLength 19 20 (.iconst 0) := ⟨by decide +kernel, rfl⟩
theorem d_m_setLength_20 : DC 1 b_m_setLength 20 21 (.ireturn) := ⟨by decide +kernel, rfl⟩
theorem d_m_setLength_21 : DC 1 b_m_setLength 21 22 (.aload_n 0) := ⟨by decide +kernel, rfl⟩
theorem d_m_setLength_22 : DC 3 b_m_setLength 22 25 (.getfield 7) := ⟨by decide +kernel, rfl⟩
theorem d_m_setLength_25 : DC 1 b_m_setLength 25 26 (.iload_n 1) := ⟨by decide +kernel, rfl⟩
theorem d_m_setLength_26 : DC 2 b_m_setLength 26 28 (.bipush 7) := ⟨by decide +kernel, rfl⟩
theorem d_m_setLength_28 : DC 1 b_m_setLength 28 29 (.imul) := ⟨by decide +kernel, rfl⟩
theorem d_m_setLength_29 : DC 1 b_m_setLength 29 30 (.iload_n 2) := ⟨by decide +kernel, rfl⟩
theorem d_m_setLength_30 : DC 1 b_m_setLength 30 31 (.iadd) := ⟨by decide +kernel, rfl⟩
theorem d_m_setLength_31 : DC 1 b_m_setLength 31 32 (.iload_n 3) := ⟨by decide +kernel, rfl⟩
theorem d_m_setLength_32 : DC 1 b_m_setLength 32 33 (.iastore) := ⟨by decide +kernel, rfl⟩
theorem d_m_setLength_33 : DC 1 b_m_setLength 33 34 (.aload_n 0) := ⟨by decide +kernel, rfl⟩
theorem d_m_setLength_34 : DC 3 b_m_setLength 34 37 (.getfield 7) := ⟨by decide +kernel, rfl⟩
theorem d_m_setLength_37 : DC 1 b_m_setLength 37 38 (.iload_n 2) := ⟨by decide +kernel, rfl⟩
theorem d_m_setLength_38 : DC 2 b_m_setLength 38 40 (.bipush 7) := ⟨by decide +kernel, rfl⟩
theorem d_m_setLength_40 : DC 1 b_m_setLength 40 41 (.imul) := ⟨by decide +kernel, rfl⟩
theorem d_m_setLength_41 : DC 1 b_m_setLength 41 42 (.iload_n 1) := ⟨by decide +kernel, rfl⟩
theorem d_m_setLength_42 : DC 1 b_m_setLength 42 43 (.iadd) := ⟨by decide +kernel, rfl⟩
theorem d_m_setLength_43 : DC 1 b_m_setLength 43 44 (.iload_n 3) := ⟨by decide +kernel, rfl⟩
theorem d_m_setLength_44 : DC 1 b_m_setLength 44 45 (.iastore) := ⟨by decide +kernel, rfl⟩
theorem d_m_setLength_45 : DC 1 b_m_setLength 45 46 (.iconst 1) := ⟨by decide +kernel, rfl⟩
theorem d_m_setLength_46 : DC 1 b_m_setLength 46 47 (.ireturn) := ⟨by decide +kernel, rfl⟩
theorem d_m_setRule_0 : DC 1 b_m_setRule 0 1 (.aload_n 0) := ⟨by decide +kernel, rfl⟩
theorem d_m_setRule_1 : DC 1 b_m_setRule 1 2 (.iload_n 1) := ⟨by decide +kernel, rfl⟩
theorem d_m_setRule_2 : DC 1 b_m_setRule 2 3 (.iload_n 2) := ⟨by decide +kernel, rfl⟩
theorem d_m_setRule_3 : DC 3 b_m_setRule 3 6 (.invokevirtual 26) := ⟨by decide +kernel, rfl⟩
theorem d_m_setRule_6 : DF b_m_setRule 6 9 18 .eq := ⟨12, by decide +kernel, by decide, rfl⟩
theorem d_m_setRule_9 : DC 1 b_m_setRule 9 10 (.iload_n 3) := ⟨by decide +kernel, rfl⟩
theorem d_m_setRule_10 : DF b_m_setRule 10 13 18 .lt := ⟨8, by decide +kernel, by decide, rfl⟩
theorem d_m_setRule_13 : DC 1 b_m_setRule 13 14 (.iload_n 3) := ⟨by decide +kernel, rfl⟩
theorem d_m_setRule_14 : DC 1 b_m_setRule 14 15 (.iconst 2) := ⟨by decide +kernel, rfl⟩
theorem d_m_setRule_15 : DI b_m_setRule 15 18 20 .le := ⟨5, by decide +kernel, by decide, rfl⟩
theorem d_m_setRule_18 : DC 1 b_m_setRule 18 19 (.iconst 0) := ⟨by decide +kernel, rfl⟩
theorem d_m_setRule_19 : DC 1 b_m_setRule 19 20 (.ireturn) := ⟨by decide +kernel, rfl⟩
theorem d_m_setRule_20 : DC 1 b_m_setRule 20 21 (.aload_n 0) := ⟨by decide +kernel, rfl⟩
theorem d_m_setRule_21 : DC 3 b_m_setRule 21 24 (.getfield 13) := ⟨by decide +kernel, rfl⟩
theorem d_m_setRule_24 : DC 1 b_m_setRule 24 25 (.iload_n 1) := ⟨by decide +kernel, rfl⟩
theorem d_m_setRule_25 : DC 2 b_m_setRule 25 27 (.bipush 7) := ⟨by decide +kernel, rfl⟩
theorem d_m_setRule_27 : DC 1 b_m_setRule 27 28 (.imul) := ⟨by decide +kernel, rfl⟩
theorem d_m_setRule_28 : DC 1 b_m_setRule 28 29 (.iload_n 2) := ⟨by decide +kernel, rfl⟩
theorem d_m_setRule_29 : DC 1 b_m_setRule 29 30 (.iadd) := ⟨by decide +kernel, rfl⟩
theorem d_m_setRule_30 : DC 1 b_m_setRule 30 31 (.iload_n 3) := ⟨by decide +kernel, rfl⟩
theorem d_m_setRule_31 : DC 1 b_m_setRule 31 32 (.iastore) := ⟨by decide +kernel, rfl⟩
theorem d_m_setRule_32 : DC 1 b_m_setRule 32 33 (.aload_n 0) := ⟨by decide +kernel, rfl⟩
theorem d_m_setRule_33 : DC 3 b_m_setRule 33 36 (.getfield 13) := ⟨by decide +kernel, rfl⟩
theorem d_m_setRule_36 : DC 1 b_m_setRule 36 37 (.iload_n 2) := ⟨by decide +kernel, rfl⟩
theorem d_m_setRule_37 : DC 2 b_m_setRule 37 39 (.bipush 7) := ⟨by decide +kernel, rfl⟩
theorem d_m_setRule_39 : DC 1 b_m_setRule 39 40 (.imul) := ⟨by decide +kernel, rfl⟩
theorem d_m_setRule_40 : DC 1 b_m_setRule 40 41 (.iload_n 1) := ⟨by decide +kernel, rfl⟩
theorem d_m_setRule_41 : DC 1 b_m_setRule 41 42 (.iadd) := ⟨by decide +kernel, rfl⟩
theorem d_m_setRule_42 : DC 1 b_m_setRule 42 43 (.iload_n 3) := ⟨by decide +kernel, rfl⟩
theorem d_m_setRule_43 : DC 1 b_m_setRule 43 44 (.iastore) := ⟨by decide +kernel, rfl⟩
theorem d_m_setRule_44 : DC 1 b_m_setRule 44 45 (.iconst 1) := ⟨by decide +kernel, rfl⟩
theorem d_m_setRule_45 : DC 1 b_m_setRule 45 46 (.ireturn) := ⟨by decide +kernel, rfl⟩
theorem d_m_shift_0 : DC 1 b_m_shift 0 1 (.iload_n 1) := ⟨by decide +kernel, rfl⟩
theorem d_m_shift_1 : DF b_m_shift 1 4 24 .lt := ⟨23, by decide +kernel, by decide, rfl⟩
theorem d_m_shift_4 : DC 1 b_m_shift 4 5 (.iload_n 1) := ⟨by decide +kernel, rfl⟩
theorem d_m_shift_5 : DC 1 b_m_shift 5 6 (.aload_n 0) := ⟨by decide +kernel, rfl⟩
theorem d_m_shift_6 : DC 3 b_m_shift 6 9 (.getfield 19) := ⟨by decide +kernel, rfl⟩
theorem d_m_shift_9 : DI b_m_shift 9 12 24 .ge := ⟨15, by decide +kernel, by decide, rfl⟩
theorem d_m_shift_12 : DC 1 b_m_shift 12 13 (.iload_n 2) := ⟨by decide +kernel, rfl⟩
theorem d_m_shift_13 : DC 2 b_m_shift 13 15 (.bipush (-99)) := ⟨by decide +kernel, rfl⟩
theorem d_m_shift_15 : DI b_m_shift 15 18 24 .lt := ⟨9, by decide +kernel, by decide, rfl⟩
theorem d_m_shift_18 : DC 1 b_m_shift 18 19 (.iload_n 2) := ⟨by decide +kernel, rfl⟩
theorem d_m_shift_19 : DC 2 b_m_shift 19 21 (.bipush 99) := ⟨by decide +kernel, rfl⟩
theorem d_m_shift_21 : DI b_m_shift 21 24 26 .le := ⟨5, by decide +kernel, by decide, rfl⟩
theorem d_m_shift_24 : DC 1 b_m_shift 24 25 (.iconst (-1)) := ⟨by decide +kernel, rfl⟩
theorem d_m_shift_25 : DC 1 b_m_shift 25 26 (.ireturn) := ⟨by decide +kernel, rfl⟩
theorem d_m_shift_26 : DC 1 b_m_shift 26 27 (.iconst 0) := ⟨by decide +kernel, rfl⟩
theorem d_m_shift_27 : DC 1 b_m_shift 27 28 (.istore_n 3) := ⟨by decide +kernel, rfl⟩
theorem d_m_shift_28 : DC 1 b_m_shift 28 29 (.iconst 0) := ⟨by decide +kernel, rfl⟩
theorem d_m_shift_29 : DC 2 b_m_shift 29 31 (.istore 4) := ⟨by decide +kernel, rfl⟩
theorem d_m_shift_31 : DC 2 b_m_shift 31 33 (.iload 4) := ⟨by decide +kernel, rfl⟩
theorem d_m_shift_33 : DC 1 b_m_shift 33 34 (.aload_n 0) := ⟨by decide +kernel, rfl⟩
theorem d_m_shift_34 : DC 3 b_m_shift 34 37 (.getfield 19) := ⟨by decide +kernel, rfl⟩
theorem d_m_shift_37 : DI b_m_shift 37 40 79 .ge := ⟨42, by decide +kernel, by decide, rfl⟩
theorem d_m_shift_40 : DC 2 b_m_shift 40 42 (.iload 4) := ⟨by decide +kernel, rfl⟩
theorem d_m_shift_42 : DC 1 b_m_shift 42 43 (.iload_n 1) := ⟨by decide +kernel, rfl⟩
theorem d_m_shift_43 : DI b_m_shift 43 46 73 .eq := ⟨30, by decide +kernel, by decide, rfl⟩
theorem d_m_shift_46 : DC 1 b_m_shift 46 47 (.aload_n 0) := ⟨by decide +kernel, rfl⟩
theorem d_m_shift_47 : DC 1 b_m_shift 47 48 (.iload_n 1) := ⟨by decide +kernel, rfl⟩
theorem d_m_shift_48 : DC 2 b_m_shift 48 50 (.iload 4) := ⟨by decide +kernel, rfl⟩
theorem d_m_shift_50 : DC 1 b_m_shift 50 51 (.aload_n 0) := ⟨by decide +kernel, rfl⟩
theorem d_m_shift_51 : DC 3 b_m_shift 51 54 (.getfield 7) := ⟨by decide +kernel, rfl⟩
theorem d_m_shift_54 : DC 1 b_m_shift 54 55 (.iload_n 1) := ⟨by decide +kernel, rfl⟩
theorem d_m_shift_55 : DC 2 b_m_shift 55 57 (.bipush 7) := ⟨by decide +kernel, rfl⟩
theorem d_m_shift_57 : DC 1 b_m_shift 57 58 (.imul) := ⟨by decide +kernel, rfl⟩
theorem d_m_shift_58 : DC 2 b_m_shift 58 60 (.iload 4) := ⟨by decide +kernel, rfl⟩
theorem d_m_shift_60 : DC 1 b_m_shift 60 61 (.iadd) := ⟨by decide +kernel, rfl⟩
theorem d_m_shift_61 : DC 1 b_m_shift 61 62 (.iaload) := ⟨by decide +kernel, rfl⟩
theorem d_m_shift_62 : DC 1 b_m_shift 62 63 (.iload_n 2) := ⟨by decide +kernel, rfl⟩
theorem d_m_shift_63 : DC 1 b_m_shift 63 64 (.iadd) := ⟨by decide +kernel, rfl⟩
theorem d_m_shift_64 : DC 3 b_m_shift 64 67 (.invokevirtual 30) := ⟨by decide +kernel, rfl⟩
theorem d_m_shift_67 : DF b_m_shift 67 70 73 .eq := ⟨6, by decide +kernel, by decide, rfl⟩
theorem d_m_shift_70 : DC 3 b_m_shift 70 73 (.iinc 3 1) := ⟨by decide +kernel, rfl⟩
theorem d_m_shift_73 : DC 3 b_m_shift 73 76 (.iinc 4 1) := ⟨by decide +kernel, rfl⟩
theorem d_m_shift_76 : DG b_m_shift 76 31 := ⟨-45, by decide +kernel, by decide⟩
theorem d_m_shift_79 : DC 1 b_m_shift 79 80 (.iload_n 3) := ⟨by decide +kernel, rfl⟩
theorem d_m_shift_80 : DC 1 b_m_shift 80 81 (.ireturn) := ⟨by decide +kernel, rfl⟩
theorem d_m_length_0 : DC 1 b_m_length 0 1 (.aload_n 0) := ⟨by decide +kernel, rfl⟩
theorem d_m_length_1 : DC 1 b_m_length 1 2 (.iload_n 1) := ⟨by decide +kernel, rfl⟩
theorem d_m_length_2 : DC 1 b_m_length 2 3 (.iload_n 2) := ⟨by decide +kernel, rfl⟩
theorem d_m_length_3 : DC 3 b_m_length 3 6 (.invokevirtual 26) := ⟨by decide +kernel, rfl⟩
theorem d_m_length_6 : DF b_m_length 6 9 23 .eq := ⟨17, by decide +kernel, by decide, rfl⟩
theorem d_m_length_9 : DC 1 b_m_length 9 10 (.aload_n 0) := ⟨by decide +kernel, rfl⟩
theorem d_m_length_10 : DC 3 b_m_length 10 13 (.getfield 7) := ⟨by decide +kernel, rfl⟩
theorem d_m_length_13 : DC 1 b_m_length 13 14 (.iload_n 1) := ⟨by decide +kernel, rfl⟩
theorem d_m_length_14 : DC 2 b_m_length 14 16 (.bipush 7) := ⟨by decide +kernel, rfl⟩
theorem d_m_length_16 : DC 1 b_m_length 16 17 (.imul) := ⟨by decide +kernel, rfl⟩
theorem d_m_length_17 : DC 1 b_m_length 17 18 (.iload_n 2) := ⟨by decide +kernel, rfl⟩
theorem d_m_length_18 : DC 1 b_m_length 18 19 (.iadd) := ⟨by decide +kernel, rfl⟩
theorem d_m_length_19 : DC 1 b_m_length 19 20 (.iaload) := ⟨by decide +kernel, rfl⟩
theorem d_m_length_20 : DG b_m_length 20 24 := ⟨4, by decide +kernel, by decide⟩
theorem d_m_length_23 : DC 1 b_m_length 23 24 (.iconst (-1)) := ⟨by decide +kernel, rfl⟩
theorem d_m_length_24 : DC 1 b_m_length 24 25 (.ireturn) := ⟨by decide +kernel, rfl⟩
theorem d_m_rule_0 : DC 1 b_m_rule 0 1 (.aload_n 0) := ⟨by decide +kernel, rfl⟩
theorem d_m_rule_1 : DC 1 b_m_rule 1 2 (.iload_n 1) := ⟨by decide +kernel, rfl⟩
theorem d_m_rule_2 : DC 1 b_m_rule 2 3 (.iload_n 2) := ⟨by decide +kernel, rfl⟩
theorem d_m_rule_3 : DC 3 b_m_rule 3 6 (.invokevirtual 26) := ⟨by decide +kernel, rfl⟩
theorem d_m_rule_6 : DF b_m_rule 6 9 23 .eq := ⟨17, by decide +kernel, by decide, rfl⟩
theorem d_m_rule_9 : DC 1 b_m_rule 9 10 (.aload_n 0) := ⟨by decide +kernel, rfl⟩
theorem d_m_rule_10 : DC 3 b_m_rule 10 13 (.getfield 13) := ⟨by decide +kernel, rfl⟩
theorem d_m_rule_13 : DC 1 b_m_rule 13 14 (.iload_n 1) := ⟨by decide +kernel, rfl⟩
theorem d_m_rule_14 : DC 2 b_m_rule 14 16 (.bipush 7) := ⟨by decide +kernel, rfl⟩
theorem d_m_rule_16 : DC 1 b_m_rule 16 17 (.imul) := ⟨by decide +kernel, rfl⟩
theorem d_m_rule_17 : DC 1 b_m_rule 17 18 (.iload_n 2) := ⟨by decide +kernel, rfl⟩
theorem d_m_rule_18 : DC 1 b_m_rule 18 19 (.iadd) := ⟨by decide +kernel, rfl⟩
theorem d_m_rule_19 : DC 1 b_m_rule 19 20 (.iaload) := ⟨by decide +kernel, rfl⟩
theorem d_m_rule_20 : DG b_m_rule 20 24 := ⟨4, by decide +kernel, by decide⟩
theorem d_m_rule_23 : DC 1 b_m_rule 23 24 (.iconst (-1)) := ⟨by decide +kernel, rfl⟩
theorem d_m_rule_24 : DC 1 b_m_rule 24 25 (.ireturn) := ⟨by decide +kernel, rfl⟩
theorem d_m_spell_0 : DC 1 b_m_spell 0 1 (.iload_n 1) := ⟨by decide +kernel, rfl⟩
theorem d_m_spell_1 : DC 1 b_m_spell 1 2 (.istore_n 2) := ⟨by decide +kernel, rfl⟩
theorem d_m_spell_2 : DC 1 b_m_spell 2 3 (.aload_n 0) := ⟨by decide +kernel, rfl⟩
theorem d_m_spell_3 : DC 3 b_m_spell 3 6 (.getfield 23) := ⟨by decide +kernel, rfl⟩
theorem d_m_spell_6 : DC 1 b_m_spell 6 7 (.istore_n 3) := ⟨by decide +kernel, rfl⟩
theorem d_m_spell_7 : DC 1 b_m_spell 7 8 (.iconst 1) := ⟨by decide +kernel, rfl⟩
theorem d_m_spell_8 : DC 1 b_m_spell 8 9 (.aload_n 0) := ⟨by decide +kernel, rfl⟩
theorem d_m_spell_9 : DC 3 b_m_spell 9 12 (.getfield 19) := ⟨by decide +kernel, rfl⟩
theorem d_m_spell_12 : DC 1 b_m_spell 12 13 (.ishl) := ⟨by decide +kernel, rfl⟩
theorem d_m_spell_13 : DC 1 b_m_spell 13 14 (.iconst 2) := ⟨by decide +kernel, rfl⟩
theorem d_m_spell_14 : DC 1 b_m_spell 14 15 (.isub) := ⟨by decide +kernel, rfl⟩
theorem d_m_spell_15 : DC 2 b_m_spell 15 17 (.istore 4) := ⟨by decide +kernel, rfl⟩
theorem d_m_spell_17 : DC 1 b_m_spell 17 18 (.aload_n 0) := ⟨by decide +kernel, rfl⟩
theorem d_m_spell_18 : DC 3 b_m_spell 18 21 (.getfield 16) := ⟨by decide +kernel, rfl⟩
theorem d_m_spell_21 : DC 1 b_m_spell 21 22 (.iconst 0) := ⟨by decide +kernel, rfl⟩
theorem d_m_spell_22 : DC 1 b_m_spell 22 23 (.iconst 0) := ⟨by decide +kernel, rfl⟩
theorem d_m_spell_23 : DC 1 b_m_spell 23 24 (.iastore) := ⟨by decide +kernel, rfl⟩
theorem d_m_spell_24 : DC 1 b_m_spell 24 25 (.iconst 1) := ⟨by decide +kernel, rfl⟩
theorem d_m_spell_25 : DC 2 b_m_spell 25 27 (.istore 5) := ⟨by decide +kernel, rfl⟩
theorem d_m_spell_27 : DC 2 b_m_spell 27 29 (.iload 5) := ⟨by decide +kernel, rfl⟩
theorem d_m_spell_29 : DC 1 b_m_spell 29 30 (.aload_n 0) := ⟨by decide +kernel, rfl⟩
theorem d_m_spell_30 : DC 3 b_m_spell 30 33 (.getfield 19) := ⟨by decide +kernel, rfl⟩
theorem d_m_spell_33 : DI b_m_spell 33 36 120 .ge := ⟨87, by decide +kernel, by decide, rfl⟩
theorem d_m_spell_36 : DC 2 b_m_spell 36 38 (.iload 5) := ⟨by decide +kernel, rfl⟩
theorem d_m_spell_38 : DC 1 b_m_spell 38 39 (.aload_n 0) := ⟨by decide +kernel, rfl⟩
theorem d_m_spell_39 : DC 3 b_m_spell 39 42 (.getfield 19) := ⟨by decide +kernel, rfl⟩
theorem d_m_spell_42 : DI b_m_spell 42 45 57 .ge := ⟨15, by decide +kernel, by decide, rfl⟩
theorem d_m_spell_45 : DC 1 b_m_spell 45 46 (.iload_n 3) := ⟨by decide +kernel, rfl⟩
theorem d_m_spell_46 : DC 1 b_m_spell 46 47 (.aload_n 0) := ⟨by decide +kernel, rfl⟩
theorem d_m_spell_47 : DC 3 b_m_spell 47 50 (.getfield 19) := ⟨by decide +kernel, rfl⟩
theorem d_m_spell_50 : DC 2 b_m_spell 50 52 (.iload 5) := ⟨by decide +kernel, rfl⟩
theorem d_m_spell_52 : DC 1 b_m_spell 52 53 (.isub) := ⟨by decide +kernel, rfl⟩
theorem d_m_spell_53 : DC 1 b_m_spell 53 54 (.idiv) := ⟨by decide +kernel, rfl⟩
theorem d_m_spell_54 : DG b_m_spell 54 58 := ⟨4, by decide +kernel, by decide⟩
theorem d_m_spell_57 : DC 1 b_m_spell 57 58 (.iconst 1) := ⟨by decide +kernel, rfl⟩
theorem d_m_spell_58 : DC 1 b_m_spell 58 59 (.istore_n 3) := ⟨by decide +kernel, rfl⟩
theorem d_m_spell_59 : DC 1 b_m_spell 59 60 (.iload_n 3) := ⟨by decide +kernel, rfl⟩
theorem d_m_spell_60 : DF b_m_spell 60 63 69 .le := ⟨9, by decide +kernel, by decide, rfl⟩
theorem d_m_spell_63 : DC 1 b_m_spell 63 64 (.iload_n 2) := ⟨by decide +kernel, rfl⟩
theorem d_m_spell_64 : DC 1 b_m_spell 64 65 (.iload_n 3) := ⟨by decide +kernel, rfl⟩
theorem d_m_spell_65 : DC 1 b_m_spell 65 66 (.idiv) := ⟨by decide +kernel, rfl⟩
theorem d_m_spell_66 : DG b_m_spell 66 70 := ⟨4, by decide +kernel, by decide⟩
theorem d_m_spell_69 : DC 1 b_m_spell 69 70 (.iconst 0) := ⟨by decide +kernel, rfl⟩
theorem d_m_spell_70 : DC 2 b_m_spell 70 72 (.istore 6) := ⟨by decide +kernel, rfl⟩
theorem d_m_spell_72 : DC 1 b_m_spell 72 73 (.iload_n 3) := ⟨by decide +kernel, rfl⟩
theorem d_m_spell_73 : DF b_m_spell 73 76 82 .le := ⟨9, by decide +kernel, by decide, rfl⟩
theorem d_m_spell_76 : DC 1 b_m_spell 76 77 (.iload_n 2) := ⟨by decide +kernel, rfl⟩
theorem d_m_spell_77 : DC 1 b_m_spell 77 78 (.iload_n 3) := ⟨by decide +kernel, rfl⟩
theorem d_m_spell_78 : DC 1 b_m_spell 78 79 (.irem) := ⟨by decide +kernel, rfl⟩
theorem d_m_spell_79 : DG b_m_spell 79 83 := ⟨4, by decide +kernel, by decide⟩
theorem d_m_spell_82 : DC 1 b_m_spell 82 83 (.iconst 0) := ⟨by decide +kernel, rfl⟩
theorem d_m_spell_83 : DC 1 b_m_spell 83 84 (.istore_n 2) := ⟨by decide +kernel, rfl⟩
theorem d_m_spell_84 : DC 1 b_m_spell 84 85 (.aload_n 0) := ⟨by decide +kernel, rfl⟩
theorem d_m_spell_85 : DC 2 b_m_spell 85 87 (.iload 4) := ⟨by decide +kernel, rfl⟩
theorem d_m_spell_87 : DC 2 b_m_spell 87 89 (.iload 6) := ⟨by decide +kernel, rfl⟩
theorem d_m_spell_89 : DC 3 b_m_spell 89 92 (.invokevirtual 34) := ⟨by decide +kernel, rfl⟩
theorem d_m_spell_92 : DC 2 b_m_spell 92 94 (.istore 7) := ⟨by decide +kernel, rfl⟩
theorem d_m_spell_94 : DC 1 b_m_spell 94 95 (.aload_n 0) := ⟨by decide +kernel, rfl⟩
theorem d_m_spell_95 : DC 3 b_m_spell 95 98 (.getfield 16) := ⟨by decide +kernel, rfl⟩
theorem d_m_spell_98 : DC 2 b_m_spell 98 100 (.iload 5) := ⟨by decide +kernel, rfl⟩
theorem d_m_spell_100 : DC 2 b_m_spell 100 102 (.iload 7) := ⟨by decide +kernel, rfl⟩
theorem d_m_spell_102 : DC 1 b_m_spell 102 103 (.iastore) := ⟨by decide +kernel, rfl⟩
theorem d_m_spell_103 : DC 2 b_m_spell 103 105 (.iload 4) := ⟨by decide +kernel, rfl⟩
theorem d_m_spell_105 : DC 1 b_m_spell 105 106 (.iconst 1) := ⟨by decide +kernel, rfl⟩
theorem d_m_spell_106 : DC 2 b_m_spell 106 108 (.iload 7) := ⟨by decide +kernel, rfl⟩
theorem d_m_spell_108 : DC 1 b_m_spell 108 109 (.ishl) := ⟨by decide +kernel, rfl⟩
theorem d_m_spell_109 : DC 1 b_m_spell 109 110 (.iconst (-1)) := ⟨by decide +kernel, rfl⟩
theorem d_m_spell_110 : DC 1 b_m_spell 110 111 (.ixor) := ⟨by decide +kernel, rfl⟩
theorem d_m_spell_111 : DC 1 b_m_spell 111 112 (.iand) := ⟨by decide +kernel, rfl⟩
theorem d_m_spell_112 : DC 2 b_m_spell 112 114 (.istore 4) := ⟨by decide +kernel, rfl⟩
theorem d_m_spell_114 : DC 3 b_m_spell 114 117 (.iinc 5 1) := ⟨by decide +kernel, rfl⟩
theorem d_m_spell_117 : DG b_m_spell 117 27 := ⟨-90, by decide +kernel, by decide⟩
theorem d_m_spell_120 : DC 1 b_m_spell 120 121 (.return_) := ⟨by decide +kernel, rfl⟩
theorem d_m_nth_0 : DC 1 b_m_nth 0 1 (.iconst 0) := ⟨by decide +kernel, rfl⟩
theorem d_m_nth_1 : DC 1 b_m_nth 1 2 (.istore_n 3) := ⟨by decide +kernel, rfl⟩
theorem d_m_nth_2 : DC 1 b_m_nth 2 3 (.iconst 0) := ⟨by decide +kernel, rfl⟩
theorem d_m_nth_3 : DC 2 b_m_nth 3 5 (.istore 4) := ⟨by decide +kernel, rfl⟩
theorem d_m_nth_5 : DC 2 b_m_nth 5 7 (.iload 4) := ⟨by decide +kernel, rfl⟩
theorem d_m_nth_7 : DC 2 b_m_nth 7 9 (.bipush 7) := ⟨by decide +kernel, rfl⟩
theorem d_m_nth_9 : DI b_m_nth 9 12 39 .ge := ⟨30, by decide +kernel, by decide, rfl⟩
theorem d_m_nth_12 : DC 1 b_m_nth 12 13 (.iload_n 1) := ⟨by decide +kernel, rfl⟩
theorem d_m_nth_13 : DC 2 b_m_nth 13 15 (.iload 4) := ⟨by decide +kernel, rfl⟩
theorem d_m_nth_15 : DC 1 b_m_nth 15 16 (.ishr) := ⟨by decide +kernel, rfl⟩
theorem d_m_nth_16 : DC 1 b_m_nth 16 17 (.iconst 1) := ⟨by decide +kernel, rfl⟩
theorem d_m_nth_17 : DC 1 b_m_nth 17 18 (.iand) := ⟨by decide +kernel, rfl⟩
theorem d_m_nth_18 : DC 1 b_m_nth 18 19 (.iconst 1) := ⟨by decide +kernel, rfl⟩
theorem d_m_nth_19 : DI b_m_nth 19 22 33 .ne := ⟨14, by decide +kernel, by decide, rfl⟩
theorem d_m_nth_22 : DC 1 b_m_nth 22 23 (.iload_n 3) := ⟨by decide +kernel, rfl⟩
theorem d_m_nth_23 : DC 1 b_m_nth 23 24 (.iload_n 2) := ⟨by decide +kernel, rfl⟩
theorem d_m_nth_24 : DI b_m_nth 24 27 30 .ne := ⟨6, by decide +kernel, by decide, rfl⟩
theorem d_m_nth_27 : DC 2 b_m_nth 27 29 (.iload 4) := ⟨by decide +kernel, rfl⟩
theorem d_m_nth_29 : DC 1 b_m_nth 29 30 (.ireturn) := ⟨by decide +kernel, rfl⟩
theorem d_m_nth_30 : DC 3 b_m_nth 30 33 (.iinc 3 1) := ⟨by decide +kernel, rfl⟩
theorem d_m_nth_33 : DC 3 b_m_nth 33 36 (.iinc 4 1) := ⟨by decide +kernel, rfl⟩
theorem d_m_nth_36 : DG b_m_nth 36 5 := ⟨-31, by decide +kernel, by decide⟩
theorem d_m_nth_39 : DC 1 b_m_nth 39 40 (.iconst 0) := ⟨by decide +kernel, rfl⟩
theorem d_m_nth_40 : DC 1 b_m_nth 40 41 (.ireturn) := ⟨by decide +kernel, rfl⟩
theorem d_m_next_0 : DC 1 b_m_next 0 1 (.iload_n 1) := ⟨by decide +kernel, rfl⟩
theorem d_m_next_1 : DC 1 b_m_next 1 2 (.iconst 1) := ⟨by decide +kernel, rfl⟩
theorem d_m_next_2 : DC 1 b_m_next 2 3 (.iadd) := ⟨by decide +kernel, rfl⟩
theorem d_m_next_3 : DC 1 b_m_next 3 4 (.aload_n 0) := ⟨by decide +kernel, rfl⟩
theorem d_m_next_4 : DC 3 b_m_next 4 7 (.getfield 19) := ⟨by decide +kernel, rfl⟩
theorem d_m_next_7 : DI b_m_next 7 10 21 .ge := ⟨14, by decide +kernel, by decide, rfl⟩
theorem d_m_next_10 : DC 1 b_m_next 10 11 (.aload_n 0) := ⟨by decide +kernel, rfl⟩
theorem d_m_next_11 : DC 3 b_m_next 11 14 (.getfield 16) := ⟨by decide +kernel, rfl⟩
theorem d_m_next_14 : DC 1 b_m_next 14 15 (.iload_n 1) := ⟨by decide +kernel, rfl⟩
theorem d_m_next_15 : DC 1 b_m_next 15 16 (.iconst 1) := ⟨by decide +kernel, rfl⟩
theorem d_m_next_16 : DC 1 b_m_next 16 17 (.iadd) := ⟨by decide +kernel, rfl⟩
theorem d_m_next_17 : DC 1 b_m_next 17 18 (.iaload) := ⟨by decide +kernel, rfl⟩
theorem d_m_next_18 : DG b_m_next 18 22 := ⟨4, by decide +kernel, by decide⟩
theorem d_m_next_21 : DC 1 b_m_next 21 22 (.iconst 0) := ⟨by decide +kernel, rfl⟩
theorem d_m_next_22 : DC 1 b_m_next 22 23 (.ireturn) := ⟨by decide +kernel, rfl⟩
theorem d_m_allowed_0 : DC 1 b_m_allowed 0 1 (.iconst 0) := ⟨by decide +kernel, rfl⟩
theorem d_m_allowed_1 : DC 1 b_m_allowed 1 2 (.istore_n 1) := ⟨by decide +kernel, rfl⟩
theorem d_m_allowed_2 : DC 1 b_m_allowed 2 3 (.iconst 0) := ⟨by decide +kernel, rfl⟩
theorem d_m_allowed_3 : DC 1 b_m_allowed 3 4 (.istore_n 2) := ⟨by decide +kernel, rfl⟩
theorem d_m_allowed_4 : DC 1 b_m_allowed 4 5 (.iconst 0) := ⟨by decide +kernel, rfl⟩
theorem d_m_allowed_5 : DC 1 b_m_allowed 5 6 (.istore_n 3) := ⟨by decide +kernel, rfl⟩
theorem d_m_allowed_6 : DC 1 b_m_allowed 6 7 (.iload_n 3) := ⟨by decide +kernel, rfl⟩
theorem d_m_allowed_7 : DC 1 b_m_allowed 7 8 (.aload_n 0) := ⟨by decide +kernel, rfl⟩
theorem d_m_allowed_8 : DC 3 b_m_allowed 8 11 (.getfield 19) := ⟨by decide +kernel, rfl⟩
theorem d_m_allowed_11 : DI b_m_allowed 11 14 70 .ge := ⟨59, by decide +kernel, by decide, rfl⟩
theorem d_m_allowed_14 : DC 1 b_m_allowed 14 15 (.aload_n 0) := ⟨by decide +kernel, rfl⟩
theorem d_m_allowed_15 : DC 3 b_m_allowed 15 18 (.getfield 13) := ⟨by decide +kernel, rfl⟩
theorem d_m_allowed_18 : DC 1 b_m_allowed 18 19 (.aload_n 0) := ⟨by decide +kernel, rfl⟩
theorem d_m_allowed_19 : DC 3 b_m_allowed 19 22 (.getfield 16) := ⟨by decide +kernel, rfl⟩
theorem d_m_allowed_22 : DC 1 b_m_allowed 22 23 (.iload_n 3) := ⟨by decide +kernel, rfl⟩
theorem d_m_allowed_23 : DC 1 b_m_allowed 23 24 (.iaload) := ⟨by decide +kernel, rfl⟩
theorem d_m_allowed_24 : DC 2 b_m_allowed 24 26 (.bipush 7) := ⟨by decide +kernel, rfl⟩
theorem d_m_allowed_26 : DC 1 b_m_allowed 26 27 (.imul) := ⟨by decide +kernel, rfl⟩
theorem d_m_allowed_27 : DC 1 b_m_allowed 27 28 (.aload_n 0) := ⟨by decide +kernel, rfl⟩
theorem d_m_allowed_28 : DC 1 b_m_allowed 28 29 (.iload_n 3) := ⟨by decide +kernel, rfl⟩
theorem d_m_allowed_29 : DC 3 b_m_allowed 29 32 (.invokevirtual 38) := ⟨by decide +kernel, rfl⟩
theorem d_m_allowed_32 : DC 1 b_m_allowed 32 33 (.iadd) := ⟨by decide +kernel, rfl⟩
theorem d_m_allowed_33 : DC 1 b_m_allowed 33 34 (.iaload) := ⟨by decide +kernel, rfl⟩
theorem d_m_allowed_34 : DC 2 b_m_allowed 34 36 (.istore 4) := ⟨by decide +kernel, rfl⟩
theorem d_m_allowed_36 : DC 1 b_m_allowed 36 37 (.iload_n 1) := ⟨by decide +kernel, rfl⟩
theorem d_m_allowed_37 : DC 2 b_m_allowed 37 39 (.iload 4) := ⟨by decide +kernel, rfl⟩
theorem d_m_allowed_39 : DC 1 b_m_allowed 39 40 (.iconst 2) := ⟨by decide +kernel, rfl⟩
theorem d_m_allowed_40 : DI b_m_allowed 40 43 47 .ne := ⟨7, by decide +kernel, by decide, rfl⟩
theorem d_m_allowed_43 : DC 1 b_m_allowed 43 44 (.iconst 1) := ⟨by decide +kernel, rfl⟩
theorem d_m_allowed_44 : DG b_m_allowed 44 48 := ⟨4, by decide +kernel, by decide⟩
theorem d_m_allowed_47 : DC 1 b_m_allowed 47 48 (.iconst 0) := ⟨by decide +kernel, rfl⟩
theorem d_m_allowed_48 : DC 1 b_m_allowed 48 49 (.iadd) := ⟨by decide +kernel, rfl⟩
theorem d_m_allowed_49 : DC 1 b_m_allowed 49 50 (.istore_n 1) := ⟨by decide +kernel, rfl⟩
theorem d_m_allowed_50 : DC 1 b_m_allowed 50 51 (.iload_n 2) := ⟨by decide +kernel, rfl⟩
theorem d_m_allowed_51 : DC 2 b_m_allowed 51 53 (.iload 4) := ⟨by decide +kernel, rfl⟩
theorem d_m_allowed_53 : DC 1 b_m_allowed 53 54 (.iconst 1) := ⟨by decide +kernel, rfl⟩
theorem d_m_allowed_54 : DI b_m_allowed 54 57 61 .ne := ⟨7, by decide +kernel, by decide, rfl⟩
theorem d_m_allowed_57 : DC 1 b_m_allowed 57 58 (.iconst 1) := ⟨by decide +kernel, rfl⟩
theorem d_m_allowed_58 : DG b_m_allowed 58 62 := ⟨4, by decide +kernel, by decide⟩
theorem d_m_allowed_61 : DC 1 b_m_allowed 61 62 (.iconst 0) := ⟨by decide +kernel, rfl⟩
theorem d_m_allowed_62 : DC 1 b_m_allowed 62 63 (.iadd) := ⟨by decide +kernel, rfl⟩
theorem d_m_allowed_63 : DC 1 b_m_allowed 63 64 (.istore_n 2) := ⟨by decide +kernel, rfl⟩
theorem d_m_allowed_64 : DC 3 b_m_allowed 64 67 (.iinc 3 1) := ⟨by decide +kernel, rfl⟩
theorem d_m_allowed_67 : DG b_m_allowed 67 6 := ⟨-61, by decide +kernel, by decide⟩
theorem d_m_allowed_70 : DC 1 b_m_allowed 70 71 (.iconst 0) := ⟨by decide +kernel, rfl⟩
theorem d_m_allowed_71 : DC 1 b_m_allowed 71 72 (.istore_n 3) := ⟨by decide +kernel, rfl⟩
theorem d_m_allowed_72 : DC 1 b_m_allowed 72 73 (.iconst 0) := ⟨by decide +kernel, rfl⟩
theorem d_m_allowed_73 : DC 2 b_m_allowed 73 75 (.istore 4) := ⟨by decide +kernel, rfl⟩
theorem d_m_allowed_75 : DC 2 b_m_allowed 75 77 (.iload 4) := ⟨by decide +kernel, rfl⟩
theorem d_m_allowed_77 : DC 1 b_m_allowed 77 78 (.aload_n 0) := ⟨by decide +kernel, rfl⟩
theorem d_m_allowed_78 : DC 3 b_m_allowed 78 81 (.getfield 19) := ⟨by decide +kernel, rfl⟩
theorem d_m_allowed_81 : DI b_m_allowed 81 84 131 .ge := ⟨50, by decide +kernel, by decide, rfl⟩
theorem d_m_allowed_84 : DC 1 b_m_allowed 84 85 (.iconst 0) := ⟨by decide +kernel, rfl⟩
theorem d_m_allowed_85 : DC 2 b_m_allowed 85 87 (.istore 5) := ⟨by decide +kernel, rfl⟩
theorem d_m_allowed_87 : DC 2 b_m_allowed 87 89 (.iload 5) := ⟨by decide +kernel, rfl⟩
theorem d_m_allowed_89 : DC 2 b_m_allowed 89 91 (.iload 4) := ⟨by decide +kernel, rfl⟩
theorem d_m_allowed_91 : DI b_m_allowed 91 94 125 .ge := ⟨34, by decide +kernel, by decide, rfl⟩
theorem d_m_allowed_94 : DC 1 b_m_allowed 94 95 (.iload_n 3) := ⟨by decide +kernel, rfl⟩
theorem d_m_allowed_95 : DC 1 b_m_allowed 95 96 (.aload_n 0) := ⟨by decide +kernel, rfl⟩
theorem d_m_allowed_96 : DC 3 b_m_allowed 96 99 (.getfield 13) := ⟨by decide +kernel, rfl⟩
theorem d_m_allowed_99 : DC 2 b_m_allowed 99 101 (.iload 4) := ⟨by decide +kernel, rfl⟩
theorem d_m_allowed_101 : DC 2 b_m_allowed 101 103 (.bipush 7) := ⟨by decide +kernel, rfl⟩
theorem d_m_allowed_103 : DC 1 b_m_allowed 103 104 (.imul) := ⟨by decide +kernel, rfl⟩
theorem d_m_allowed_104 : DC 2 b_m_allowed 104 106 (.iload 5) := ⟨by decide +kernel, rfl⟩
theorem d_m_allowed_106 : DC 1 b_m_allowed 106 107 (.iadd) := ⟨by decide +kernel, rfl⟩
theorem d_m_allowed_107 : DC 1 b_m_allowed 107 108 (.iaload) := ⟨by decide +kernel, rfl⟩
theorem d_m_allowed_108 : DC 1 b_m_allowed 108 109 (.iconst 1) := ⟨by decide +kernel, rfl⟩
theorem d_m_allowed_109 : DI b_m_allowed 109 112 116 .ne := ⟨7, by decide +kernel, by decide, rfl⟩
theorem d_m_allowed_112 : DC 1 b_m_allowed 112 113 (.iconst 1) := ⟨by decide +kernel, rfl⟩
theorem d_m_allowed_113 : DG b_m_allowed 113 117 := ⟨4, by decide +kernel, by decide⟩
theorem d_m_allowed_116 : DC 1 b_m_allowed 116 117 (.iconst 0) := ⟨by decide +kernel, rfl⟩
theorem d_m_allowed_117 : DC 1 b_m_allowed 117 118 (.iadd) := ⟨by decide +kernel, rfl⟩
theorem d_m_allowed_118 : DC 1 b_m_allowed 118 119 (.istore_n 3) := ⟨by decide +kernel, rfl⟩
theorem d_m_allowed_119 : DC 3 b_m_allowed 119 122 (.iinc 5 1) := ⟨by decide +kernel, rfl⟩
theorem d_m_allowed_122 : DG b_m_allowed 122 87 := ⟨-35, by decide +kernel, by decide⟩
theorem d_m_allowed_125 : DC 3 b_m_allowed 125 128 (.iinc 4 1) := ⟨by decide +kernel, rfl⟩
theorem d_m_allowed_128 : DG b_m_allowed 128 75 := ⟨-53, by decide +kernel, by decide⟩
theorem d_m_allowed_131 : DC 1 b_m_allowed 131 132 (.iload_n 1) := ⟨by decide +kernel, rfl⟩
theorem d_m_allowed_132 : DF b_m_allowed 132 135 144 .ne := ⟨12, by decide +kernel, by decide, rfl⟩
theorem d_m_allowed_135 : DC 1 b_m_allowed 135 136 (.iload_n 2) := ⟨by decide +kernel, rfl⟩
theorem d_m_allowed_136 : DC 1 b_m_allowed 136 137 (.iload_n 3) := ⟨by decide +kernel, rfl⟩
theorem d_m_allowed_137 : DI b_m_allowed 137 140 144 .ne := ⟨7, by decide +kernel, by decide, rfl⟩
theorem d_m_allowed_140 : DC 1 b_m_allowed 140 141 (.iconst 1) := ⟨by decide +kernel, rfl⟩
theorem d_m_allowed_141 : DG b_m_allowed 141 145 := ⟨4, by decide +kernel, by decide⟩
theorem d_m_allowed_144 : DC 1 b_m_allowed 144 145 (.iconst 0) := ⟨by decide +kernel, rfl⟩
theorem d_m_allowed_145 : DC 1 b_m_allowed 145 146 (.ireturn) := ⟨by decide +kernel, rfl⟩
theorem d_m_cost_0 : DC 1 b_m_cost 0 1 (.iconst 0) := ⟨by decide +kernel, rfl⟩
theorem d_m_cost_1 : DC 1 b_m_cost 1 2 (.istore_n 1) := ⟨by decide +kernel, rfl⟩
theorem d_m_cost_2 : DC 1 b_m_cost 2 3 (.iconst 0) := ⟨by decide +kernel, rfl⟩
theorem d_m_cost_3 : DC 1 b_m_cost 3 4 (.istore_n 2) := ⟨by decide +kernel, rfl⟩
theorem d_m_cost_4 : DC 1 b_m_cost 4 5 (.iload_n 2) := ⟨by decide +kernel, rfl⟩
theorem d_m_cost_5 : DC 1 b_m_cost 5 6 (.aload_n 0) := ⟨by decide +kernel, rfl⟩
theorem d_m_cost_6 : DC 3 b_m_cost 6 9 (.getfield 19) := ⟨by decide +kernel, rfl⟩
theorem d_m_cost_9 : DI b_m_cost 9 12 41 .ge := ⟨32, by decide +kernel, by decide, rfl⟩
theorem d_m_cost_12 : DC 1 b_m_cost 12 13 (.iload_n 1) := ⟨by decide +kernel, rfl⟩
theorem d_m_cost_13 : DC 1 b_m_cost 13 14 (.aload_n 0) := ⟨by decide +kernel, rfl⟩
theorem d_m_cost_14 : DC 3 b_m_cost 14 17 (.getfield 7) := ⟨by decide +kernel, rfl⟩
theorem d_m_cost_17 : DC 1 b_m_cost 17 18 (.aload_n 0) := ⟨by decide +kernel, rfl⟩
theorem d_m_cost_18 : DC 3 b_m_cost 18 21 (.getfield 16) := ⟨by decide +kernel, rfl⟩
theorem d_m_cost_21 : DC 1 b_m_cost 21 22 (.iload_n 2) := ⟨by decide +kernel, rfl⟩
theorem d_m_cost_22 : DC 1 b_m_cost 22 23 (.iaload) := ⟨by decide +kernel, rfl⟩
theorem d_m_cost_23 : DC 2 b_m_cost 23 25 (.bipush 7) := ⟨by decide +kernel, rfl⟩
theorem d_m_cost_25 : DC 1 b_m_cost 25 26 (.imul) := ⟨by decide +kernel, rfl⟩
theorem d_m_cost_26 : DC 1 b_m_cost 26 27 (.aload_n 0) := ⟨by decide +kernel, rfl⟩
theorem d_m_cost_27 : DC 1 b_m_cost 27 28 (.iload_n 2) := ⟨by decide +kernel, rfl⟩
theorem d_m_cost_28 : DC 3 b_m_cost 28 31 (.invokevirtual 38) := ⟨by decide +kernel, rfl⟩
theorem d_m_cost_31 : DC 1 b_m_cost 31 32 (.iadd) := ⟨by decide +kernel, rfl⟩
theorem d_m_cost_32 : DC 1 b_m_cost 32 33 (.iaload) := ⟨by decide +kernel, rfl⟩
theorem d_m_cost_33 : DC 1 b_m_cost 33 34 (.iadd) := ⟨by decide +kernel, rfl⟩
theorem d_m_cost_34 : DC 1 b_m_cost 34 35 (.istore_n 1) := ⟨by decide +kernel, rfl⟩
theorem d_m_cost_35 : DC 3 b_m_cost 35 38 (.iinc 2 1) := ⟨by decide +kernel, rfl⟩
theorem d_m_cost_38 : DG b_m_cost 38 4 := ⟨-34, by decide +kernel, by decide⟩
theorem d_m_cost_41 : DC 1 b_m_cost 41 42 (.iload_n 1) := ⟨by decide +kernel, rfl⟩
theorem d_m_cost_42 : DC 1 b_m_cost 42 43 (.ireturn) := ⟨by decide +kernel, rfl⟩
theorem d_m_has_0 : DC 1 b_m_has 0 1 (.iconst 0) := ⟨by decide +kernel, rfl⟩
theorem d_m_has_1 : DC 1 b_m_has 1 2 (.istore_n 3) := ⟨by decide +kernel, rfl⟩
theorem d_m_has_2 : DC 1 b_m_has 2 3 (.iconst 0) := ⟨by decide +kernel, rfl⟩
theorem d_m_has_3 : DC 2 b_m_has 3 5 (.istore 4) := ⟨by decide +kernel, rfl⟩
theorem d_m_has_5 : DC 2 b_m_has 5 7 (.iload 4) := ⟨by decide +kernel, rfl⟩
theorem d_m_has_7 : DC 1 b_m_has 7 8 (.aload_n 0) := ⟨by decide +kernel, rfl⟩
theorem d_m_has_8 : DC 3 b_m_has 8 11 (.getfield 19) := ⟨by decide +kernel, rfl⟩
theorem d_m_has_11 : DI b_m_has 11 14 71 .ge := ⟨60, by decide +kernel, by decide, rfl⟩
theorem d_m_has_14 : DC 1 b_m_has 14 15 (.aload_n 0) := ⟨by decide +kernel, rfl⟩
theorem d_m_has_15 : DC 3 b_m_has 15 18 (.getfield 16) := ⟨by decide +kernel, rfl⟩
theorem d_m_has_18 : DC 2 b_m_has 18 20 (.iload 4) := ⟨by decide +kernel, rfl⟩
theorem d_m_has_20 : DC 1 b_m_has 20 21 (.iaload) := ⟨by decide +kernel, rfl⟩
theorem d_m_has_21 : DC 2 b_m_has 21 23 (.istore 5) := ⟨by decide +kernel, rfl⟩
theorem d_m_has_23 : DC 1 b_m_has 23 24 (.aload_n 0) := ⟨by decide +kernel, rfl⟩
theorem d_m_has_24 : DC 2 b_m_has 24 26 (.iload 4) := ⟨by decide +kernel, rfl⟩
theorem d_m_has_26 : DC 3 b_m_has 26 29 (.invokevirtual 38) := ⟨by decide +kernel, rfl⟩
theorem d_m_has_29 : DC 2 b_m_has 29 31 (.istore 6) := ⟨by decide +kernel, rfl⟩
theorem d_m_has_31 : DC 1 b_m_has 31 32 (.iload_n 3) := ⟨by decide +kernel, rfl⟩
theorem d_m_has_32 : DF b_m_has 32 35 59 .ne := ⟨27, by decide +kernel, by decide, rfl⟩
theorem d_m_has_35 : DC 2 b_m_has 35 37 (.iload 5) := ⟨by decide +kernel, rfl⟩
theorem d_m_has_37 : DC 1 b_m_has 37 38 (.iload_n 1) := ⟨by decide +kernel, rfl⟩
theorem d_m_has_38 : DI b_m_has 38 41 47 .ne := ⟨9, by decide +kernel, by decide, rfl⟩
theorem d_m_has_41 : DC 2 b_m_has 41 43 (.iload 6) := ⟨by decide +kernel, rfl⟩
theorem d_m_has_43 : DC 1 b_m_has 43 44 (.iload_n 2) := ⟨by decide +kernel, rfl⟩
theorem d_m_has_44 : DI b_m_has 44 47 59 .eq := ⟨15, by decide +kernel, by decide, rfl⟩
theorem d_m_has_47 : DC 2 b_m_has 47 49 (.iload 5) := ⟨by decide +kernel, rfl⟩
theorem d_m_has_49 : DC 1 b_m_has 49 50 (.iload_n 2) := ⟨by decide +kernel, rfl⟩
theorem d_m_has_50 : DI b_m_has 50 53 63 .ne := ⟨13, by decide +kernel, by decide, rfl⟩
theorem d_m_has_53 : DC 2 b_m_has 53 55 (.iload 6) := ⟨by decide +kernel, rfl⟩
theorem d_m_has_55 : DC 1 b_m_has 55 56 (.iload_n 1) := ⟨by decide +kernel, rfl⟩
theorem d_m_has_56 : DI b_m_has 56 59 63 .ne := ⟨7, by decide +kernel, by decide, rfl⟩
theorem d_m_has_59 : DC 1 b_m_has 59 60 (.iconst 1) := ⟨by decide +kernel, rfl⟩
theorem d_m_has_60 : DG b_m_has 60 64 := ⟨4, by decide +kernel, by decide⟩
theorem d_m_has_63 : DC 1 b_m_has 63 64 (.iconst 0) := ⟨by decide +kernel, rfl⟩
theorem d_m_has_64 : DC 1 b_m_has 64 65 (.istore_n 3) := ⟨by decide +kernel, rfl⟩
theorem d_m_has_65 : DC 3 b_m_has 65 68 (.iinc 4 1) := ⟨by decide +kernel, rfl⟩
theorem d_m_has_68 : DG b_m_has 68 5 := ⟨-63, by decide +kernel, by decide⟩
theorem d_m_has_71 : DC 1 b_m_has 71 72 (.iload_n 3) := ⟨by decide +kernel, rfl⟩
theorem d_m_has_72 : DC 1 b_m_has 72 73 (.ireturn) := ⟨by decide +kernel, rfl⟩
theorem d_m_least_0 : DC 1 b_m_least 0 1 (.iconst (-1)) := ⟨by decide +kernel, rfl⟩
theorem d_m_least_1 : DC 2 b_m_least 1 3 (.istore 4) := ⟨by decide +kernel, rfl⟩
theorem d_m_least_3 : DC 1 b_m_least 3 4 (.iconst 0) := ⟨by decide +kernel, rfl⟩
theorem d_m_least_4 : DC 2 b_m_least 4 6 (.istore 5) := ⟨by decide +kernel, rfl⟩
theorem d_m_least_6 : DC 2 b_m_least 6 8 (.iload 5) := ⟨by decide +kernel, rfl⟩
theorem d_m_least_8 : DC 1 b_m_least 8 9 (.aload_n 0) := ⟨by decide +kernel, rfl⟩
theorem d_m_least_9 : DC 3 b_m_least 9 12 (.getfield 23) := ⟨by decide +kernel, rfl⟩
theorem d_m_least_12 : DI b_m_least 12 15 93 .ge := ⟨81, by decide +kernel, by decide, rfl⟩
theorem d_m_least_15 : DC 2 b_m_least 15 17 (.iload 5) := ⟨by decide +kernel, rfl⟩
theorem d_m_least_17 : DC 3 b_m_least 17 20 (.sipush 720) := ⟨by decide +kernel, rfl⟩
theorem d_m_least_20 : DI b_m_least 20 23 93 .ge := ⟨73, by decide +kernel, by decide, rfl⟩
theorem d_m_least_23 : DC 1 b_m_least 23 24 (.aload_n 0) := ⟨by decide +kernel, rfl⟩
theorem d_m_least_24 : DC 2 b_m_least 24 26 (.iload 5) := ⟨by decide +kernel, rfl⟩
theorem d_m_least_26 : DC 3 b_m_least 26 29 (.invokevirtual 42) := ⟨by decide +kernel, rfl⟩
theorem d_m_least_29 : DC 1 b_m_least 29 30 (.iload_n 3) := ⟨by decide +kernel, rfl⟩
theorem d_m_least_30 : DC 1 b_m_least 30 31 (.iconst 2) := ⟨by decide +kernel, rfl⟩
theorem d_m_least_31 : DI b_m_least 31 34 53 .eq := ⟨22, by decide +kernel, by decide, rfl⟩
theorem d_m_least_34 : DC 1 b_m_least 34 35 (.aload_n 0) := ⟨by decide +kernel, rfl⟩
theorem d_m_least_35 : DC 1 b_m_least 35 36 (.iload_n 1) := ⟨by decide +kernel, rfl⟩
theorem d_m_least_36 : DC 1 b_m_least 36 37 (.iload_n 2) := ⟨by decide +kernel, rfl⟩
theorem d_m_least_37 : DC 3 b_m_least 37 40 (.invokevirtual 46) := ⟨by decide +kernel, rfl⟩
theorem d_m_least_40 : DC 1 b_m_least 40 41 (.iload_n 3) := ⟨by decide +kernel, rfl⟩
theorem d_m_least_41 : DC 1 b_m_least 41 42 (.iconst 1) := ⟨by decide +kernel, rfl⟩
theorem d_m_least_42 : DI b_m_least 42 45 49 .ne := ⟨7, by decide +kernel, by decide, rfl⟩
theorem d_m_least_45 : DC 1 b_m_least 45 46 (.iconst 1) := ⟨by decide +kernel, rfl⟩
theorem d_m_least_46 : DG b_m_least 46 50 := ⟨4, by decide +kernel, by decide⟩
theorem d_m_least_49 : DC 1 b_m_least 49 50 (.iconst 0) := ⟨by decide +kernel, rfl⟩
theorem d_m_least_50 : DI b_m_least 50 53 87 .ne := ⟨37, by decide +kernel, by decide, rfl⟩
theorem d_m_least_53 : DC 1 b_m_least 53 54 (.aload_n 0) := ⟨by decide +kernel, rfl⟩
theorem d_m_least_54 : DC 3 b_m_least 54 57 (.invokevirtual 49) := ⟨by decide +kernel, rfl⟩
theorem d_m_least_57 : DF b_m_least 57 60 87 .eq := ⟨30, by decide +kernel, by decide, rfl⟩
theorem d_m_least_60 : DC 1 b_m_least 60 61 (.aload_n 0) := ⟨by decide +kernel, rfl⟩
theorem d_m_least_61 : DC 3 b_m_least 61 64 (.invokevirtual 53) := ⟨by decide +kernel, rfl⟩
theorem d_m_least_64 : DC 2 b_m_least 64 66 (.istore 6) := ⟨by decide +kernel, rfl⟩
theorem d_m_least_66 : DC 2 b_m_least 66 68 (.iload 4) := ⟨by decide +kernel, rfl⟩
theorem d_m_least_68 : DF b_m_least 68 71 78 .lt := ⟨10, by decide +kernel, by decide, rfl⟩
theorem d_m_least_71 : DC 2 b_m_least 71 73 (.iload 6) := ⟨by decide +kernel, rfl⟩
theorem d_m_least_73 : DC 2 b_m_least 73 75 (.iload 4) := ⟨by decide +kernel, rfl⟩
theorem d_m_least_75 : DI b_m_least 75 78 83 .ge := ⟨8, by decide +kernel, by decide, rfl⟩
theorem d_m_least_78 : DC 2 b_m_least 78 80 (.iload 6) := ⟨by decide +kernel, rfl⟩
theorem d_m_least_80 : DG b_m_least 80 85 := ⟨5, by decide +kernel, by decide⟩
theorem d_m_least_83 : DC 2 b_m_least 83 85 (.iload 4) := ⟨by decide +kernel, rfl⟩
theorem d_m_least_85 : DC 2 b_m_least 85 87 (.istore 4) := ⟨by decide +kernel, rfl⟩
theorem d_m_least_87 : DC 3 b_m_least 87 90 (.iinc 5 1) := ⟨by decide +kernel, rfl⟩
theorem d_m_least_90 : DG b_m_least 90 6 := ⟨-84, by decide +kernel, by decide⟩
theorem d_m_least_93 : DC 2 b_m_least 93 95 (.iload 4) := ⟨by decide +kernel, rfl⟩
theorem d_m_least_95 : DC 1 b_m_least 95 96 (.ireturn) := ⟨by decide +kernel, rfl⟩
theorem d_m_best_0 : DC 1 b_m_best 0 1 (.aload_n 0) := ⟨by decide +kernel, rfl⟩
theorem d_m_best_1 : DC 1 b_m_best 1 2 (.iconst 0) := ⟨by decide +kernel, rfl⟩
theorem d_m_best_2 : DC 1 b_m_best 2 3 (.iconst 0) := ⟨by decide +kernel, rfl⟩
theorem d_m_best_3 : DC 1 b_m_best 3 4 (.iconst 2) := ⟨by decide +kernel, rfl⟩
theorem d_m_best_4 : DC 3 b_m_best 4 7 (.invokevirtual 57) := ⟨by decide +kernel, rfl⟩
theorem d_m_best_7 : DC 1 b_m_best 7 8 (.ireturn) := ⟨by decide +kernel, rfl⟩
theorem d_m_cityAt_0 : DC 1 b_m_cityAt 0 1 (.aload_n 0) := ⟨by decide +kernel, rfl⟩
theorem d_m_cityAt_1 : DC 3 b_m_cityAt 1 4 (.invokevirtual 61) := ⟨by decide +kernel, rfl⟩
theorem d_m_cityAt_4 : DC 1 b_m_cityAt 4 5 (.istore_n 2) := ⟨by decide +kernel, rfl⟩
theorem d_m_cityAt_5 : DC 1 b_m_cityAt 5 6 (.iload_n 2) := ⟨by decide +kernel, rfl⟩
theorem d_m_cityAt_6 : DF b_m_cityAt 6 9 21 .lt := ⟨15, by decide +kernel, by decide, rfl⟩
theorem d_m_cityAt_9 : DC 1 b_m_cityAt 9 10 (.iload_n 1) := ⟨by decide +kernel, rfl⟩
theorem d_m_cityAt_10 : DF b_m_cityAt 10 13 21 .lt := ⟨11, by decide +kernel, by decide, rfl⟩
theorem d_m_cityAt_13 : DC 1 b_m_cityAt 13 14 (.iload_n 1) := ⟨by decide +kernel, rfl⟩
theorem d_m_cityAt_14 : DC 1 b_m_cityAt 14 15 (.aload_n 0) := ⟨by decide +kernel, rfl⟩
theorem d_m_cityAt_15 : DC 3 b_m_cityAt 15 18 (.getfield 19) := ⟨by decide +kernel, rfl⟩
theorem d_m_cityAt_18 : DI b_m_cityAt 18 21 23 .lt := ⟨5, by decide +kernel, by decide, rfl⟩
theorem d_m_cityAt_21 : DC 1 b_m_cityAt 21 22 (.iconst (-1)) := ⟨by decide +kernel, rfl⟩
theorem d_m_cityAt_22 : DC 1 b_m_cityAt 22 23 (.ireturn) := ⟨by decide +kernel, rfl⟩
theorem d_m_cityAt_23 : DC 1 b_m_cityAt 23 24 (.iconst 0) := ⟨by decide +kernel, rfl⟩
theorem d_m_cityAt_24 : DC 1 b_m_cityAt 24 25 (.istore_n 3) := ⟨by decide +kernel, rfl⟩
theorem d_m_cityAt_25 : DC 1 b_m_cityAt 25 26 (.iload_n 3) := ⟨by decide +kernel, rfl⟩
theorem d_m_cityAt_26 : DC 1 b_m_cityAt 26 27 (.aload_n 0) := ⟨by decide +kernel, rfl⟩
theorem d_m_cityAt_27 : DC 3 b_m_cityAt 27 30 (.getfield 23) := ⟨by decide +kernel, rfl⟩
theorem d_m_cityAt_30 : DI b_m_cityAt 30 33 73 .ge := ⟨43, by decide +kernel, by decide, rfl⟩
theorem d_m_cityAt_33 : DC 1 b_m_cityAt 33 34 (.iload_n 3) := ⟨by decide +kernel, rfl⟩
theorem d_m_cityAt_34 : DC 3 b_m_cityAt 34 37 (.sipush 720) := ⟨by decide +kernel, rfl⟩
theorem d_m_cityAt_37 : DI b_m_cityAt 37 40 73 .ge := ⟨36, by decide +kernel, by decide, rfl⟩
theorem d_m_cityAt_40 : DC 1 b_m_cityAt 40 41 (.aload_n 0) := ⟨by decide +kernel, rfl⟩
theorem d_m_cityAt_41 : DC 1 b_m_cityAt 41 42 (.iload_n 3) := ⟨by decide +kernel, rfl⟩
theorem d_m_cityAt_42 : DC 3 b_m_cityAt 42 45 (.invokevirtual 42) := ⟨by decide +kernel, rfl⟩
theorem d_m_cityAt_45 : DC 1 b_m_cityAt 45 46 (.aload_n 0) := ⟨by decide +kernel, rfl⟩
theorem d_m_cityAt_46 : DC 3 b_m_cityAt 46 49 (.invokevirtual 53) := ⟨by decide +kernel, rfl⟩
theorem d_m_cityAt_49 : DC 1 b_m_cityAt 49 50 (.iload_n 2) := ⟨by decide +kernel, rfl⟩
theorem d_m_cityAt_50 : DI b_m_cityAt 50 53 67 .ne := ⟨17, by decide +kernel, by decide, rfl⟩
theorem d_m_cityAt_53 : DC 1 b_m_cityAt 53 54 (.aload_n 0) := ⟨by decide +kernel, rfl⟩
theorem d_m_cityAt_54 : DC 3 b_m_cityAt 54 57 (.invokevirtual 49) := ⟨by decide +kernel, rfl⟩
theorem d_m_cityAt_57 : DF b_m_cityAt 57 60 67 .eq := ⟨10, by decide +kernel, by decide, rfl⟩
theorem d_m_cityAt_60 : DC 1 b_m_cityAt 60 61 (.aload_n 0) := ⟨by decide +kernel, rfl⟩
theorem d_m_cityAt_61 : DC 3 b_m_cityAt 61 64 (.getfield 16) := ⟨by decide +kernel, rfl⟩
theorem d_m_cityAt_64 : DC 1 b_m_cityAt 64 65 (.iload_n 1) := ⟨by decide +kernel, rfl⟩
theorem d_m_cityAt_65 : DC 1 b_m_cityAt 65 66 (.iaload) := ⟨by decide +kernel, rfl⟩
theorem d_m_cityAt_66 : DC 1 b_m_cityAt 66 67 (.ireturn) := ⟨by decide +kernel, rfl⟩
theorem d_m_cityAt_67 : DC 3 b_m_cityAt 67 70 (.iinc 3 1) := ⟨by decide +kernel, rfl⟩
theorem d_m_cityAt_70 : DG b_m_cityAt 70 25 := ⟨-45, by decide +kernel, by decide⟩
theorem d_m_cityAt_73 : DC 1 b_m_cityAt 73 74 (.iconst (-1)) := ⟨by decide +kernel, rfl⟩
theorem d_m_cityAt_74 : DC 1 b_m_cityAt 74 75 (.ireturn) := ⟨by decide +kernel, rfl⟩
theorem d_m_bestWith_0 : DC 1 b_m_bestWith 0 1 (.aload_n 0) := ⟨by decide +kernel, rfl⟩
theorem d_m_bestWith_1 : DC 1 b_m_bestWith 1 2 (.iload_n 1) := ⟨by decide +kernel, rfl⟩
theorem d_m_bestWith_2 : DC 1 b_m_bestWith 2 3 (.iload_n 2) := ⟨by decide +kernel, rfl⟩
theorem d_m_bestWith_3 : DC 3 b_m_bestWith 3 6 (.invokevirtual 26) := ⟨by decide +kernel, rfl⟩
theorem d_m_bestWith_6 : DF b_m_bestWith 6 9 19 .eq := ⟨13, by decide +kernel, by decide, rfl⟩
theorem d_m_bestWith_9 : DC 1 b_m_bestWith 9 10 (.aload_n 0) := ⟨by decide +kernel, rfl⟩
theorem d_m_bestWith_10 : DC 1 b_m_bestWith 10 11 (.iload_n 1) := ⟨by decide +kernel, rfl⟩
theorem d_m_bestWith_11 : DC 1 b_m_bestWith 11 12 (.iload_n 2) := ⟨by decide +kernel, rfl⟩
theorem d_m_bestWith_12 : DC 1 b_m_bestWith 12 13 (.iconst 1) := ⟨by decide +kernel, rfl⟩
theorem d_m_bestWith_13 : DC 3 b_m_bestWith 13 16 (.invokevirtual 57) := ⟨by decide +kernel, rfl⟩
theorem d_m_bestWith_16 : DG b_m_bestWith 16 20 := ⟨4, by decide +kernel, by decide⟩
theorem d_m_bestWith_19 : DC 1 b_m_bestWith 19 20 (.iconst (-1)) := ⟨by decide +kernel, rfl⟩
theorem d_m_bestWith_20 : DC 1 b_m_bestWith 20 21 (.ireturn) := ⟨by decide +kernel, rfl⟩
theorem d_m_bestWithout_0 : DC 1 b_m_bestWithout 0 1 (.aload_n 0) := ⟨by decide +kernel, rfl⟩
theorem d_m_bestWithout_1 : DC 1 b_m_bestWithout 1 2 (.iload_n 1) := ⟨by decide +kernel, rfl⟩
theorem d_m_bestWithout_2 : DC 1 b_m_bestWithout 2 3 (.iload_n 2) := ⟨by decide +kernel, rfl⟩
theorem d_m_bestWithout_3 : DC 3 b_m_bestWithout 3 6 (.invokevirtual 26) := ⟨by decide +kernel, rfl⟩
theorem d_m_bestWithout_6 : DF b_m_bestWithout 6 9 19 .eq := ⟨13, by decide +kernel, by decide, rfl⟩
theorem d_m_bestWithout_9 : DC 1 b_m_bestWithout 9 10 (.aload_n 0) := ⟨by decide +kernel, rfl⟩
theorem d_m_bestWithout_10 : DC 1 b_m_bestWithout 10 11 (.iload_n 1) := ⟨by decide +kernel, rfl⟩
theorem d_m_bestWithout_11 : DC 1 b_m_bestWithout 11 12 (.iload_n 2) := ⟨by decide +kernel, rfl⟩
theorem d_m_bestWithout_12 : DC 1 b_m_bestWithout 12 13 (.iconst 0) := ⟨by decide +kernel, rfl⟩
theorem d_m_bestWithout_13 : DC 3 b_m_bestWithout 13 16 (.invokevirtual 57) := ⟨by decide +kernel, rfl⟩
theorem d_m_bestWithout_16 : DG b_m_bestWithout 16 20 := ⟨4, by decide +kernel, by decide⟩
theorem d_m_bestWithout_19 : DC 1 b_m_bestWithout 19 20 (.iconst (-1)) := ⟨by decide +kernel, rfl⟩
theorem d_m_bestWithout_20 : DC 1 b_m_bestWithout 20 21 (.ireturn) := ⟨by decide +kernel, rfl⟩
theorem d_m_neighbours_0 : DC 1 b_m_neighbours 0 1 (.aload_n 0) := ⟨by decide +kernel, rfl⟩
theorem d_m_neighbours_1 : DC 3 b_m_neighbours 1 4 (.invokevirtual 61) := ⟨by decide +kernel, rfl⟩
theorem d_m_neighbours_4 : DC 1 b_m_neighbours 4 5 (.istore_n 2) := ⟨by decide +kernel, rfl⟩
theorem d_m_neighbours_5 : DC 1 b_m_neighbours 5 6 (.iconst 0) := ⟨by decide +kernel, rfl⟩
theorem d_m_neighbours_6 : DC 1 b_m_neighbours 6 7 (.istore_n 3) := ⟨by decide +kernel, rfl⟩
theorem d_m_neighbours_7 : DC 1 b_m_neighbours 7 8 (.iload_n 2) := ⟨by decide +kernel, rfl⟩
theorem d_m_neighbours_8 : DF b_m_neighbours 8 11 23 .lt := ⟨15, by decide +kernel, by decide, rfl⟩
theorem d_m_neighbours_11 : DC 1 b_m_neighbours 11 12 (.iload_n 1) := ⟨by decide +kernel, rfl⟩
theorem d_m_neighbours_12 : DF b_m_neighbours 12 15 23 .lt := ⟨11, by decide +kernel, by decide, rfl⟩
theorem d_m_neighbours_15 : DC 1 b_m_neighbours 15 16 (.iload_n 1) := ⟨by decide +kernel, rfl⟩
theorem d_m_neighbours_16 : DC 1 b_m_neighbours 16 17 (.aload_n 0) := ⟨by decide +kernel, rfl⟩
theorem d_m_neighbours_17 : DC 3 b_m_neighbours 17 20 (.getfield 19) := ⟨by decide +kernel, rfl⟩
theorem d_m_neighbours_20 : DI b_m_neighbours 20 23 25 .lt := ⟨5, by decide +kernel, by decide, rfl⟩
theorem d_m_neighbours_23 : DC 1 b_m_neighbours 23 24 (.iconst 0) := ⟨by decide +kernel, rfl⟩
theorem d_m_neighbours_24 : DC 1 b_m_neighbours 24 25 (.ireturn) := ⟨by decide +kernel, rfl⟩
theorem d_m_neighbours_25 : DC 1 b_m_neighbours 25 26 (.iconst 0) := ⟨by decide +kernel, rfl⟩
theorem d_m_neighbours_26 : DC 2 b_m_neighbours 26 28 (.istore 4) := ⟨by decide +kernel, rfl⟩
theorem d_m_neighbours_28 : DC 2 b_m_neighbours 28 30 (.iload 4) := ⟨by decide +kernel, rfl⟩
theorem d_m_neighbours_30 : DC 1 b_m_neighbours 30 31 (.aload_n 0) := ⟨by decide +kernel, rfl⟩
theorem d_m_neighbours_31 : DC 3 b_m_neighbours 31 34 (.getfield 23) := ⟨by decide +kernel, rfl⟩
theorem d_m_neighbours_34 : DI b_m_neighbours 34 37 111 .ge := ⟨77, by decide +kernel, by decide, rfl⟩
theorem d_m_neighbours_37 : DC 2 b_m_neighbours 37 39 (.iload 4) := ⟨by decide +kernel, rfl⟩
theorem d_m_neighbours_39 : DC 3 b_m_neighbours 39 42 (.sipush 720) := ⟨by decide +kernel, rfl⟩
theorem d_m_neighbours_42 : DI b_m_neighbours 42 45 111 .ge := ⟨69, by decide +kernel, by decide, rfl⟩
theorem d_m_neighbours_45 : DC 1 b_m_neighbours 45 46 (.aload_n 0) := ⟨by decide +kernel, rfl⟩
theorem d_m_neighbours_46 : DC 2 b_m_neighbours 46 48 (.iload 4) := ⟨by decide +kernel, rfl⟩
theorem d_m_neighbours_48 : DC 3 b_m_neighbours 48 51 (.invokevirtual 42) := ⟨by decide +kernel, rfl⟩
theorem d_m_neighbours_51 : DC 1 b_m_neighbours 51 52 (.aload_n 0) := ⟨by decide +kernel, rfl⟩
theorem d_m_neighbours_52 : DC 3 b_m_neighbours 52 55 (.invokevirtual 53) := ⟨by decide +kernel, rfl⟩
theorem d_m_neighbours_55 : DC 1 b_m_neighbours 55 56 (.iload_n 2) := ⟨by decide +kernel, rfl⟩
theorem d_m_neighbours_56 : DI b_m_neighbours 56 59 105 .ne := ⟨49, by decide +kernel, by decide, rfl⟩
theorem d_m_neighbours_59 : DC 1 b_m_neighbours 59 60 (.aload_n 0) := ⟨by decide +kernel, rfl⟩
theorem d_m_neighbours_60 : DC 3 b_m_neighbours 60 63 (.invokevirtual 49) := ⟨by decide +kernel, rfl⟩
theorem d_m_neighbours_63 : DF b_m_neighbours 63 66 105 .eq := ⟨42, by decide +kernel, by decide, rfl⟩
theorem d_m_neighbours_66 : DC 1 b_m_neighbours 66 67 (.iconst 0) := ⟨by decide +kernel, rfl⟩
theorem d_m_neighbours_67 : DC 2 b_m_neighbours 67 69 (.istore 5) := ⟨by decide +kernel, rfl⟩
theorem d_m_neighbours_69 : DC 2 b_m_neighbours 69 71 (.iload 5) := ⟨by decide +kernel, rfl⟩
theorem d_m_neighbours_71 : DC 1 b_m_neighbours 71 72 (.aload_n 0) := ⟨by decide +kernel, rfl⟩
theorem d_m_neighbours_72 : DC 3 b_m_neighbours 72 75 (.getfield 19) := ⟨by decide +kernel, rfl⟩
theorem d_m_neighbours_75 : DI b_m_neighbours 75 78 105 .ge := ⟨30, by decide +kernel, by decide, rfl⟩
theorem d_m_neighbours_78 : DC 1 b_m_neighbours 78 79 (.aload_n 0) := ⟨by decide +kernel, rfl⟩
theorem d_m_neighbours_79 : DC 1 b_m_neighbours 79 80 (.iload_n 1) := ⟨by decide +kernel, rfl⟩
theorem d_m_neighbours_80 : DC 2 b_m_neighbours 80 82 (.iload 5) := ⟨by decide +kernel, rfl⟩
theorem d_m_neighbours_82 : DC 3 b_m_neighbours 82 85 (.invokevirtual 46) := ⟨by decide +kernel, rfl⟩
theorem d_m_neighbours_85 : DF b_m_neighbours 85 88 97 .eq := ⟨12, by decide +kernel, by decide, rfl⟩
theorem d_m_neighbours_88 : DC 1 b_m_neighbours 88 89 (.iload_n 3) := ⟨by decide +kernel, rfl⟩
theorem d_m_neighbours_89 : DC 1 b_m_neighbours 89 90 (.iconst 1) := ⟨by decide +kernel, rfl⟩
theorem d_m_neighbours_90 : DC 2 b_m_neighbours 90 92 (.iload 5) := ⟨by decide +kernel, rfl⟩
theorem d_m_neighbours_92 : DC 1 b_m_neighbours 92 93 (.ishl) := ⟨by decide +kernel, rfl⟩
theorem d_m_neighbours_93 : DC 1 b_m_neighbours 93 94 (.ior) := ⟨by decide +kernel, rfl⟩
theorem d_m_neighbours_94 : DG b_m_neighbours 94 98 := ⟨4, by decide +kernel, by decide⟩
theorem d_m_neighbours_97 : DC 1 b_m_neighbours 97 98 (.iload_n 3) := ⟨by decide +kernel, rfl⟩
theorem d_m_neighbours_98 : DC 1 b_m_neighbours 98 99 (.istore_n 3) := ⟨by decide +kernel, rfl⟩
theorem d_m_neighbours_99 : DC 3 b_m_neighbours 99 102 (.iinc 5 1) := ⟨by decide +kernel, rfl⟩
theorem d_m_neighbours_102 : DG b_m_neighbours 102 69 := ⟨-33, by decide +kernel, by decide⟩
theorem d_m_neighbours_105 : DC 3 b_m_neighbours 105 108 (.iinc 4 1) := ⟨by decide +kernel, rfl⟩
theorem d_m_neighbours_108 : DG b_m_neighbours 108 28 := ⟨-80, by decide +kernel, by decide⟩
theorem d_m_neighbours_111 : DC 1 b_m_neighbours 111 112 (.iload_n 3) := ⟨by decide +kernel, rfl⟩
theorem d_m_neighbours_112 : DC 1 b_m_neighbours 112 113 (.ireturn) := ⟨by decide +kernel, rfl⟩
theorem d_m_limit_0 : DC 1 b_m_limit 0 1 (.aload_n 0) := ⟨by decide +kernel, rfl⟩
theorem d_m_limit_1 : DC 1 b_m_limit 1 2 (.iload_n 1) := ⟨by decide +kernel, rfl⟩
theorem d_m_limit_2 : DC 1 b_m_limit 2 3 (.iload_n 2) := ⟨by decide +kernel, rfl⟩
theorem d_m_limit_3 : DC 3 b_m_limit 3 6 (.invokevirtual 64) := ⟨by decide +kernel, rfl⟩
theorem d_m_limit_6 : DC 1 b_m_limit 6 7 (.istore_n 3) := ⟨by decide +kernel, rfl⟩
theorem d_m_limit_7 : DC 1 b_m_limit 7 8 (.aload_n 0) := ⟨by decide +kernel, rfl⟩
theorem d_m_limit_8 : DC 1 b_m_limit 8 9 (.iload_n 1) := ⟨by decide +kernel, rfl⟩
theorem d_m_limit_9 : DC 1 b_m_limit 9 10 (.iload_n 2) := ⟨by decide +kernel, rfl⟩
theorem d_m_limit_10 : DC 3 b_m_limit 10 13 (.invokevirtual 67) := ⟨by decide +kernel, rfl⟩
theorem d_m_limit_13 : DC 2 b_m_limit 13 15 (.istore 4) := ⟨by decide +kernel, rfl⟩
theorem d_m_limit_15 : DC 1 b_m_limit 15 16 (.iload_n 3) := ⟨by decide +kernel, rfl⟩
theorem d_m_limit_16 : DF b_m_limit 16 19 21 .ge := ⟨5, by decide +kernel, by decide, rfl⟩
theorem d_m_limit_19 : DC 1 b_m_limit 19 20 (.iconst (-1)) := ⟨by decide +kernel, rfl⟩
theorem d_m_limit_20 : DC 1 b_m_limit 20 21 (.ireturn) := ⟨by decide +kernel, rfl⟩
theorem d_m_limit_21 : DC 2 b_m_limit 21 23 (.bipush 99) := ⟨by decide +kernel, rfl⟩
theorem d_m_limit_23 : DC 2 b_m_limit 23 25 (.istore 5) := ⟨by decide +kernel, rfl⟩
theorem d_m_limit_25 : DC 2 b_m_limit 25 27 (.iload 5) := ⟨by decide +kernel, rfl⟩
theorem d_m_limit_27 : DF b_m_limit 27 30 69 .lt := ⟨42, by decide +kernel, by decide, rfl⟩
theorem d_m_limit_30 : DC 1 b_m_limit 30 31 (.iload_n 3) := ⟨by decide +kernel, rfl⟩
theorem d_m_limit_31 : DC 1 b_m_limit 31 32 (.aload_n 0) := ⟨by decide +kernel, rfl⟩
theorem d_m_limit_32 : DC 3 b_m_limit 32 35 (.getfield 7) := ⟨by decide +kernel, rfl⟩
theorem d_m_limit_35 : DC 1 b_m_limit 35 36 (.iload_n 1) := ⟨by decide +kernel, rfl⟩
theorem d_m_limit_36 : DC 2 b_m_limit 36 38 (.bipush 7) := ⟨by decide +kernel, rfl⟩
theorem d_m_limit_38 : DC 1 b_m_limit 38 39 (.imul) := ⟨by decide +kernel, rfl⟩
theorem d_m_limit_39 : DC 1 b_m_limit 39 40 (.iload_n 2) := ⟨by decide +kernel, rfl⟩
theorem d_m_limit_40 : DC 1 b_m_limit 40 41 (.iadd) := ⟨by decide +kernel, rfl⟩
theorem d_m_limit_41 : DC 1 b_m_limit 41 42 (.iaload) := ⟨by decide +kernel, rfl⟩
theorem d_m_limit_42 : DC 1 b_m_limit 42 43 (.isub) := ⟨by decide +kernel, rfl⟩
theorem d_m_limit_43 : DC 2 b_m_limit 43 45 (.iload 5) := ⟨by decide +kernel, rfl⟩
theorem d_m_limit_45 : DC 1 b_m_limit 45 46 (.iadd) := ⟨by decide +kernel, rfl⟩
theorem d_m_limit_46 : DC 2 b_m_limit 46 48 (.istore 6) := ⟨by decide +kernel, rfl⟩
theorem d_m_limit_48 : DC 2 b_m_limit 48 50 (.iload 4) := ⟨by decide +kernel, rfl⟩
theorem d_m_limit_50 : DF b_m_limit 50 53 60 .lt := ⟨10, by decide +kernel, by decide, rfl⟩
theorem d_m_limit_53 : DC 2 b_m_limit 53 55 (.iload 6) := ⟨by decide +kernel, rfl⟩
theorem d_m_limit_55 : DC 2 b_m_limit 55 57 (.iload 4) := ⟨by decide +kernel, rfl⟩
theorem d_m_limit_57 : DI b_m_limit 57 60 63 .gt := ⟨6, by decide +kernel, by decide, rfl⟩
theorem d_m_limit_60 : DC 2 b_m_limit 60 62 (.iload 5) := ⟨by decide +kernel, rfl⟩
theorem d_m_limit_62 : DC 1 b_m_limit 62 63 (.ireturn) := ⟨by decide +kernel, rfl⟩
theorem d_m_limit_63 : DC 3 b_m_limit 63 66 (.iinc 5 (-1)) := ⟨by decide +kernel, rfl⟩
theorem d_m_limit_66 : DG b_m_limit 66 25 := ⟨-41, by decide +kernel, by decide⟩
theorem d_m_limit_69 : DC 1 b_m_limit 69 70 (.iconst (-1)) := ⟨by decide +kernel, rfl⟩
theorem d_m_limit_70 : DC 1 b_m_limit 70 71 (.ireturn) := ⟨by decide +kernel, rfl⟩
end
section
/-! decode rows: pc, the next pc, the instruction (printed by program) -/
theorem d_l_cell_0 : DC 1 b_l_cell 0 1 (.iload_n 1) := ⟨by decide +kernel, rfl⟩
theorem d_l_cell_1 : DC 1 b_l_cell 1 2 (.aload_n 0) := ⟨by decide +kernel, rfl⟩
theorem d_l_cell_2 : DC 1 b_l_cell 2 3 (.arraylength) := ⟨by decide +kernel, rfl⟩
theorem d_l_cell_3 : DI b_l_cell 3 6 12 .ge := ⟨9, by decide +kernel, by decide, rfl⟩
theorem d_l_cell_6 : DC 1 b_l_cell 6 7 (.aload_n 0) := ⟨by decide +kernel, rfl⟩
theorem d_l_cell_7 : DC 1 b_l_cell 7 8 (.iload_n 1) := ⟨by decide +kernel, rfl⟩
theorem d_l_cell_8 : DC 1 b_l_cell 8 9 (.iaload) := ⟨by decide +kernel, rfl⟩
theorem d_l_cell_9 : DG b_l_cell 9 13 := ⟨4, by decide +kernel, by decide⟩
theorem d_l_cell_12 : DC 1 b_l_cell 12 13 (.iconst 0) := ⟨by decide +kernel, rfl⟩
theorem d_l_cell_13 : DC 1 b_l_cell 13 14 (.ireturn) := ⟨by decide +kernel, rfl⟩
theorem d_l_law_0 : DC 3 code 0 3 (.new 7) := ⟨by decide +kernel, rfl⟩
theorem d_l_law_3 : DC 1 code 3 4 (.dup) := ⟨by decide +kernel, rfl⟩
theorem d_l_law_4 : DC 1 code 4 5 (.aload_n 0) := ⟨by decide +kernel, rfl⟩
theorem d_l_law_5 : DC 1 code 5 6 (.iconst 0) := ⟨by decide +kernel, rfl⟩
theorem d_l_law_6 : DC 3 code 6 9 (.invokestatic 9) := ⟨by decide +kernel, rfl⟩
theorem d_l_law_9 : DC 1 code 9 10 (.aload_n 0) := ⟨by decide +kernel, rfl⟩
theorem d_l_law_10 : DC 1 code 10 11 (.iconst 1) := ⟨by decide +kernel, rfl⟩
theorem d_l_law_11 : DC 3 code 11 14 (.invokestatic 9) := ⟨by decide +kernel, rfl⟩
theorem d_l_law_14 : DC 3 code 14 17 (.invokespecial 15) := ⟨by decide +kernel, rfl⟩
theorem d_l_law_17 : DC 1 code 17 18 (.astore_n 1) := ⟨by decide +kernel, rfl⟩
theorem d_l_law_18 : DC 3 code 18 21 (.new 18) := ⟨by decide +kernel, rfl⟩
theorem d_l_law_21 : DC 1 code 21 22 (.dup) := ⟨by decide +kernel, rfl⟩
theorem d_l_law_22 : DC 1 code 22 23 (.aload_n 0) := ⟨by decide +kernel, rfl⟩
theorem d_l_law_23 : DC 1 code 23 24 (.iconst 0) := ⟨by decide +kernel, rfl⟩
theorem d_l_law_24 : DC 3 code 24 27 (.invokestatic 9) := ⟨by decide +kernel, rfl⟩
theorem d_l_law_27 : DC 1 code 27 28 (.aload_n 0) := ⟨by decide +kernel, rfl⟩
theorem d_l_law_28 : DC 1 code 28 29 (.iconst 1) := ⟨by decide +kernel, rfl⟩
theorem d_l_law_29 : DC 3 code 29 32 (.invokestatic 9) := ⟨by decide +kernel, rfl⟩
theorem d_l_law_32 : DC 3 code 32 35 (.invokespecial 20) := ⟨by decide +kernel, rfl⟩
theorem d_l_law_35 : DC 1 code 35 36 (.astore_n 2) := ⟨by decide +kernel, rfl⟩
theorem d_l_law_36 : DC 1 code 36 37 (.iconst 2) := ⟨by decide +kernel, rfl⟩
theorem d_l_law_37 : DC 1 code 37 38 (.istore_n 3) := ⟨by decide +kernel, rfl⟩
theorem d_l_law_38 : DC 1 code 38 39 (.iload_n 3) := ⟨by decide +kernel, rfl⟩
theorem d_l_law_39 : DC 1 code 39 40 (.aload_n 0) := ⟨by decide +kernel, rfl⟩
theorem d_l_law_40 : DC 1 code 40 41 (.arraylength) := ⟨by decide +kernel, rfl⟩
theorem d_l_law_41 : DC 1 code 41 42 (.iconst 4) := ⟨by decide +kernel, rfl⟩
theorem d_l_law_42 : DC 1 code 42 43 (.isub) := ⟨by decide +kernel, rfl⟩
theorem d_l_law_43 : DI code 43 46 461 .gt := ⟨418, by decide +kernel, by decide, rfl⟩
theorem d_l_law_46 : DC 1 code 46 47 (.aload_n 0) := ⟨by decide +kernel, rfl⟩
theorem d_l_law_47 : DC 1 code 47 48 (.iload_n 3) := ⟨by decide +kernel, rfl⟩
theorem d_l_law_48 : DC 1 code 48 49 (.iaload) := ⟨by decide +kernel, rfl⟩
theorem d_l_law_49 : DC 2 code 49 51 (.bipush 15) := ⟨by decide +kernel, rfl⟩
theorem d_l_law_51 : DC 1 code 51 52 (.iand) := ⟨by decide +kernel, rfl⟩
theorem d_l_law_52 : decode code 52 = .ok (.tableswitch 403 0 10 #[60, 103, 146, 179, 212, 245, 258, 281, 314, 347, 370], 60) := by decide +kernel
theorem d_l_law_112 : DC 1 code 112 113 (.aload_n 1) := ⟨by decide +kernel, rfl⟩
theorem d_l_law_113 : DC 1 code 113 114 (.aload_n 0) := ⟨by decide +kernel, rfl⟩
theorem d_l_law_114 : DC 1 code 114 115 (.iload_n 3) := ⟨by decide +kernel, rfl⟩
theorem d_l_law_115 : DC 1 code 115 116 (.iconst 1) := ⟨by decide +kernel, rfl⟩
theorem d_l_law_116 : DC 1 code 116 117 (.iadd) := ⟨by decide +kernel, rfl⟩
theorem d_l_law_117 : DC 1 code 117 118 (.iaload) := ⟨by decide +kernel, rfl⟩
theorem d_l_law_118 : DC 1 code 118 119 (.aload_n 0) := ⟨by decide +kernel, rfl⟩
theorem d_l_law_119 : DC 1 code 119 120 (.iload_n 3) := ⟨by decide +kernel, rfl⟩
theorem d_l_law_120 : DC 1 code 120 121 (.iconst 2) := ⟨by decide +kernel, rfl⟩
theorem d_l_law_121 : DC 1 code 121 122 (.iadd) := ⟨by decide +kernel, rfl⟩
theorem d_l_law_122 : DC 1 code 122 123 (.iaload) := ⟨by decide +kernel, rfl⟩
theorem d_l_law_123 : DC 1 code 123 124 (.aload_n 0) := ⟨by decide +kernel, rfl⟩
theorem d_l_law_124 : DC 1 code 124 125 (.iload_n 3) := ⟨by decide +kernel, rfl⟩
theorem d_l_law_125 : DC 1 code 125 126 (.iconst 3) := ⟨by decide +kernel, rfl⟩
theorem d_l_law_126 : DC 1 code 126 127 (.iadd) := ⟨by decide +kernel, rfl⟩
theorem d_l_law_127 : DC 1 code 127 128 (.iaload) := ⟨by decide +kernel, rfl⟩
theorem d_l_law_128 : DC 3 code 128 131 (.invokevirtual 21) := ⟨by decide +kernel, rfl⟩
theorem d_l_law_131 : DC 1 code 131 132 (.aload_n 2) := ⟨by decide +kernel, rfl⟩
theorem d_l_law_132 : DC 1 code 132 133 (.aload_n 0) := ⟨by decide +kernel, rfl⟩
theorem d_l_law_133 : DC 1 code 133 134 (.iload_n 3) := ⟨by decide +kernel, rfl⟩
theorem d_l_law_134 : DC 1 code 134 135 (.iconst 1) := ⟨by decide +kernel, rfl⟩
theorem d_l_law_135 : DC 1 code 135 136 (.iadd) := ⟨by decide +kernel, rfl⟩
theorem d_l_law_136 : DC 1 code 136 137 (.iaload) := ⟨by decide +kernel, rfl⟩
theorem d_l_law_137 : DC 1 code 137 138 (.aload_n 0) := ⟨by decide +kernel, rfl⟩
theorem d_l_law_138 : DC 1 code 138 139 (.iload_n 3) := ⟨by decide +kernel, rfl⟩
theorem d_l_law_139 : DC 1 code 139 140 (.iconst 2) := ⟨by decide +kernel, rfl⟩
theorem d_l_law_140 : DC 1 code 140 141 (.iadd) := ⟨by decide +kernel, rfl⟩
theorem d_l_law_141 : DC 1 code 141 142 (.iaload) := ⟨by decide +kernel, rfl⟩
theorem d_l_law_142 : DC 1 code 142 143 (.aload_n 0) := ⟨by decide +kernel, rfl⟩
theorem d_l_law_143 : DC 1 code 143 144 (.iload_n 3) := ⟨by decide +kernel, rfl⟩
theorem d_l_law_144 : DC 1 code 144 145 (.iconst 3) := ⟨by decide +kernel, rfl⟩
theorem d_l_law_145 : DC 1 code 145 146 (.iadd) := ⟨by decide +kernel, rfl⟩
theorem d_l_law_146 : DC 1 code 146 147 (.iaload) := ⟨by decide +kernel, rfl⟩
theorem d_l_law_147 : DC 3 code 147 150 (.invokevirtual 25) := ⟨by decide +kernel, rfl⟩
theorem d_l_law_150 : DI code 150 153 455 .eq := ⟨305, by decide +kernel, by decide, rfl⟩
theorem d_l_law_153 : DC 1 code 153 154 (.iconst 0) := ⟨by decide +kernel, rfl⟩
theorem d_l_law_154 : DC 1 code 154 155 (.ireturn) := ⟨by decide +kernel, rfl⟩
theorem d_l_law_155 : DC 1 code 155 156 (.aload_n 1) := ⟨by decide +kernel, rfl⟩
theorem d_l_law_156 : DC 1 code 156 157 (.aload_n 0) := ⟨by decide +kernel, rfl⟩
theorem d_l_law_157 : DC 1 code 157 158 (.iload_n 3) := ⟨by decide +kernel, rfl⟩
theorem d_l_law_158 : DC 1 code 158 159 (.iconst 1) := ⟨by decide +kernel, rfl⟩
theorem d_l_law_159 : DC 1 code 159 160 (.iadd) := ⟨by decide +kernel, rfl⟩
theorem d_l_law_160 : DC 1 code 160 161 (.iaload) := ⟨by decide +kernel, rfl⟩
theorem d_l_law_161 : DC 1 code 161 162 (.aload_n 0) := ⟨by decide +kernel, rfl⟩
theorem d_l_law_162 : DC 1 code 162 163 (.iload_n 3) := ⟨by decide +kernel, rfl⟩
theorem d_l_law_163 : DC 1 code 163 164 (.iconst 2) := ⟨by decide +kernel, rfl⟩
theorem d_l_law_164 : DC 1 code 164 165 (.iadd) := ⟨by decide +kernel, rfl⟩
theorem d_l_law_165 : DC 1 code 165 166 (.iaload) := ⟨by decide +kernel, rfl⟩
theorem d_l_law_166 : DC 1 code 166 167 (.aload_n 0) := ⟨by decide +kernel, rfl⟩
theorem d_l_law_167 : DC 1 code 167 168 (.iload_n 3) := ⟨by decide +kernel, rfl⟩
theorem d_l_law_168 : DC 1 code 168 169 (.iconst 3) := ⟨by decide +kernel, rfl⟩
theorem d_l_law_169 : DC 1 code 169 170 (.iadd) := ⟨by decide +kernel, rfl⟩
theorem d_l_law_170 : DC 1 code 170 171 (.iaload) := ⟨by decide +kernel, rfl⟩
theorem d_l_law_171 : DC 3 code 171 174 (.invokevirtual 26) := ⟨by decide +kernel, rfl⟩
theorem d_l_law_174 : DC 1 code 174 175 (.aload_n 2) := ⟨by decide +kernel, rfl⟩
theorem d_l_law_175 : DC 1 code 175 176 (.aload_n 0) := ⟨by decide +kernel, rfl⟩
theorem d_l_law_176 : DC 1 code 176 177 (.iload_n 3) := ⟨by decide +kernel, rfl⟩
theorem d_l_law_177 : DC 1 code 177 178 (.iconst 1) := ⟨by decide +kernel, rfl⟩
theorem d_l_law_178 : DC 1 code 178 179 (.iadd) := ⟨by decide +kernel, rfl⟩
theorem d_l_law_179 : DC 1 code 179 180 (.iaload) := ⟨by decide +kernel, rfl⟩
theorem d_l_law_180 : DC 1 code 180 181 (.aload_n 0) := ⟨by decide +kernel, rfl⟩
theorem d_l_law_181 : DC 1 code 181 182 (.iload_n 3) := ⟨by decide +kernel, rfl⟩
theorem d_l_law_182 : DC 1 code 182 183 (.iconst 2) := ⟨by decide +kernel, rfl⟩
theorem d_l_law_183 : DC 1 code 183 184 (.iadd) := ⟨by decide +kernel, rfl⟩
theorem d_l_law_184 : DC 1 code 184 185 (.iaload) := ⟨by decide +kernel, rfl⟩
theorem d_l_law_185 : DC 1 code 185 186 (.aload_n 0) := ⟨by decide +kernel, rfl⟩
theorem d_l_law_186 : DC 1 code 186 187 (.iload_n 3) := ⟨by decide +kernel, rfl⟩
theorem d_l_law_187 : DC 1 code 187 188 (.iconst 3) := ⟨by decide +kernel, rfl⟩
theorem d_l_law_188 : DC 1 code 188 189 (.iadd) := ⟨by decide +kernel, rfl⟩
theorem d_l_law_189 : DC 1 code 189 190 (.iaload) := ⟨by decide +kernel, rfl⟩
theorem d_l_law_190 : DC 3 code 190 193 (.invokevirtual 29) := ⟨by decide +kernel, rfl⟩
theorem d_l_law_193 : DI code 193 196 455 .eq := ⟨262, by decide +kernel, by decide, rfl⟩
theorem d_l_law_196 : DC 1 code 196 197 (.iconst 0) := ⟨by decide +kernel, rfl⟩
theorem d_l_law_197 : DC 1 code 197 198 (.ireturn) := ⟨by decide +kernel, rfl⟩
theorem d_l_law_198 : DC 1 code 198 199 (.aload_n 1) := ⟨by decide +kernel, rfl⟩
theorem d_l_law_199 : DC 1 code 199 200 (.aload_n 0) := ⟨by decide +kernel, rfl⟩
theorem d_l_law_200 : DC 1 code 200 201 (.iload_n 3) := ⟨by decide +kernel, rfl⟩
theorem d_l_law_201 : DC 1 code 201 202 (.iconst 1) := ⟨by decide +kernel, rfl⟩
theorem d_l_law_202 : DC 1 code 202 203 (.iadd) := ⟨by decide +kernel, rfl⟩
theorem d_l_law_203 : DC 1 code 203 204 (.iaload) := ⟨by decide +kernel, rfl⟩
theorem d_l_law_204 : DC 1 code 204 205 (.aload_n 0) := ⟨by decide +kernel, rfl⟩
theorem d_l_law_205 : DC 1 code 205 206 (.iload_n 3) := ⟨by decide +kernel, rfl⟩
theorem d_l_law_206 : DC 1 code 206 207 (.iconst 2) := ⟨by decide +kernel, rfl⟩
theorem d_l_law_207 : DC 1 code 207 208 (.iadd) := ⟨by decide +kernel, rfl⟩
theorem d_l_law_208 : DC 1 code 208 209 (.iaload) := ⟨by decide +kernel, rfl⟩
theorem d_l_law_209 : DC 3 code 209 212 (.invokevirtual 30) := ⟨by decide +kernel, rfl⟩
theorem d_l_law_212 : DC 1 code 212 213 (.aload_n 2) := ⟨by decide +kernel, rfl⟩
theorem d_l_law_213 : DC 1 code 213 214 (.aload_n 0) := ⟨by decide +kernel, rfl⟩
theorem d_l_law_214 : DC 1 code 214 215 (.iload_n 3) := ⟨by decide +kernel, rfl⟩
theorem d_l_law_215 : DC 1 code 215 216 (.iconst 1) := ⟨by decide +kernel, rfl⟩
theorem d_l_law_216 : DC 1 code 216 217 (.iadd) := ⟨by decide +kernel, rfl⟩
theorem d_l_law_217 : DC 1 code 217 218 (.iaload) := ⟨by decide +kernel, rfl⟩
theorem d_l_law_218 : DC 1 code 218 219 (.aload_n 0) := ⟨by decide +kernel, rfl⟩
theorem d_l_law_219 : DC 1 code 219 220 (.iload_n 3) := ⟨by decide +kernel, rfl⟩
theorem d_l_law_220 : DC 1 code 220 221 (.iconst 2) := ⟨by decide +kernel, rfl⟩
theorem d_l_law_221 : DC 1 code 221 222 (.iadd) := ⟨by decide +kernel, rfl⟩
theorem d_l_law_222 : DC 1 code 222 223 (.iaload) := ⟨by decide +kernel, rfl⟩
theorem d_l_law_223 : DC 3 code 223 226 (.invokevirtual 34) := ⟨by decide +kernel, rfl⟩
theorem d_l_law_226 : DI code 226 229 455 .eq := ⟨229, by decide +kernel, by decide, rfl⟩
theorem d_l_law_229 : DC 1 code 229 230 (.iconst 0) := ⟨by decide +kernel, rfl⟩
theorem d_l_law_230 : DC 1 code 230 231 (.ireturn) := ⟨by decide +kernel, rfl⟩
theorem d_l_law_231 : DC 1 code 231 232 (.aload_n 1) := ⟨by decide +kernel, rfl⟩
theorem d_l_law_232 : DC 1 code 232 233 (.aload_n 0) := ⟨by decide +kernel, rfl⟩
theorem d_l_law_233 : DC 1 code 233 234 (.iload_n 3) := ⟨by decide +kernel, rfl⟩
theorem d_l_law_234 : DC 1 code 234 235 (.iconst 1) := ⟨by decide +kernel, rfl⟩
theorem d_l_law_235 : DC 1 code 235 236 (.iadd) := ⟨by decide +kernel, rfl⟩
theorem d_l_law_236 : DC 1 code 236 237 (.iaload) := ⟨by decide +kernel, rfl⟩
theorem d_l_law_237 : DC 1 code 237 238 (.aload_n 0) := ⟨by decide +kernel, rfl⟩
theorem d_l_law_238 : DC 1 code 238 239 (.iload_n 3) := ⟨by decide +kernel, rfl⟩
theorem d_l_law_239 : DC 1 code 239 240 (.iconst 2) := ⟨by decide +kernel, rfl⟩
theorem d_l_law_240 : DC 1 code 240 241 (.iadd) := ⟨by decide +kernel, rfl⟩
theorem d_l_law_241 : DC 1 code 241 242 (.iaload) := ⟨by decide +kernel, rfl⟩
theorem d_l_law_242 : DC 3 code 242 245 (.invokevirtual 35) := ⟨by decide +kernel, rfl⟩
theorem d_l_law_245 : DC 1 code 245 246 (.aload_n 2) := ⟨by decide +kernel, rfl⟩
theorem d_l_law_246 : DC 1 code 246 247 (.aload_n 0) := ⟨by decide +kernel, rfl⟩
theorem d_l_law_247 : DC 1 code 247 248 (.iload_n 3) := ⟨by decide +kernel, rfl⟩
theorem d_l_law_248 : DC 1 code 248 249 (.iconst 1) := ⟨by decide +kernel, rfl⟩
theorem d_l_law_249 : DC 1 code 249 250 (.iadd) := ⟨by decide +kernel, rfl⟩
theorem d_l_law_250 : DC 1 code 250 251 (.iaload) := ⟨by decide +kernel, rfl⟩
theorem d_l_law_251 : DC 1 code 251 252 (.aload_n 0) := ⟨by decide +kernel, rfl⟩
theorem d_l_law_252 : DC 1 code 252 253 (.iload_n 3) := ⟨by decide +kernel, rfl⟩
theorem d_l_law_253 : DC 1 code 253 254 (.iconst 2) := ⟨by decide +kernel, rfl⟩
theorem d_l_law_254 : DC 1 code 254 255 (.iadd) := ⟨by decide +kernel, rfl⟩
theorem d_l_law_255 : DC 1 code 255 256 (.iaload) := ⟨by decide +kernel, rfl⟩
theorem d_l_law_256 : DC 3 code 256 259 (.invokevirtual 38) := ⟨by decide +kernel, rfl⟩
theorem d_l_law_259 : DI code 259 262 455 .eq := ⟨196, by decide +kernel, by decide, rfl⟩
theorem d_l_law_262 : DC 1 code 262 263 (.iconst 0) := ⟨by decide +kernel, rfl⟩
theorem d_l_law_263 : DC 1 code 263 264 (.ireturn) := ⟨by decide +kernel, rfl⟩
theorem d_l_law_264 : DC 1 code 264 265 (.aload_n 1) := ⟨by decide +kernel, rfl⟩
theorem d_l_law_265 : DC 1 code 265 266 (.aload_n 0) := ⟨by decide +kernel, rfl⟩
theorem d_l_law_266 : DC 1 code 266 267 (.iload_n 3) := ⟨by decide +kernel, rfl⟩
theorem d_l_law_267 : DC 1 code 267 268 (.iconst 1) := ⟨by decide +kernel, rfl⟩
theorem d_l_law_268 : DC 1 code 268 269 (.iadd) := ⟨by decide +kernel, rfl⟩
theorem d_l_law_269 : DC 1 code 269 270 (.iaload) := ⟨by decide +kernel, rfl⟩
theorem d_l_law_270 : DC 1 code 270 271 (.aload_n 0) := ⟨by decide +kernel, rfl⟩
theorem d_l_law_271 : DC 1 code 271 272 (.iload_n 3) := ⟨by decide +kernel, rfl⟩
theorem d_l_law_272 : DC 1 code 272 273 (.iconst 2) := ⟨by decide +kernel, rfl⟩
theorem d_l_law_273 : DC 1 code 273 274 (.iadd) := ⟨by decide +kernel, rfl⟩
theorem d_l_law_274 : DC 1 code 274 275 (.iaload) := ⟨by decide +kernel, rfl⟩
theorem d_l_law_275 : DC 3 code 275 278 (.invokevirtual 39) := ⟨by decide +kernel, rfl⟩
theorem d_l_law_278 : DC 1 code 278 279 (.aload_n 2) := ⟨by decide +kernel, rfl⟩
theorem d_l_law_279 : DC 1 code 279 280 (.aload_n 0) := ⟨by decide +kernel, rfl⟩
theorem d_l_law_280 : DC 1 code 280 281 (.iload_n 3) := ⟨by decide +kernel, rfl⟩
theorem d_l_law_281 : DC 1 code 281 282 (.iconst 1) := ⟨by decide +kernel, rfl⟩
theorem d_l_law_282 : DC 1 code 282 283 (.iadd) := ⟨by decide +kernel, rfl⟩
theorem d_l_law_283 : DC 1 code 283 284 (.iaload) := ⟨by decide +kernel, rfl⟩
theorem d_l_law_284 : DC 1 code 284 285 (.aload_n 0) := ⟨by decide +kernel, rfl⟩
theorem d_l_law_285 : DC 1 code 285 286 (.iload_n 3) := ⟨by decide +kernel, rfl⟩
theorem d_l_law_286 : DC 1 code 286 287 (.iconst 2) := ⟨by decide +kernel, rfl⟩
theorem d_l_law_287 : DC 1 code 287 288 (.iadd) := ⟨by decide +kernel, rfl⟩
theorem d_l_law_288 : DC 1 code 288 289 (.iaload) := ⟨by decide +kernel, rfl⟩
theorem d_l_law_289 : DC 3 code 289 292 (.invokevirtual 42) := ⟨by decide +kernel, rfl⟩
theorem d_l_law_292 : DI code 292 295 455 .eq := ⟨163, by decide +kernel, by decide, rfl⟩
theorem d_l_law_295 : DC 1 code 295 296 (.iconst 0) := ⟨by decide +kernel, rfl⟩
theorem d_l_law_296 : DC 1 code 296 297 (.ireturn) := ⟨by decide +kernel, rfl⟩
theorem d_l_law_297 : DC 1 code 297 298 (.aload_n 1) := ⟨by decide +kernel, rfl⟩
theorem d_l_law_298 : DC 3 code 298 301 (.invokevirtual 43) := ⟨by decide +kernel, rfl⟩
theorem d_l_law_301 : DC 1 code 301 302 (.aload_n 2) := ⟨by decide +kernel, rfl⟩
theorem d_l_law_302 : DC 3 code 302 305 (.invokevirtual 47) := ⟨by decide +kernel, rfl⟩
theorem d_l_law_305 : DI code 305 308 455 .eq := ⟨150, by decide +kernel, by decide, rfl⟩
theorem d_l_law_308 : DC 1 code 308 309 (.iconst 0) := ⟨by decide +kernel, rfl⟩
theorem d_l_law_309 : DC 1 code 309 310 (.ireturn) := ⟨by decide +kernel, rfl⟩
theorem d_l_law_310 : DC 1 code 310 311 (.aload_n 1) := ⟨by decide +kernel, rfl⟩
theorem d_l_law_311 : DC 1 code 311 312 (.aload_n 0) := ⟨by decide +kernel, rfl⟩
theorem d_l_law_312 : DC 1 code 312 313 (.iload_n 3) := ⟨by decide +kernel, rfl⟩
theorem d_l_law_313 : DC 1 code 313 314 (.iconst 1) := ⟨by decide +kernel, rfl⟩
theorem d_l_law_314 : DC 1 code 314 315 (.iadd) := ⟨by decide +kernel, rfl⟩
theorem d_l_law_315 : DC 1 code 315 316 (.iaload) := ⟨by decide +kernel, rfl⟩
theorem d_l_law_316 : DC 3 code 316 319 (.invokevirtual 48) := ⟨by decide +kernel, rfl⟩
theorem d_l_law_319 : DC 1 code 319 320 (.aload_n 2) := ⟨by decide +kernel, rfl⟩
theorem d_l_law_320 : DC 1 code 320 321 (.aload_n 0) := ⟨by decide +kernel, rfl⟩
theorem d_l_law_321 : DC 1 code 321 322 (.iload_n 3) := ⟨by decide +kernel, rfl⟩
theorem d_l_law_322 : DC 1 code 322 323 (.iconst 1) := ⟨by decide +kernel, rfl⟩
theorem d_l_law_323 : DC 1 code 323 324 (.iadd) := ⟨by decide +kernel, rfl⟩
theorem d_l_law_324 : DC 1 code 324 325 (.iaload) := ⟨by decide +kernel, rfl⟩
theorem d_l_law_325 : DC 3 code 325 328 (.invokevirtual 52) := ⟨by decide +kernel, rfl⟩
theorem d_l_law_328 : DI code 328 331 455 .eq := ⟨127, by decide +kernel, by decide, rfl⟩
theorem d_l_law_331 : DC 1 code 331 332 (.iconst 0) := ⟨by decide +kernel, rfl⟩
theorem d_l_law_332 : DC 1 code 332 333 (.ireturn) := ⟨by decide +kernel, rfl⟩
theorem d_l_law_333 : DC 1 code 333 334 (.aload_n 1) := ⟨by decide +kernel, rfl⟩
theorem d_l_law_334 : DC 1 code 334 335 (.aload_n 0) := ⟨by decide +kernel, rfl⟩
theorem d_l_law_335 : DC 1 code 335 336 (.iload_n 3) := ⟨by decide +kernel, rfl⟩
theorem d_l_law_336 : DC 1 code 336 337 (.iconst 1) := ⟨by decide +kernel, rfl⟩
theorem d_l_law_337 : DC 1 code 337 338 (.iadd) := ⟨by decide +kernel, rfl⟩
theorem d_l_law_338 : DC 1 code 338 339 (.iaload) := ⟨by decide +kernel, rfl⟩
theorem d_l_law_339 : DC 1 code 339 340 (.aload_n 0) := ⟨by decide +kernel, rfl⟩
theorem d_l_law_340 : DC 1 code 340 341 (.iload_n 3) := ⟨by decide +kernel, rfl⟩
theorem d_l_law_341 : DC 1 code 341 342 (.iconst 2) := ⟨by decide +kernel, rfl⟩
theorem d_l_law_342 : DC 1 code 342 343 (.iadd) := ⟨by decide +kernel, rfl⟩
theorem d_l_law_343 : DC 1 code 343 344 (.iaload) := ⟨by decide +kernel, rfl⟩
theorem d_l_law_344 : DC 3 code 344 347 (.invokevirtual 53) := ⟨by decide +kernel, rfl⟩
theorem d_l_law_347 : DC 1 code 347 348 (.aload_n 2) := ⟨by decide +kernel, rfl⟩
theorem d_l_law_348 : DC 1 code 348 349 (.aload_n 0) := ⟨by decide +kernel, rfl⟩
theorem d_l_law_349 : DC 1 code 349 350 (.iload_n 3) := ⟨by decide +kernel, rfl⟩
theorem d_l_law_350 : DC 1 code 350 351 (.iconst 1) := ⟨by decide +kernel, rfl⟩
theorem d_l_law_351 : DC 1 code 351 352 (.iadd) := ⟨by decide +kernel, rfl⟩
theorem d_l_law_352 : DC 1 code 352 353 (.iaload) := ⟨by decide +kernel, rfl⟩
theorem d_l_law_353 : DC 1 code 353 354 (.aload_n 0) := ⟨by decide +kernel, rfl⟩
theorem d_l_law_354 : DC 1 code 354 355 (.iload_n 3) := ⟨by decide +kernel, rfl⟩
theorem d_l_law_355 : DC 1 code 355 356 (.iconst 2) := ⟨by decide +kernel, rfl⟩
theorem d_l_law_356 : DC 1 code 356 357 (.iadd) := ⟨by decide +kernel, rfl⟩
theorem d_l_law_357 : DC 1 code 357 358 (.iaload) := ⟨by decide +kernel, rfl⟩
theorem d_l_law_358 : DC 3 code 358 361 (.invokevirtual 56) := ⟨by decide +kernel, rfl⟩
theorem d_l_law_361 : DI code 361 364 455 .eq := ⟨94, by decide +kernel, by decide, rfl⟩
theorem d_l_law_364 : DC 1 code 364 365 (.iconst 0) := ⟨by decide +kernel, rfl⟩
theorem d_l_law_365 : DC 1 code 365 366 (.ireturn) := ⟨by decide +kernel, rfl⟩
theorem d_l_law_366 : DC 1 code 366 367 (.aload_n 1) := ⟨by decide +kernel, rfl⟩
theorem d_l_law_367 : DC 1 code 367 368 (.aload_n 0) := ⟨by decide +kernel, rfl⟩
theorem d_l_law_368 : DC 1 code 368 369 (.iload_n 3) := ⟨by decide +kernel, rfl⟩
theorem d_l_law_369 : DC 1 code 369 370 (.iconst 1) := ⟨by decide +kernel, rfl⟩
theorem d_l_law_370 : DC 1 code 370 371 (.iadd) := ⟨by decide +kernel, rfl⟩
theorem d_l_law_371 : DC 1 code 371 372 (.iaload) := ⟨by decide +kernel, rfl⟩
theorem d_l_law_372 : DC 1 code 372 373 (.aload_n 0) := ⟨by decide +kernel, rfl⟩
theorem d_l_law_373 : DC 1 code 373 374 (.iload_n 3) := ⟨by decide +kernel, rfl⟩
theorem d_l_law_374 : DC 1 code 374 375 (.iconst 2) := ⟨by decide +kernel, rfl⟩
theorem d_l_law_375 : DC 1 code 375 376 (.iadd) := ⟨by decide +kernel, rfl⟩
theorem d_l_law_376 : DC 1 code 376 377 (.iaload) := ⟨by decide +kernel, rfl⟩
theorem d_l_law_377 : DC 3 code 377 380 (.invokevirtual 57) := ⟨by decide +kernel, rfl⟩
theorem d_l_law_380 : DC 1 code 380 381 (.aload_n 2) := ⟨by decide +kernel, rfl⟩
theorem d_l_law_381 : DC 1 code 381 382 (.aload_n 0) := ⟨by decide +kernel, rfl⟩
theorem d_l_law_382 : DC 1 code 382 383 (.iload_n 3) := ⟨by decide +kernel, rfl⟩
theorem d_l_law_383 : DC 1 code 383 384 (.iconst 1) := ⟨by decide +kernel, rfl⟩
theorem d_l_law_384 : DC 1 code 384 385 (.iadd) := ⟨by decide +kernel, rfl⟩
theorem d_l_law_385 : DC 1 code 385 386 (.iaload) := ⟨by decide +kernel, rfl⟩
theorem d_l_law_386 : DC 1 code 386 387 (.aload_n 0) := ⟨by decide +kernel, rfl⟩
theorem d_l_law_387 : DC 1 code 387 388 (.iload_n 3) := ⟨by decide +kernel, rfl⟩
theorem d_l_law_388 : DC 1 code 388 389 (.iconst 2) := ⟨by decide +kernel, rfl⟩
theorem d_l_law_389 : DC 1 code 389 390 (.iadd) := ⟨by decide +kernel, rfl⟩
theorem d_l_law_390 : DC 1 code 390 391 (.iaload) := ⟨by decide +kernel, rfl⟩
theorem d_l_law_391 : DC 3 code 391 394 (.invokevirtual 60) := ⟨by decide +kernel, rfl⟩
theorem d_l_law_394 : DI code 394 397 455 .eq := ⟨61, by decide +kernel, by decide, rfl⟩
theorem d_l_law_397 : DC 1 code 397 398 (.iconst 0) := ⟨by decide +kernel, rfl⟩
theorem d_l_law_398 : DC 1 code 398 399 (.ireturn) := ⟨by decide +kernel, rfl⟩
theorem d_l_law_399 : DC 1 code 399 400 (.aload_n 1) := ⟨by decide +kernel, rfl⟩
theorem d_l_law_400 : DC 1 code 400 401 (.aload_n 0) := ⟨by decide +kernel, rfl⟩
theorem d_l_law_401 : DC 1 code 401 402 (.iload_n 3) := ⟨by decide +kernel, rfl⟩
theorem d_l_law_402 : DC 1 code 402 403 (.iconst 1) := ⟨by decide +kernel, rfl⟩
theorem d_l_law_403 : DC 1 code 403 404 (.iadd) := ⟨by decide +kernel, rfl⟩
theorem d_l_law_404 : DC 1 code 404 405 (.iaload) := ⟨by decide +kernel, rfl⟩
theorem d_l_law_405 : DC 3 code 405 408 (.invokevirtual 61) := ⟨by decide +kernel, rfl⟩
theorem d_l_law_408 : DC 1 code 408 409 (.aload_n 2) := ⟨by decide +kernel, rfl⟩
theorem d_l_law_409 : DC 1 code 409 410 (.aload_n 0) := ⟨by decide +kernel, rfl⟩
theorem d_l_law_410 : DC 1 code 410 411 (.iload_n 3) := ⟨by decide +kernel, rfl⟩
theorem d_l_law_411 : DC 1 code 411 412 (.iconst 1) := ⟨by decide +kernel, rfl⟩
theorem d_l_law_412 : DC 1 code 412 413 (.iadd) := ⟨by decide +kernel, rfl⟩
theorem d_l_law_413 : DC 1 code 413 414 (.iaload) := ⟨by decide +kernel, rfl⟩
theorem d_l_law_414 : DC 3 code 414 417 (.invokevirtual 64) := ⟨by decide +kernel, rfl⟩
theorem d_l_law_417 : DI code 417 420 455 .eq := ⟨38, by decide +kernel, by decide, rfl⟩
theorem d_l_law_420 : DC 1 code 420 421 (.iconst 0) := ⟨by decide +kernel, rfl⟩
theorem d_l_law_421 : DC 1 code 421 422 (.ireturn) := ⟨by decide +kernel, rfl⟩
theorem d_l_law_422 : DC 1 code 422 423 (.aload_n 1) := ⟨by decide +kernel, rfl⟩
theorem d_l_law_423 : DC 1 code 423 424 (.aload_n 0) := ⟨by decide +kernel, rfl⟩
theorem d_l_law_424 : DC 1 code 424 425 (.iload_n 3) := ⟨by decide +kernel, rfl⟩
theorem d_l_law_425 : DC 1 code 425 426 (.iconst 1) := ⟨by decide +kernel, rfl⟩
theorem d_l_law_426 : DC 1 code 426 427 (.iadd) := ⟨by decide +kernel, rfl⟩
theorem d_l_law_427 : DC 1 code 427 428 (.iaload) := ⟨by decide +kernel, rfl⟩
theorem d_l_law_428 : DC 1 code 428 429 (.aload_n 0) := ⟨by decide +kernel, rfl⟩
theorem d_l_law_429 : DC 1 code 429 430 (.iload_n 3) := ⟨by decide +kernel, rfl⟩
theorem d_l_law_430 : DC 1 code 430 431 (.iconst 2) := ⟨by decide +kernel, rfl⟩
theorem d_l_law_431 : DC 1 code 431 432 (.iadd) := ⟨by decide +kernel, rfl⟩
theorem d_l_law_432 : DC 1 code 432 433 (.iaload) := ⟨by decide +kernel, rfl⟩
theorem d_l_law_433 : DC 3 code 433 436 (.invokevirtual 65) := ⟨by decide +kernel, rfl⟩
theorem d_l_law_436 : DC 1 code 436 437 (.aload_n 2) := ⟨by decide +kernel, rfl⟩
theorem d_l_law_437 : DC 1 code 437 438 (.aload_n 0) := ⟨by decide +kernel, rfl⟩
theorem d_l_law_438 : DC 1 code 438 439 (.iload_n 3) := ⟨by decide +kernel, rfl⟩
theorem d_l_law_439 : DC 1 code 439 440 (.iconst 1) := ⟨by decide +kernel, rfl⟩
theorem d_l_law_440 : DC 1 code 440 441 (.iadd) := ⟨by decide +kernel, rfl⟩
theorem d_l_law_441 : DC 1 code 441 442 (.iaload) := ⟨by decide +kernel, rfl⟩
theorem d_l_law_442 : DC 1 code 442 443 (.aload_n 0) := ⟨by decide +kernel, rfl⟩
theorem d_l_law_443 : DC 1 code 443 444 (.iload_n 3) := ⟨by decide +kernel, rfl⟩
theorem d_l_law_444 : DC 1 code 444 445 (.iconst 2) := ⟨by decide +kernel, rfl⟩
theorem d_l_law_445 : DC 1 code 445 446 (.iadd) := ⟨by decide +kernel, rfl⟩
theorem d_l_law_446 : DC 1 code 446 447 (.iaload) := ⟨by decide +kernel, rfl⟩
theorem d_l_law_447 : DC 3 code 447 450 (.invokevirtual 68) := ⟨by decide +kernel, rfl⟩
theorem d_l_law_450 : DI code 450 453 455 .eq := ⟨5, by decide +kernel, by decide, rfl⟩
theorem d_l_law_453 : DC 1 code 453 454 (.iconst 0) := ⟨by decide +kernel, rfl⟩
theorem d_l_law_454 : DC 1 code 454 455 (.ireturn) := ⟨by decide +kernel, rfl⟩
theorem d_l_law_455 : DC 3 code 455 458 (.iinc 3 4) := ⟨by decide +kernel, rfl⟩
theorem d_l_law_458 : DG code 458 38 := ⟨-420, by decide +kernel, by decide⟩
theorem d_l_law_461 : DC 1 code 461 462 (.iconst 1) := ⟨by decide +kernel, rfl⟩
theorem d_l_law_462 : DC 1 code 462 463 (.ireturn) := ⟨by decide +kernel, rfl⟩
end
section
/-! ===== whole numbers: every int of the machine is 'iI x' of a whole number x ===== -/
def iI (x : Int) : Int32 := Int32.ofInt x
abbrev inR (x : Int) : Prop := -2147483648 ≤ x ∧ x ≤ 2147483647
theorem iI_add (a b : Int) : iI a + iI b = iI (a + b) := (Int32.ofInt_add a b).symm
theorem iI_sub (a b : Int) : iI a - iI b = iI (a - b) := (Int32.ofInt_sub a b).symm
theorem iI_mul (a b : Int) : iI a * iI b = iI (a * b) := (Int32.ofInt_mul a b).symm
theorem iI_toInt {x : Int} (h : inR x) : (iI x).toInt = x := Int32.toInt_ofInt_of_le (by omega) (by omega)
theorem iI_lt {x y : Int} (hx : inR x) (hy : inR y) : iI x < iI y ↔ x < y := by
  rw [Int32.lt_iff_toInt_lt, iI_toInt hx, iI_toInt hy]
theorem iI_le {x y : Int} (hx : inR x) (hy : inR y) : iI x ≤ iI y ↔ x ≤ y := by
  rw [Int32.le_iff_toInt_le, iI_toInt hx, iI_toInt hy]
theorem iI_eq {x y : Int} (hx : inR x) (hy : inR y) : iI x = iI y ↔ x = y :=
  ⟨fun h => by rw [← iI_toInt hx, ← iI_toInt hy, h], fun h => by rw [h]⟩
theorem iI_of (z : Int32) : iI z.toInt = z := Int32.ofInt_toInt z
theorem iI_inR (z : Int32) : inR z.toInt := ⟨Int32.le_toInt z, by have := Int32.toInt_lt z; omega⟩
theorem iI_0 : iI 0 = 0 := rfl
theorem iI_nat (n : Nat) : iI (n : Int) = nI n := Int32.ofInt_eq_ofNat
theorem iI_clamp {n : Nat} (h : n < 2147483648) : (iI (n : Int)).toNatClampNeg = n := by
  rw [iI_nat]; exact nI_clamp h
theorem iI_in {n N : Nat} (h : n < N) (hN : N < 2147483648) : vp_in (iI (n : Int)) N := by
  rw [iI_nat]; exact vp_in_nI h hN
theorem iI_byte {x : Int} (h : -128 ≤ x ∧ x ≤ 127) : (iI x).toInt8.toInt32 = iI x := by
  unfold iI
  rw [Int32.toInt8_ofInt]
  exact Int8.toInt32_ofInt h.1 h.2
theorem iI_nb {x : Int} (h : -128 ≤ x ∧ x ≤ 127) : vp_nar .byte (iI x) = iI x := by
  rw [vp_nar_byte]; exact iI_byte h
theorem iI_nz {x : Int} (h : x = 0 ∨ x = 1) : narrow .boolean (.int (iI x)) = .int (iI x) := by
  rcases h with rfl | rfl <;> rfl
theorem iI_nzv {x : Int} (h : x = 0 ∨ x = 1) : vp_nar .boolean (iI x) = iI x := by
  rcases h with rfl | rfl <;> rfl
theorem iI_div {a d : Nat} (ha : a < 2147483648) (h0 : 0 < d) (hd : d < 2147483648) : iI (a : Int) / iI (d : Int) = iI ((a / d : Nat) : Int) := by
  rw [iI_nat, iI_nat, iI_nat]; exact pk_div ha h0 hd
theorem iI_rem {a d : Nat} (ha : a < 2147483648) (h0 : 0 < d) (hd : d < 2147483648) : iI (a : Int) - iI (a : Int) / iI (d : Int) * iI (d : Int) = iI ((a % d : Nat) : Int) := by
  rw [iI_nat, iI_nat, iI_nat]; exact pk_rem ha h0 hd
/-! ===== states: cell f, place k: a whole number ===== -/
abbrev TS : Type := Nat → Nat → Int
def up (S : TS) (f k : Nat) (v : Int) : TS := fun f' k' => if f' = f ∧ k' = k then v else S f' k'
theorem up_s (S : TS) (f k : Nat) (v : Int) : up S f k v f k = v := by simp [up]
theorem up_f (S : TS) {f k : Nat} {v : Int} {f' : Nat} (h : f' ≠ f) : up S f k v f' = S f' := by
  funext k'; simp [up, h]
theorem up_k (S : TS) {f k : Nat} {v : Int} {f' k' : Nat} (h : k' ≠ k) : up S f k v f' k' = S f' k' := by
  simp [up, h]
theorem up_at (S : TS) (f k : Nat) (v : Int) (k' : Nat) : up S f k v f k' = if k' = k then v else S f k' := by
  simp [up]
theorem up_arr (S : TS) (f k : Nat) (v : Int) : (fun j => iI (up S f k v f j)) = upd (fun j => iI (S f j)) k (iI v) := by
  funext j
  by_cases h : j = k
  · subst h; simp [up, upd]
  · simp [up, upd, h]
/-! ===== locals by place ===== -/
def lo_has (ls : Array Slot) (nL : Nat) (L : List (Option Value)) : Prop := ls.size = nL ∧ L.length = nL ∧ lv_wf ls ∧ ∀ (i : Nat) (v : Value), L[i]? = some (some v) → ls[i]? = some (.val v) ∧ v.category = 1
def lo_pairs (L : List (Option Value)) : List (Nat × Value) := (List.range L.length).filterMap (fun i => (L[i]?.join).map (fun v => (i, v)))
theorem lo_pairs_mem {L : List (Option Value)} {q : Nat × Value} : q ∈ lo_pairs L ↔ L[q.1]? = some (some q.2) := by
  unfold lo_pairs
  rw [List.mem_filterMap]
  constructor
  · rintro ⟨i, hi, h⟩
    cases hL : L[i]? with
    | none => rw [hL] at h; simp at h
    | some o =>
      cases o with
      | none => rw [hL] at h; simp at h
      | some v =>
        rw [hL] at h
        simp at h
        subst h
        exact hL
  · intro h
    refine ⟨q.1, List.mem_range.mpr (List.getElem?_eq_some_iff.mp h).1, ?_⟩
    rw [h]; rfl
theorem lo_has.pairs {ls : Array Slot} {nL : Nat} {L : List (Option Value)} (h : lo_has ls nL L) : lv_has ls nL (lo_pairs L) :=
  ⟨h.1, h.2.2.1, fun q hq => (h.2.2.2 q.1 q.2 (lo_pairs_mem.mp hq)).1⟩
theorem lo_has.set {ls ls' : Array Slot} {nL : Nat} {L : List (Option Value)} {i : Nat} {v : Value} {lv : List (Nat × Value)} (h : lo_has ls nL L) (hc : v.category = 1)
    (hlv : ∀ q ∈ lo_pairs L, q ∈ lv) (h' : lv_has ls' nL ((i, v) :: lv.filter (fun q => !(q.1 == i) && !(q.1 + 1 == i && q.2.category == 2)))) : lo_has ls' nL (L.set i (some v)) := by
  refine ⟨h'.1, by rw [List.length_set]; exact h.2.1, h'.2.1, fun j w hj => ?_⟩
  rw [List.getElem?_set] at hj
  by_cases hij : i = j
  · subst hij
    rw [if_pos rfl] at hj
    by_cases hl : i < L.length
    · rw [if_pos hl] at hj
      cases hj
      exact ⟨h'.2.2 (i, v) List.mem_cons_self, hc⟩
    · rw [if_neg hl] at hj; cases hj
  · rw [if_neg hij] at hj
    have hw := h.2.2.2 j w hj
    refine ⟨h'.2.2 (j, w) (List.mem_cons_of_mem _ (List.mem_filter.mpr ⟨hlv _ (lo_pairs_mem.mpr hj), ?_⟩)), hw.2⟩
    have h1 : (j == i) = false := by simp; omega
    simp [h1, hw.2]
/-! ===== the walk's judgement: from any heap that holds the picture w S, at pc, with these locals and this stack ===== -/
abbrev CT : Type := Program × Launch × Env × Room × State × MethodId × Array Value × List Frame × Method × Code × (State → Prop) × va_G × (Nat → Prop) × Nat × Nat × Nat
def TW (X : CT) (w : TS → va_W) (S : TS) (pc : Nat) (L : List (Option Value)) (st : List Value) : Prop := match X with
  | (p, l, e, R, s, m, args, below, meth, c, Q, D, A, nL, cells, slots) => ∀ (H : Heap) (locs : List Loc) (ls : Array Slot), va_P D classes (w S) H → va_S A s.heap H locs → lo_has ls nL L → W p l e R s m args below meth c H locs cells slots Q (F0 m pc ls st)
def CX (X : CT) (cc : ByteArray) (own : String) (rm : Room) (w : TS → va_W) (tys : List (ClassId × FieldType)) : Prop := match X with
  | (p, l, e, R, s, m, args, below, meth, c, Q, D, A, nL, cells, slots) => p.tables.exec = Jvm.exec ∧ c.code = cc ∧ c.maxLocals = nL ∧ s.vm.findClass own = some m.cls ∧ (∀ x ∈ tb, x.before args s = true) ∧ va_K D classes tys s ∧ (∀ S, va_D A (w S)) ∧ R = rm ∧ (cells ≤ rm.cells ∧ slots ≤ rm.slots)
section RU
variable {X : CT} {cc : ByteArray} {own : String} {rm : Room} {w : TS → va_W} {tys : List (ClassId × FieldType)} {S : TS} {pc nx tg : Nat} {L : List (Option Value)} {st : List Value}
theorem tw_eq {x y : Int32} (h : x = y) (k : TW X w S pc L (.int y :: st)) : TW X w S pc L (.int x :: st) := h ▸ k
theorem tw_S {S' : TS} (h : S = S') (k : TW X w S' pc L st) : TW X w S pc L st := h ▸ k
theorem tw_iconst (C : CX X cc own rm w tys) {n : Int} (d : DC 1 cc pc nx (.iconst n)) (k : TW X w S nx L (.int (iI n) :: st)) : TW X w S pc L (st) := by
  obtain ⟨p, l, e, R, s, m, args, below, meth, c, Q, D, A, nL, cells, slots⟩ := X
  obtain ⟨hx, hb, -⟩ := C
  obtain ⟨d, rfl⟩ := d
  intro H locs ls hP hS hl
  exact lv_iconst hx hb d rfl (k H locs ls hP hS hl)
theorem tw_bipush (C : CX X cc own rm w tys) {n : Int} (d : DC 2 cc pc nx (.bipush n)) (hv : (Int8.ofInt n).toInt32 = iI n) (k : TW X w S nx L (.int (iI n) :: st)) : TW X w S pc L (st) := by
  obtain ⟨p, l, e, R, s, m, args, below, meth, c, Q, D, A, nL, cells, slots⟩ := X
  obtain ⟨hx, hb, -⟩ := C
  obtain ⟨d, rfl⟩ := d
  intro H locs ls hP hS hl
  exact lv_bipush hx hb d hv (k H locs ls hP hS hl)
theorem tw_sipush (C : CX X cc own rm w tys) {n : Int} (d : DC 3 cc pc nx (.sipush n)) (hv : (Int16.ofInt n).toInt32 = iI n) (k : TW X w S nx L (.int (iI n) :: st)) : TW X w S pc L (st) := by
  obtain ⟨p, l, e, R, s, m, args, below, meth, c, Q, D, A, nL, cells, slots⟩ := X
  obtain ⟨hx, hb, -⟩ := C
  obtain ⟨d, rfl⟩ := d
  intro H locs ls hP hS hl
  exact lv_sipush hx hb d hv (k H locs ls hP hS hl)
theorem tw_ldc (C : CX X cc own rm w tys) {idx : Nat} {v : Int} (d : DC 2 cc pc nx (.ldc idx)) (hc : Cond.constant own idx (iI v) ∈ tb) (k : TW X w S nx L (.int (iI v) :: st)) : TW X w S pc L st := by
  obtain ⟨p, l, e, R, s, m, args, below, meth, c, Q, D, A, nL, cells, slots⟩ := X
  obtain ⟨hx, hb, hml, ho, hts, -⟩ := C
  obtain ⟨d, rfl⟩ := d
  intro H locs ls hP hS hl
  exact lv_ldc hx hb ho (hts _ hc) d (k H locs ls hP hS hl)
theorem tw_iadd (C : CX X cc own rm w tys) {x y : Int} (d : DC 1 cc pc nx (.iadd)) (k : TW X w S nx L (.int (iI (x + y)) :: st)) : TW X w S pc L (.int (iI y) :: .int (iI x) :: st) := by
  obtain ⟨p, l, e, R, s, m, args, below, meth, c, Q, D, A, nL, cells, slots⟩ := X
  obtain ⟨hx, hb, -⟩ := C
  obtain ⟨d, rfl⟩ := d
  intro H locs ls hP hS hl
  exact lv_iadd hx hb d (by rw [iI_add]; exact k H locs ls hP hS hl)
theorem tw_isub (C : CX X cc own rm w tys) {x y : Int} (d : DC 1 cc pc nx (.isub)) (k : TW X w S nx L (.int (iI (x - y)) :: st)) : TW X w S pc L (.int (iI y) :: .int (iI x) :: st) := by
  obtain ⟨p, l, e, R, s, m, args, below, meth, c, Q, D, A, nL, cells, slots⟩ := X
  obtain ⟨hx, hb, -⟩ := C
  obtain ⟨d, rfl⟩ := d
  intro H locs ls hP hS hl
  exact lv_isub hx hb d (by rw [iI_sub]; exact k H locs ls hP hS hl)
theorem tw_imul (C : CX X cc own rm w tys) {x y : Int} (d : DC 1 cc pc nx (.imul)) (k : TW X w S nx L (.int (iI (x * y)) :: st)) : TW X w S pc L (.int (iI y) :: .int (iI x) :: st) := by
  obtain ⟨p, l, e, R, s, m, args, below, meth, c, Q, D, A, nL, cells, slots⟩ := X
  obtain ⟨hx, hb, -⟩ := C
  obtain ⟨d, rfl⟩ := d
  intro H locs ls hP hS hl
  exact lv_imul hx hb d (by rw [iI_mul]; exact k H locs ls hP hS hl)
theorem tw_iand (C : CX X cc own rm w tys) {x y z : Int32} (d : DC 1 cc pc nx (.iand)) (hz : x &&& y = z) (k : TW X w S nx L (.int z :: st)) : TW X w S pc L (.int y :: .int x :: st) := by
  obtain ⟨p, l, e, R, s, m, args, below, meth, c, Q, D, A, nL, cells, slots⟩ := X
  obtain ⟨hx, hb, -⟩ := C
  obtain ⟨d, rfl⟩ := d
  intro H locs ls hP hS hl
  exact lv_iand hx hb d (by rw [hz]; exact k H locs ls hP hS hl)
theorem tw_ior (C : CX X cc own rm w tys) {x y z : Int32} (d : DC 1 cc pc nx (.ior)) (hz : x ||| y = z) (k : TW X w S nx L (.int z :: st)) : TW X w S pc L (.int y :: .int x :: st) := by
  obtain ⟨p, l, e, R, s, m, args, below, meth, c, Q, D, A, nL, cells, slots⟩ := X
  obtain ⟨hx, hb, -⟩ := C
  obtain ⟨d, rfl⟩ := d
  intro H locs ls hP hS hl
  exact lv_ior hx hb d (by rw [hz]; exact k H locs ls hP hS hl)
theorem tw_ixor (C : CX X cc own rm w tys) {x y z : Int32} (d : DC 1 cc pc nx (.ixor)) (hz : x ^^^ y = z) (k : TW X w S nx L (.int z :: st)) : TW X w S pc L (.int y :: .int x :: st) := by
  obtain ⟨p, l, e, R, s, m, args, below, meth, c, Q, D, A, nL, cells, slots⟩ := X
  obtain ⟨hx, hb, -⟩ := C
  obtain ⟨d, rfl⟩ := d
  intro H locs ls hP hS hl
  exact lv_ixor hx hb d (by rw [hz]; exact k H locs ls hP hS hl)
theorem tw_ishl (C : CX X cc own rm w tys) {x y z : Int32} (d : DC 1 cc pc nx (.ishl)) (hz : x <<< (y &&& 31) = z) (k : TW X w S nx L (.int z :: st)) : TW X w S pc L (.int y :: .int x :: st) := by
  obtain ⟨p, l, e, R, s, m, args, below, meth, c, Q, D, A, nL, cells, slots⟩ := X
  obtain ⟨hx, hb, -⟩ := C
  obtain ⟨d, rfl⟩ := d
  intro H locs ls hP hS hl
  exact lv_ishl hx hb d (by rw [hz]; exact k H locs ls hP hS hl)
theorem tw_ishr (C : CX X cc own rm w tys) {x y z : Int32} (d : DC 1 cc pc nx (.ishr)) (hz : x >>> (y &&& 31) = z) (k : TW X w S nx L (.int z :: st)) : TW X w S pc L (.int y :: .int x :: st) := by
  obtain ⟨p, l, e, R, s, m, args, below, meth, c, Q, D, A, nL, cells, slots⟩ := X
  obtain ⟨hx, hb, -⟩ := C
  obtain ⟨d, rfl⟩ := d
  intro H locs ls hP hS hl
  exact lv_ishr hx hb d (by rw [hz]; exact k H locs ls hP hS hl)
theorem tw_idiv (C : CX X cc own rm w tys) {a b : Int} (x y : Nat) (d : DC 1 cc pc nx (.idiv)) (ha : a = (x : Int)) (hy : b = (y : Int)) (h1 : x < 2147483648) (h0 : 0 < y) (h2 : y < 2147483648) (k : TW X w S nx L (.int (iI ((x / y : Nat) : Int)) :: st)) : TW X w S pc L (.int (iI b) :: .int (iI a) :: st) := by
  obtain ⟨p, l, e, R, s, m, args, below, meth, c, Q, D, A, nL, cells, slots⟩ := X
  obtain ⟨hx, hb, -⟩ := C
  obtain ⟨d, rfl⟩ := d
  intro H locs ls hP hS hl
  exact lv_idiv hx hb d (by rw [hy, iI_nat]; exact nI_ne0 h0 h2) (by rw [ha, hy, iI_div h1 h0 h2]; exact k H locs ls hP hS hl)
theorem tw_irem (C : CX X cc own rm w tys) {a b : Int} (x y : Nat) (d : DC 1 cc pc nx (.irem)) (ha : a = (x : Int)) (hy : b = (y : Int)) (h1 : x < 2147483648) (h0 : 0 < y) (h2 : y < 2147483648) (k : TW X w S nx L (.int (iI ((x % y : Nat) : Int)) :: st)) : TW X w S pc L (.int (iI b) :: .int (iI a) :: st) := by
  obtain ⟨p, l, e, R, s, m, args, below, meth, c, Q, D, A, nL, cells, slots⟩ := X
  obtain ⟨hx, hb, -⟩ := C
  obtain ⟨d, rfl⟩ := d
  intro H locs ls hP hS hl
  exact lv_irem hx hb d (by rw [hy, iI_nat]; exact nI_ne0 h0 h2) (by rw [ha, hy, iI_rem h1 h0 h2]; exact k H locs ls hP hS hl)
theorem tw_i2b (C : CX X cc own rm w tys) {x : Int} (d : DC 1 cc pc nx (.i2b)) (hv : -128 ≤ x ∧ x ≤ 127) (k : TW X w S nx L (.int (iI x) :: st)) : TW X w S pc L (.int (iI x) :: st) := by
  obtain ⟨p, l, e, R, s, m, args, below, meth, c, Q, D, A, nL, cells, slots⟩ := X
  obtain ⟨hx, hb, -⟩ := C
  obtain ⟨d, rfl⟩ := d
  intro H locs ls hP hS hl
  exact lv_i2b hx hb d (iI_byte hv) (k H locs ls hP hS hl)
theorem tw_dup (C : CX X cc own rm w tys) {v : Value} (d : DC 1 cc pc nx (.dup)) (hv : v.category = 1) (k : TW X w S nx L (v :: v :: st)) : TW X w S pc L (v :: st) := by
  obtain ⟨p, l, e, R, s, m, args, below, meth, c, Q, D, A, nL, cells, slots⟩ := X
  obtain ⟨hx, hb, -⟩ := C
  obtain ⟨d, rfl⟩ := d
  intro H locs ls hP hS hl
  exact lv_dup hx hb d hv (k H locs ls hP hS hl)
theorem tw_dup2 (C : CX X cc own rm w tys) {v u : Value} (d : DC 1 cc pc nx (.dup2)) (hv : v.category = 1) (hu : u.category = 1) (k : TW X w S nx L (v :: u :: v :: u :: st)) : TW X w S pc L (v :: u :: st) := by
  obtain ⟨p, l, e, R, s, m, args, below, meth, c, Q, D, A, nL, cells, slots⟩ := X
  obtain ⟨hx, hb, -⟩ := C
  obtain ⟨d, rfl⟩ := d
  intro H locs ls hP hS hl
  exact lv_dup2_11 hx hb d hv hu (k H locs ls hP hS hl)
theorem tw_icmp_eq (C : CX X cc own rm w tys) {x y : Int} (d : DI cc pc nx tg .eq) (hx9 : inR x) (hy9 : inR y) (kt : x = y → TW X w S tg L st) (kf : x ≠ y → TW X w S nx L st) : TW X w S pc L (.int (iI y) :: .int (iI x) :: st) := by
  obtain ⟨p, l, e, R, s, m, args, below, meth, c, Q, D, A, nL, cells, slots⟩ := X
  obtain ⟨hx, hb, -⟩ := C
  obtain ⟨off, d, ht, rfl⟩ := d
  intro H locs ls hP hS hl
  exact lv_icmp_eq hx hb d ht (fun h => kt ((iI_eq hx9 hy9).mp h) H locs ls hP hS hl) (fun h => kf (fun q => h (by rw [q])) H locs ls hP hS hl)
theorem tw_if_eq (C : CX X cc own rm w tys) {x : Int} (d : DF cc pc nx tg .eq) (hx9 : inR x) (kt : x = 0 → TW X w S tg L st) (kf : x ≠ 0 → TW X w S nx L st) : TW X w S pc L (.int (iI x) :: st) := by
  obtain ⟨p, l, e, R, s, m, args, below, meth, c, Q, D, A, nL, cells, slots⟩ := X
  obtain ⟨hx, hb, -⟩ := C
  obtain ⟨off, d, ht, rfl⟩ := d
  have h09 : inR 0 := by decide
  intro H locs ls hP hS hl
  exact lv_if_eq hx hb d ht (fun h => kt ((iI_eq hx9 h09).mp h) H locs ls hP hS hl) (fun h => kf (fun q => h (by rw [q]; rfl)) H locs ls hP hS hl)
theorem tw_icmp_ne (C : CX X cc own rm w tys) {x y : Int} (d : DI cc pc nx tg .ne) (hx9 : inR x) (hy9 : inR y) (kt : x ≠ y → TW X w S tg L st) (kf : x = y → TW X w S nx L st) : TW X w S pc L (.int (iI y) :: .int (iI x) :: st) := by
  obtain ⟨p, l, e, R, s, m, args, below, meth, c, Q, D, A, nL, cells, slots⟩ := X
  obtain ⟨hx, hb, -⟩ := C
  obtain ⟨off, d, ht, rfl⟩ := d
  intro H locs ls hP hS hl
  exact lv_icmp_ne hx hb d ht (fun h => kt (fun q => h (by rw [q])) H locs ls hP hS hl) (fun h => kf ((iI_eq hx9 hy9).mp h) H locs ls hP hS hl)
theorem tw_if_ne (C : CX X cc own rm w tys) {x : Int} (d : DF cc pc nx tg .ne) (hx9 : inR x) (kt : x ≠ 0 → TW X w S tg L st) (kf : x = 0 → TW X w S nx L st) : TW X w S pc L (.int (iI x) :: st) := by
  obtain ⟨p, l, e, R, s, m, args, below, meth, c, Q, D, A, nL, cells, slots⟩ := X
  obtain ⟨hx, hb, -⟩ := C
  obtain ⟨off, d, ht, rfl⟩ := d
  have h09 : inR 0 := by decide
  intro H locs ls hP hS hl
  exact lv_if_ne hx hb d ht (fun h => kt (fun q => h (by rw [q]; rfl)) H locs ls hP hS hl) (fun h => kf ((iI_eq hx9 h09).mp h) H locs ls hP hS hl)
theorem tw_icmp_lt (C : CX X cc own rm w tys) {x y : Int} (d : DI cc pc nx tg .lt) (hx9 : inR x) (hy9 : inR y) (kt : x < y → TW X w S tg L st) (kf : y ≤ x → TW X w S nx L st) : TW X w S pc L (.int (iI y) :: .int (iI x) :: st) := by
  obtain ⟨p, l, e, R, s, m, args, below, meth, c, Q, D, A, nL, cells, slots⟩ := X
  obtain ⟨hx, hb, -⟩ := C
  obtain ⟨off, d, ht, rfl⟩ := d
  intro H locs ls hP hS hl
  exact lv_icmp_lt hx hb d ht (fun h => kt ((iI_lt hx9 hy9).mp h) H locs ls hP hS hl) (fun h => kf (by have h2 := mt (iI_lt hx9 hy9).mpr h; omega) H locs ls hP hS hl)
theorem tw_if_lt (C : CX X cc own rm w tys) {x : Int} (d : DF cc pc nx tg .lt) (hx9 : inR x) (kt : x < 0 → TW X w S tg L st) (kf : 0 ≤ x → TW X w S nx L st) : TW X w S pc L (.int (iI x) :: st) := by
  obtain ⟨p, l, e, R, s, m, args, below, meth, c, Q, D, A, nL, cells, slots⟩ := X
  obtain ⟨hx, hb, -⟩ := C
  obtain ⟨off, d, ht, rfl⟩ := d
  have h09 : inR 0 := by decide
  intro H locs ls hP hS hl
  exact lv_if_lt hx hb d ht (fun h => kt ((iI_lt hx9 h09).mp h) H locs ls hP hS hl) (fun h => kf (by have h2 := mt (iI_lt hx9 h09).mpr h; omega) H locs ls hP hS hl)
theorem tw_icmp_ge (C : CX X cc own rm w tys) {x y : Int} (d : DI cc pc nx tg .ge) (hx9 : inR x) (hy9 : inR y) (kt : y ≤ x → TW X w S tg L st) (kf : x < y → TW X w S nx L st) : TW X w S pc L (.int (iI y) :: .int (iI x) :: st) := by
  obtain ⟨p, l, e, R, s, m, args, below, meth, c, Q, D, A, nL, cells, slots⟩ := X
  obtain ⟨hx, hb, -⟩ := C
  obtain ⟨off, d, ht, rfl⟩ := d
  intro H locs ls hP hS hl
  exact lv_icmp_ge hx hb d ht (fun h => kt ((iI_le hy9 hx9).mp h) H locs ls hP hS hl) (fun h => kf (by have h2 := mt (iI_le hy9 hx9).mpr h; omega) H locs ls hP hS hl)
theorem tw_if_ge (C : CX X cc own rm w tys) {x : Int} (d : DF cc pc nx tg .ge) (hx9 : inR x) (kt : 0 ≤ x → TW X w S tg L st) (kf : x < 0 → TW X w S nx L st) : TW X w S pc L (.int (iI x) :: st) := by
  obtain ⟨p, l, e, R, s, m, args, below, meth, c, Q, D, A, nL, cells, slots⟩ := X
  obtain ⟨hx, hb, -⟩ := C
  obtain ⟨off, d, ht, rfl⟩ := d
  have h09 : inR 0 := by decide
  intro H locs ls hP hS hl
  exact lv_if_ge hx hb d ht (fun h => kt ((iI_le h09 hx9).mp h) H locs ls hP hS hl) (fun h => kf (by have h2 := mt (iI_le h09 hx9).mpr h; omega) H locs ls hP hS hl)
theorem tw_icmp_gt (C : CX X cc own rm w tys) {x y : Int} (d : DI cc pc nx tg .gt) (hx9 : inR x) (hy9 : inR y) (kt : y < x → TW X w S tg L st) (kf : x ≤ y → TW X w S nx L st) : TW X w S pc L (.int (iI y) :: .int (iI x) :: st) := by
  obtain ⟨p, l, e, R, s, m, args, below, meth, c, Q, D, A, nL, cells, slots⟩ := X
  obtain ⟨hx, hb, -⟩ := C
  obtain ⟨off, d, ht, rfl⟩ := d
  intro H locs ls hP hS hl
  exact lv_icmp_gt hx hb d ht (fun h => kt ((iI_lt hy9 hx9).mp h) H locs ls hP hS hl) (fun h => kf (by have h2 := mt (iI_lt hy9 hx9).mpr h; omega) H locs ls hP hS hl)
theorem tw_if_gt (C : CX X cc own rm w tys) {x : Int} (d : DF cc pc nx tg .gt) (hx9 : inR x) (kt : 0 < x → TW X w S tg L st) (kf : x ≤ 0 → TW X w S nx L st) : TW X w S pc L (.int (iI x) :: st) := by
  obtain ⟨p, l, e, R, s, m, args, below, meth, c, Q, D, A, nL, cells, slots⟩ := X
  obtain ⟨hx, hb, -⟩ := C
  obtain ⟨off, d, ht, rfl⟩ := d
  have h09 : inR 0 := by decide
  intro H locs ls hP hS hl
  exact lv_if_gt hx hb d ht (fun h => kt ((iI_lt h09 hx9).mp h) H locs ls hP hS hl) (fun h => kf (by have h2 := mt (iI_lt h09 hx9).mpr h; omega) H locs ls hP hS hl)
theorem tw_icmp_le (C : CX X cc own rm w tys) {x y : Int} (d : DI cc pc nx tg .le) (hx9 : inR x) (hy9 : inR y) (kt : x ≤ y → TW X w S tg L st) (kf : y < x → TW X w S nx L st) : TW X w S pc L (.int (iI y) :: .int (iI x) :: st) := by
  obtain ⟨p, l, e, R, s, m, args, below, meth, c, Q, D, A, nL, cells, slots⟩ := X
  obtain ⟨hx, hb, -⟩ := C
  obtain ⟨off, d, ht, rfl⟩ := d
  intro H locs ls hP hS hl
  exact lv_icmp_le hx hb d ht (fun h => kt ((iI_le hx9 hy9).mp h) H locs ls hP hS hl) (fun h => kf (by have h2 := mt (iI_le hx9 hy9).mpr h; omega) H locs ls hP hS hl)
theorem tw_if_le (C : CX X cc own rm w tys) {x : Int} (d : DF cc pc nx tg .le) (hx9 : inR x) (kt : x ≤ 0 → TW X w S tg L st) (kf : 0 < x → TW X w S nx L st) : TW X w S pc L (.int (iI x) :: st) := by
  obtain ⟨p, l, e, R, s, m, args, below, meth, c, Q, D, A, nL, cells, slots⟩ := X
  obtain ⟨hx, hb, -⟩ := C
  obtain ⟨off, d, ht, rfl⟩ := d
  have h09 : inR 0 := by decide
  intro H locs ls hP hS hl
  exact lv_if_le hx hb d ht (fun h => kt ((iI_le hx9 h09).mp h) H locs ls hP hS hl) (fun h => kf (by have h2 := mt (iI_le hx9 h09).mpr h; omega) H locs ls hP hS hl)
theorem tw_goto (C : CX X cc own rm w tys) (d : DG cc pc tg) (k : TW X w S tg L st) : TW X w S pc L st := by
  obtain ⟨p, l, e, R, s, m, args, below, meth, c, Q, D, A, nL, cells, slots⟩ := X
  obtain ⟨hx, hb, -⟩ := C
  obtain ⟨off, d, ht⟩ := d
  intro H locs ls hP hS hl
  exact lv_goto hx hb d ht (k H locs ls hP hS hl)
theorem tw_iloadn (C : CX X cc own rm w tys) {j : Fin 4} {i : Nat} {x : Int32} (d : DC 1 cc pc nx (.iload_n j)) (hi : (j : Nat) = i) (hL : L[i]? = some (some (.int x))) (k : TW X w S nx L (.int x :: st)) : TW X w S pc L st := by
  obtain ⟨p, l, e, R, s, m, args, below, meth, c, Q, D, A, nL, cells, slots⟩ := X
  obtain ⟨hx, hb, -⟩ := C
  obtain ⟨d, rfl⟩ := d
  intro H locs ls hP hS hl
  exact lv_iload_n hx hb d hi (hl.2.2.2 _ _ hL).1 (k H locs ls hP hS hl)
theorem tw_iloadw (C : CX X cc own rm w tys) {i : Nat} {x : Int32} (d : DC 2 cc pc nx (.iload i)) (hL : L[i]? = some (some (.int x))) (k : TW X w S nx L (.int x :: st)) : TW X w S pc L st := by
  obtain ⟨p, l, e, R, s, m, args, below, meth, c, Q, D, A, nL, cells, slots⟩ := X
  obtain ⟨hx, hb, -⟩ := C
  obtain ⟨d, rfl⟩ := d
  intro H locs ls hP hS hl
  exact lv_iload hx hb d (hl.2.2.2 _ _ hL).1 (k H locs ls hP hS hl)
theorem tw_aloadn (C : CX X cc own rm w tys) {j : Fin 4} {i : Nat} {x : Nat} (d : DC 1 cc pc nx (.aload_n j)) (hi : (j : Nat) = i) (hL : L[i]? = some (some (.ref x))) (k : TW X w S nx L (.ref x :: st)) : TW X w S pc L st := by
  obtain ⟨p, l, e, R, s, m, args, below, meth, c, Q, D, A, nL, cells, slots⟩ := X
  obtain ⟨hx, hb, -⟩ := C
  obtain ⟨d, rfl⟩ := d
  intro H locs ls hP hS hl
  exact lv_aload_n hx hb d hi (hl.2.2.2 _ _ hL).1 (k H locs ls hP hS hl)
theorem tw_istoren (C : CX X cc own rm w tys) {j : Fin 4} {i : Nat} {x : Int32} (d : DC 1 cc pc nx (.istore_n j)) (hi : (j : Nat) = i) (hn : i < L.length) (k : TW X w S nx (L.set i (some (.int x))) st) : TW X w S pc L (.int x :: st) := by
  obtain ⟨p, l, e, R, s, m, args, below, meth, c, Q, D, A, nL, cells, slots⟩ := X
  obtain ⟨hx, hb, -⟩ := C
  obtain ⟨d, rfl⟩ := d
  intro H locs ls hP hS hl
  exact lv_istore_n hx hb d hi hl.pairs (by rw [← hl.2.1]; exact hn) rfl (fun ls' h' => k H locs ls' hP hS (hl.set rfl (fun _ h => h) h'))
theorem tw_istorew (C : CX X cc own rm w tys) {i : Nat} {x : Int32} (d : DC 2 cc pc nx (.istore i)) (hn : i < L.length) (k : TW X w S nx (L.set i (some (.int x))) st) : TW X w S pc L (.int x :: st) := by
  obtain ⟨p, l, e, R, s, m, args, below, meth, c, Q, D, A, nL, cells, slots⟩ := X
  obtain ⟨hx, hb, -⟩ := C
  obtain ⟨d, rfl⟩ := d
  intro H locs ls hP hS hl
  exact lv_istore hx hb d hl.pairs (by rw [← hl.2.1]; exact hn) rfl (fun ls' h' => k H locs ls' hP hS (hl.set rfl (fun _ h => h) h'))
theorem tw_iincw (C : CX X cc own rm w tys) {i : Nat} {n x : Int} (d : DC 3 cc pc nx (.iinc i n)) (hL : L[i]? = some (some (.int (iI x)))) (k : TW X w S nx (L.set i (some (.int (iI (x + n))))) st) : TW X w S pc L st := by
  obtain ⟨p, l, e, R, s, m, args, below, meth, c, Q, D, A, nL, cells, slots⟩ := X
  obtain ⟨hx, hb, -⟩ := C
  obtain ⟨d, rfl⟩ := d
  intro H locs ls hP hS hl
  have hn : i < nL := by rw [← hl.2.1]; exact (List.getElem?_eq_some_iff.mp hL).1
  have h0 : lv_has ls nL ((i, .int (iI x)) :: lo_pairs L) := ⟨hl.pairs.1, hl.pairs.2.1, fun q hq => by
    rcases List.mem_cons.mp hq with rfl | hq
    · exact (hl.2.2.2 _ _ hL).1
    · exact hl.pairs.2.2 q hq⟩
  exact lv_iinc (k := 0) hx hb d h0 rfl (by show iI x + iI n = _; rw [iI_add]) hn rfl (fun ls' h' => k H locs ls' hP hS (hl.set rfl (fun _ h => List.mem_cons_of_mem _ h) h'))
theorem tw_iload0 (C : CX X cc own rm w tys) {x : Int32} (d : DC 1 cc pc nx (.iload_n 0)) (k : TW X w S nx (some (.int x) :: L) (.int x :: st)) : TW X w S pc (some (.int x) :: L) st := tw_iloadn C (i := 0) d rfl rfl k
theorem tw_istore0 (C : CX X cc own rm w tys) {a : Option Value} {x : Int32} (d : DC 1 cc pc nx (.istore_n 0)) (k : TW X w S nx (some (.int x) :: L) st) : TW X w S pc (a :: L) (.int x :: st) := tw_istoren C (i := 0) d rfl (by simp only [List.length_cons]; omega) k
theorem tw_aload0 (C : CX X cc own rm w tys) {x : Nat} (d : DC 1 cc pc nx (.aload_n 0)) (k : TW X w S nx (some (.ref x) :: L) (.ref x :: st)) : TW X w S pc (some (.ref x) :: L) st := tw_aloadn C (i := 0) d rfl rfl k
theorem tw_iload1 (C : CX X cc own rm w tys) {a : Option Value} {x : Int32} (d : DC 1 cc pc nx (.iload_n 1)) (k : TW X w S nx (a :: some (.int x) :: L) (.int x :: st)) : TW X w S pc (a :: some (.int x) :: L) st := tw_iloadn C (i := 1) d rfl rfl k
theorem tw_istore1 (C : CX X cc own rm w tys) {a b : Option Value} {x : Int32} (d : DC 1 cc pc nx (.istore_n 1)) (k : TW X w S nx (a :: some (.int x) :: L) st) : TW X w S pc (a :: b :: L) (.int x :: st) := tw_istoren C (i := 1) d rfl (by simp only [List.length_cons]; omega) k
theorem tw_aload1 (C : CX X cc own rm w tys) {a : Option Value} {x : Nat} (d : DC 1 cc pc nx (.aload_n 1)) (k : TW X w S nx (a :: some (.ref x) :: L) (.ref x :: st)) : TW X w S pc (a :: some (.ref x) :: L) st := tw_aloadn C (i := 1) d rfl rfl k
theorem tw_iinc1 (C : CX X cc own rm w tys) {a : Option Value} {n x : Int} (d : DC 3 cc pc nx (.iinc 1 n)) (k : TW X w S nx (a :: some (.int (iI (x + n))) :: L) st) : TW X w S pc (a :: some (.int (iI x)) :: L) st := tw_iincw C (i := 1) d rfl k
theorem tw_iload2 (C : CX X cc own rm w tys) {a b : Option Value} {x : Int32} (d : DC 1 cc pc nx (.iload_n 2)) (k : TW X w S nx (a :: b :: some (.int x) :: L) (.int x :: st)) : TW X w S pc (a :: b :: some (.int x) :: L) st := tw_iloadn C (i := 2) d rfl rfl k
theorem tw_istore2 (C : CX X cc own rm w tys) {a b c2 : Option Value} {x : Int32} (d : DC 1 cc pc nx (.istore_n 2)) (k : TW X w S nx (a :: b :: some (.int x) :: L) st) : TW X w S pc (a :: b :: c2 :: L) (.int x :: st) := tw_istoren C (i := 2) d rfl (by simp only [List.length_cons]; omega) k
theorem tw_aload2 (C : CX X cc own rm w tys) {a b : Option Value} {x : Nat} (d : DC 1 cc pc nx (.aload_n 2)) (k : TW X w S nx (a :: b :: some (.ref x) :: L) (.ref x :: st)) : TW X w S pc (a :: b :: some (.ref x) :: L) st := tw_aloadn C (i := 2) d rfl rfl k
theorem tw_iinc2 (C : CX X cc own rm w tys) {a b : Option Value} {n x : Int} (d : DC 3 cc pc nx (.iinc 2 n)) (k : TW X w S nx (a :: b :: some (.int (iI (x + n))) :: L) st) : TW X w S pc (a :: b :: some (.int (iI x)) :: L) st := tw_iincw C (i := 2) d rfl k
theorem tw_iload3 (C : CX X cc own rm w tys) {a b c2 : Option Value} {x : Int32} (d : DC 1 cc pc nx (.iload_n 3)) (k : TW X w S nx (a :: b :: c2 :: some (.int x) :: L) (.int x :: st)) : TW X w S pc (a :: b :: c2 :: some (.int x) :: L) st := tw_iloadn C (i := 3) d rfl rfl k
theorem tw_istore3 (C : CX X cc own rm w tys) {a b c2 d2 : Option Value} {x : Int32} (d : DC 1 cc pc nx (.istore_n 3)) (k : TW X w S nx (a :: b :: c2 :: some (.int x) :: L) st) : TW X w S pc (a :: b :: c2 :: d2 :: L) (.int x :: st) := tw_istoren C (i := 3) d rfl (by simp only [List.length_cons]; omega) k
theorem tw_aload3 (C : CX X cc own rm w tys) {a b c2 : Option Value} {x : Nat} (d : DC 1 cc pc nx (.aload_n 3)) (k : TW X w S nx (a :: b :: c2 :: some (.ref x) :: L) (.ref x :: st)) : TW X w S pc (a :: b :: c2 :: some (.ref x) :: L) st := tw_aloadn C (i := 3) d rfl rfl k
theorem tw_iinc3 (C : CX X cc own rm w tys) {a b c2 : Option Value} {n x : Int} (d : DC 3 cc pc nx (.iinc 3 n)) (k : TW X w S nx (a :: b :: c2 :: some (.int (iI (x + n))) :: L) st) : TW X w S pc (a :: b :: c2 :: some (.int (iI x)) :: L) st := tw_iincw C (i := 3) d rfl k
theorem tw_iload4 (C : CX X cc own rm w tys) {a b c2 d2 : Option Value} {x : Int32} (d : DC 2 cc pc nx (.iload 4)) (k : TW X w S nx (a :: b :: c2 :: d2 :: some (.int x) :: L) (.int x :: st)) : TW X w S pc (a :: b :: c2 :: d2 :: some (.int x) :: L) st := tw_iloadw C (i := 4) d rfl k
theorem tw_istore4 (C : CX X cc own rm w tys) {a b c2 d2 e2 : Option Value} {x : Int32} (d : DC 2 cc pc nx (.istore 4)) (k : TW X w S nx (a :: b :: c2 :: d2 :: some (.int x) :: L) st) : TW X w S pc (a :: b :: c2 :: d2 :: e2 :: L) (.int x :: st) := tw_istorew C (i := 4) d (by simp only [List.length_cons]; omega) k
theorem tw_iinc4 (C : CX X cc own rm w tys) {a b c2 d2 : Option Value} {n x : Int} (d : DC 3 cc pc nx (.iinc 4 n)) (k : TW X w S nx (a :: b :: c2 :: d2 :: some (.int (iI (x + n))) :: L) st) : TW X w S pc (a :: b :: c2 :: d2 :: some (.int (iI x)) :: L) st := tw_iincw C (i := 4) d rfl k
theorem tw_iload5 (C : CX X cc own rm w tys) {a b c2 d2 e2 : Option Value} {x : Int32} (d : DC 2 cc pc nx (.iload 5)) (k : TW X w S nx (a :: b :: c2 :: d2 :: e2 :: some (.int x) :: L) (.int x :: st)) : TW X w S pc (a :: b :: c2 :: d2 :: e2 :: some (.int x) :: L) st := tw_iloadw C (i := 5) d rfl k
theorem tw_istore5 (C : CX X cc own rm w tys) {a b c2 d2 e2 f2 : Option Value} {x : Int32} (d : DC 2 cc pc nx (.istore 5)) (k : TW X w S nx (a :: b :: c2 :: d2 :: e2 :: some (.int x) :: L) st) : TW X w S pc (a :: b :: c2 :: d2 :: e2 :: f2 :: L) (.int x :: st) := tw_istorew C (i := 5) d (by simp only [List.length_cons]; omega) k
theorem tw_iinc5 (C : CX X cc own rm w tys) {a b c2 d2 e2 : Option Value} {n x : Int} (d : DC 3 cc pc nx (.iinc 5 n)) (k : TW X w S nx (a :: b :: c2 :: d2 :: e2 :: some (.int (iI (x + n))) :: L) st) : TW X w S pc (a :: b :: c2 :: d2 :: e2 :: some (.int (iI x)) :: L) st := tw_iincw C (i := 5) d rfl k
theorem tw_iload6 (C : CX X cc own rm w tys) {a b c2 d2 e2 f2 : Option Value} {x : Int32} (d : DC 2 cc pc nx (.iload 6)) (k : TW X w S nx (a :: b :: c2 :: d2 :: e2 :: f2 :: some (.int x) :: L) (.int x :: st)) : TW X w S pc (a :: b :: c2 :: d2 :: e2 :: f2 :: some (.int x) :: L) st := tw_iloadw C (i := 6) d rfl k
theorem tw_istore6 (C : CX X cc own rm w tys) {a b c2 d2 e2 f2 g2 : Option Value} {x : Int32} (d : DC 2 cc pc nx (.istore 6)) (k : TW X w S nx (a :: b :: c2 :: d2 :: e2 :: f2 :: some (.int x) :: L) st) : TW X w S pc (a :: b :: c2 :: d2 :: e2 :: f2 :: g2 :: L) (.int x :: st) := tw_istorew C (i := 6) d (by simp only [List.length_cons]; omega) k
theorem tw_iinc6 (C : CX X cc own rm w tys) {a b c2 d2 e2 f2 : Option Value} {n x : Int} (d : DC 3 cc pc nx (.iinc 6 n)) (k : TW X w S nx (a :: b :: c2 :: d2 :: e2 :: f2 :: some (.int (iI (x + n))) :: L) st) : TW X w S pc (a :: b :: c2 :: d2 :: e2 :: f2 :: some (.int (iI x)) :: L) st := tw_iincw C (i := 6) d rfl k
theorem tw_iload7 (C : CX X cc own rm w tys) {a b c2 d2 e2 f2 g2 : Option Value} {x : Int32} (d : DC 2 cc pc nx (.iload 7)) (k : TW X w S nx (a :: b :: c2 :: d2 :: e2 :: f2 :: g2 :: some (.int x) :: L) (.int x :: st)) : TW X w S pc (a :: b :: c2 :: d2 :: e2 :: f2 :: g2 :: some (.int x) :: L) st := tw_iloadw C (i := 7) d rfl k
theorem tw_istore7 (C : CX X cc own rm w tys) {a b c2 d2 e2 f2 g2 h2 : Option Value} {x : Int32} (d : DC 2 cc pc nx (.istore 7)) (k : TW X w S nx (a :: b :: c2 :: d2 :: e2 :: f2 :: g2 :: some (.int x) :: L) st) : TW X w S pc (a :: b :: c2 :: d2 :: e2 :: f2 :: g2 :: h2 :: L) (.int x :: st) := tw_istorew C (i := 7) d (by simp only [List.length_cons]; omega) k
theorem tw_iinc7 (C : CX X cc own rm w tys) {a b c2 d2 e2 f2 g2 : Option Value} {n x : Int} (d : DC 3 cc pc nx (.iinc 7 n)) (k : TW X w S nx (a :: b :: c2 :: d2 :: e2 :: f2 :: g2 :: some (.int (iI (x + n))) :: L) st) : TW X w S pc (a :: b :: c2 :: d2 :: e2 :: f2 :: g2 :: some (.int (iI x)) :: L) st := tw_iincw C (i := 7) d rfl k
theorem tw_L {L' : List (Option Value)} (h : L = L') (k : TW X w S pc L' st) : TW X w S pc L st := h ▸ k
theorem lo_mono {ls : Array Slot} {nL : Nat} {L L' : List (Option Value)} (h : lo_has ls nL L) (hn : L'.length = L.length) (hm : ∀ (i : Nat) (v : Value), L'[i]? = some (some v) → L[i]? = some (some v)) : lo_has ls nL L' :=
  ⟨h.1, hn.trans h.2.1, h.2.2.1, fun i v hv => h.2.2.2 i v (hm i v hv)⟩
/-- forget the local at a place -/
theorem tw_drop (i : Nat) (k : TW X w S pc (L.set i none) st) : TW X w S pc L st := by
  obtain ⟨p, l, e, R, s, m, args, below, meth, c, Q, D, A, nL, cells, slots⟩ := X
  intro H locs ls hP hS hl
  refine k H locs ls hP hS (lo_mono hl (List.length_set) (fun j v h => ?_))
  rw [List.getElem?_set] at h
  by_cases hij : i = j
  · rw [if_pos hij] at h
    by_cases hl2 : j < L.length
    · simp [hij, hl2] at h
    · simp [hij, hl2] at h
  · rw [if_neg hij] at h; exact h
/-- a loop by a measure -/
theorem tw_loop {σ : Type} (I : σ → Prop) (μ : σ → Nat) (P : σ → Prop) (hs : ∀ x, I x → (∀ y, I y → μ y < μ x → P y) → P x) : ∀ x, I x → P x := by
  have h : ∀ (n : Nat) (x : σ), μ x < n → I x → P x := by
    intro n
    induction n with
    | zero => intro x hx; omega
    | succ n ih => intro x hx hI; exact hs x hI (fun y hy hm => ih y (by omega) hy)
  exact fun x hI => h (μ x + 1) x (by omega) hI
end RU
/-! ===== contracts over a picture w ===== -/
def wA (w : TS → va_W) : Nat → Prop := fun a => ∃ (i : Nat) (e : va_E), (w (fun _ _ => 0))[i]? = some (a, e)
def wOK (w : TS → va_W) : Prop := ∀ S S' : TS, (w S).map Prod.fst = (w S').map Prod.fst
theorem wOK.at {w : TS → va_W} (h : wOK w) {S : TS} (S' : TS) {i : Nat} {q : Nat × va_E} (hq : (w S)[i]? = some q) : ∃ e, (w S')[i]? = some (q.1, e) := by
  have h1 : ((w S).map Prod.fst)[i]? = some q.1 := by rw [List.getElem?_map, hq]; rfl
  rw [h S S', List.getElem?_map] at h1
  cases h2 : (w S')[i]? with
  | none => rw [h2] at h1; cases h1
  | some z => rw [h2] at h1; obtain ⟨a, e⟩ := z; cases h1; exact ⟨e, rfl⟩
theorem wOK.D {w : TS → va_W} (h : wOK w) {A : Nat → Prop} {S : TS} (S' : TS) (hD : va_D A (w S)) : va_D A (w S') := by
  refine ⟨fun i j p q hi hj hpq => ?_, fun k q hk => ?_⟩
  · obtain ⟨e1, h1⟩ := h.at S hi
    obtain ⟨e2, h2⟩ := h.at S hj
    exact hD.1 i j _ _ h1 h2 hpq
  · obtain ⟨e1, h1⟩ := h.at S hk
    exact hD.2 k (q.1, e1) h1
theorem wOK.A {w : TS → va_W} (h : wOK w) {S : TS} {k : Nat} {q : Nat × va_E} (hk : (w S)[k]? = some q) : wA w q.1 := by
  obtain ⟨e, he⟩ := h.at (fun _ _ => 0) hk
  exact ⟨k, e, he⟩
theorem wOK.selfD {w : TS → va_W} (h : wOK w) {A : Nat → Prop} {S : TS} (hD : va_D A (w S)) : va_D (wA w) (w S) := ⟨hD.1, fun _ _ hk => h.A hk⟩
def PcW (D : va_G) (w : TS → va_W) (tys : List (ClassId × FieldType)) (S : TS) (av : List Value) : Array Value → State → Prop := va_Pc av (fun U => va_P D classes (w S) U.heap ∧ va_K D classes tys U ∧ va_D (fun _ => True) (w S))
def MI (l : Launch) (y : MethodName) (cc : ByteArray) (mL : Nat) (rt : FieldType) (rm : Room) (w : TS → va_W) (tys : List (ClassId × FieldType)) (av : List Value) (S : TS) (post : Int → TS → Prop) : Prop :=
  ∀ D : va_G, Met l y (Cond.code y cc mL (some rt) :: tb) rm (PcW D w tys S av) (va_Qi (fun r (u : TS) => ∃ ri : Int, r = iI ri ∧ post ri u) (fun u t => va_P D classes (w u) t.heap ∧ va_K D classes tys t) (wA w)) 0 0 (wA w)
def MV (l : Launch) (y : MethodName) (cc : ByteArray) (mL : Nat) (rm : Room) (w : TS → va_W) (tys : List (ClassId × FieldType)) (av : List Value) (S : TS) (post : TS → Prop) : Prop :=
  ∀ D : va_G, Met l y (Cond.code y cc mL none :: tb) rm (PcW D w tys S av) (va_Qv (fun (u : TS) => post u) (fun u t => va_P D classes (w u) t.heap ∧ va_K D classes tys t) (wA w)) 0 0 (wA w)
theorem lo_entry : ∀ (vs : List Value) (i j : Nat), (∀ v ∈ vs, v.category = 1) → ∀ v, vs[j]? = some v → (i + j, v) ∈ lv_args i vs := by
  intro vs
  induction vs with
  | nil => intro i j _ v h; simp at h
  | cons a vs ih =>
    intro i j hc v h
    have ha : a.category = 1 := hc a List.mem_cons_self
    unfold lv_args
    cases j with
    | zero => simp at h; subst h; exact List.mem_cons_self
    | succ j =>
      refine List.mem_cons_of_mem _ ?_
      rw [if_neg (by omega)]
      have := ih (i + 1) j (fun v hv => hc v (List.mem_cons_of_mem _ hv)) v (by simpa using h)
      rw [show i + (j + 1) = i + 1 + j by omega]
      exact this
theorem lo_start (vs : List Value) {n : Nat} (hn : (lg_sl vs).length ≤ n) (hc : ∀ v ∈ vs, v.category = 1) (hl : vs.length ≤ n) : lo_has ((lg_sl vs ++ List.replicate (n - (lg_sl vs).length) Slot.unset).toArray) n (vs.map some ++ List.replicate (n - vs.length) none) := by
  have h := lv_entry vs hn
  refine ⟨h.1, by simp; omega, h.2.1, fun i v hv => ?_⟩
  have hv2 : vs[i]? = some v := by
    by_cases hi : i < vs.length
    · rw [List.getElem?_append_left (by simpa using hi)] at hv
      simpa using hv
    · rw [List.getElem?_append_right (by simpa using hi)] at hv
      rw [List.getElem?_replicate] at hv
      split at hv <;> simp at hv
  refine ⟨?_, hc v (List.mem_of_getElem? hv2)⟩
  have := h.2.2 _ (lo_entry vs 0 i hc v hv2)
  simpa using this
theorem mi_of {y : MethodName} {cc : ByteArray} {mL : Nat} {rt : FieldType} {rm : Room} {w : TS → va_W} {tys : List (ClassId × FieldType)} {av : List Value} {S : TS} {post : Int → TS → Prop} (hok : wOK w) (hy : plainName y.cls = true) (hn : (lg_sl av).length ≤ mL) (hc : ∀ v ∈ av, v.category = 1) (hl : av.length ≤ mL)
    (H : ∀ X : CT, CX X cc y.cls rm w tys → (∀ (r : Int) (S' : TS) (pc nx : Nat) (L : List (Option Value)), DC 1 cc pc nx .ireturn → narrow rt (.int (iI r)) = .int (iI r) → post r S' → TW X w S' pc L [.int (iI r)]) → TW X w S 0 (av.map some ++ List.replicate (mL - av.length) none) []) (l : Launch) : MI l y cc mL rt rm w tys av S post := by
  intro D
  refine Met.ofW (cc := cc) (maxL := mL) (ret := some rt) hy rfl ?_
  intro p e s m args below meth c s₁ B hml hv
  obtain ⟨rfl, hP, hK, hD0⟩ := hv
  have hx := B.exec
  have hb := B.bytes
  have hr := B.returns
  have hts := atoms_spec (ws := Cond.code y cc mL (some rt) :: tb) B.pre
  have hown : s.vm.findClass y.cls = some m.cls := findClass_of_methodNamed B.named
  have hlocks := B.notSynchronized
  have hD := fun S' => hok.selfD (hok.D S' hD0)
  have hlo := lo_start av hn hc hl
  rw [lg_entry_eq]
  have hS : va_S (wA w) s.heap s.heap [] := va_S.rf
  refine H (p, l, e, _, s, m, av.toArray, below, meth, c, _, D, wA w, mL, 0, 0) ⟨hx, hb, hml, hown, fun x h => hts x (List.mem_cons_of_mem _ h), hK, hD, rfl, Nat.zero_le _, Nat.zero_le _⟩ ?_ s.heap [] _ hP hS hlo
  intro r S' pc nx L hd hnr hp H1 locs ls hP1 hS1 hl1
  obtain ⟨hd, -⟩ := hd
  exact W.zret hx hb hr hnr (fun t ht hW => ⟨⟨iI r, S', rfl, ⟨r, rfl, hp⟩, by rw [ht]; exact hP1, va_K.moved hW.alike hK⟩, hS1.F ht⟩) hS1.2.2 hd
theorem mv_of {y : MethodName} {cc : ByteArray} {mL : Nat} {rm : Room} {w : TS → va_W} {tys : List (ClassId × FieldType)} {av : List Value} {S : TS} {post : TS → Prop} (hok : wOK w) (hy : plainName y.cls = true) (hn : (lg_sl av).length ≤ mL) (hc : ∀ v ∈ av, v.category = 1) (hl : av.length ≤ mL)
    (H : ∀ X : CT, CX X cc y.cls rm w tys → (∀ (S' : TS) (pc nx : Nat) (L : List (Option Value)), DC 1 cc pc nx .return_ → post S' → TW X w S' pc L []) → TW X w S 0 (av.map some ++ List.replicate (mL - av.length) none) []) (l : Launch) : MV l y cc mL rm w tys av S post := by
  intro D
  refine Met.ofW (cc := cc) (maxL := mL) (ret := none) hy rfl ?_
  intro p e s m args below meth c s₁ B hml hv
  obtain ⟨rfl, hP, hK, hD0⟩ := hv
  have hx := B.exec
  have hb := B.bytes
  have hr := B.returns
  have hts := atoms_spec (ws := Cond.code y cc mL none :: tb) B.pre
  have hown : s.vm.findClass y.cls = some m.cls := findClass_of_methodNamed B.named
  have hlocks := B.notSynchronized
  have hD := fun S' => hok.selfD (hok.D S' hD0)
  have hlo := lo_start av hn hc hl
  rw [lg_entry_eq]
  have hS : va_S (wA w) s.heap s.heap [] := va_S.rf
  refine H (p, l, e, _, s, m, av.toArray, below, meth, c, _, D, wA w, mL, 0, 0) ⟨hx, hb, hml, hown, fun x h => hts x (List.mem_cons_of_mem _ h), hK, hD, rfl, Nat.zero_le _, Nat.zero_le _⟩ ?_ s.heap [] _ hP hS hlo
  intro S' pc nx L hd hp H1 locs ls hP1 hS1 hl1
  obtain ⟨hd, -⟩ := hd
  exact W.vret hx hb hr (fun t ht hW => ⟨⟨S', rfl, hp, by rw [ht]; exact hP1, va_K.moved hW.alike hK⟩, hS1.F ht⟩) hS1.2.2 hd
/-! ===== calls within one picture ===== -/
/-- what a call site needs of the tables -/
def CS (own : String) (idx : Nat) (y : MethodName) (cc : ByteArray) (mL : Nat) (ret : Option FieldType) (n : Nat) : Prop :=
  GoodIn tb (wsV own idx y.cls y (Cond.code y cc mL ret :: tb)) ∧ (y.cls = y.cls ∧ y.cls ≠ "java/lang/invoke/MethodHandle" ∧ y.cls ≠ "java/lang/invoke/VarHandle" ∧ (parseMethodDescriptor y.desc).map (fun d => d.parameters.length) = some n)
theorem cs_of {own : String} {idx : Nat} {y : MethodName} {cc : ByteArray} {mL : Nat} {ret : Option FieldType} {n : Nat} (hz : Cond.code y cc mL ret ∈ tb) (h : ([.methodLink own idx y, .instanceMethod y, .selects y.cls y y, .initialized y.cls] : List Cond).all (fun x => decide (x ∈ tb)) = true)
    (hd : y.cls ≠ "java/lang/invoke/MethodHandle" ∧ y.cls ≠ "java/lang/invoke/VarHandle" ∧ (parseMethodDescriptor y.desc).map (fun d => d.parameters.length) = some n) : CS own idx y cc mL ret n := by
  refine ⟨fun x hx => ?_, rfl, hd⟩
  unfold wsV at hx
  have hm : x ∈ tb := by
    rcases List.mem_append.mp hx with h1 | h1
    · exact of_decide_eq_true (List.all_eq_true.mp h x h1)
    · rcases List.mem_cons.mp h1 with rfl | h2
      · exact hz
      · exact h2
  exact gd_tb x hm
section CALL
variable {X : CT} {cc : ByteArray} {own : String} {rm : Room} {w : TS → va_W} {tys : List (ClassId × FieldType)} {S : TS} {pc nx : Nat} {L : List (Option Value)} {st rest : List Value}
theorem tw_calli (C : CX X cc own rm w tys) (hok : wOK w) {y : MethodName} {idx : Nat} {bytes : ByteArray} {mL n b ci : Nat} {rt : FieldType} {rm' : Room} {As : List Value} {post : Int → TS → Prop} {fs : List Value} {q : vw_C} (hM : ∀ l : Launch, MI l y bytes mL rt rm' w tys (.ref b :: As) S post) (cs : CS own idx y bytes mL (some rt) n)
    (hrm : (rm'.cells = 0 ∧ rm'.slots = 0) ∧ (rm'.frames + 1 ≤ rm.frames ∧ 8 + (mL + 11) + rm'.locals ≤ rm.locals)) (hrecv : (w S)[0]? = some (b, .inr (ci, fs))) (hci : classes[ci]? = some q) (hqc : q.1 = y.cls) (hn : As.length = n) (hst : st = As.reverse ++ .ref b :: rest) (hcat : (rest.map fun v => v.category).sum ≤ 8) (d : DC 3 cc pc nx (.invokevirtual idx))
    (k : ∀ (r : Int) (S' : TS), post r S' → TW X w S' nx L (.int (iI r) :: rest)) : TW X w S pc L st := by
  obtain ⟨p, l, e, R, s, m, args, below, meth, c, Q, D, A, nL, cells, slots⟩ := X
  obtain ⟨hx, hb, hml, hown, hts, hK, hD, rfl, hcs⟩ := C
  obtain ⟨d, rfl⟩ := d
  intro H locs ls hP hS hl
  have hA : ∀ a, wA w a → A a := by
    rintro a ⟨i, e, he⟩
    obtain ⟨e', he'⟩ := hok.at S he
    exact (hD S).2 i _ he'
  have hr : va_Run p l e R s m args below meth c H locs cells slots 0 0 (F0 m pc ls st) rest (va_Qi (fun r (u : TS) => ∃ ri : Int, r = iI ri ∧ post ri u) (fun u t => va_P D classes (w u) t.heap ∧ va_K D classes tys t) (wA w) (Value.ref b :: As).toArray) (wA w) :=
    va_runV (As := As) (rest := rest) ⟨hx, hb, hml, hown, hts⟩ (hM l D) (cwV n hts cs.1 rfl hrm.1.1 hrm.1.2 cs.2 hrm.2) ⟨fun a U g mk q => by obtain ⟨q0, qP, qK, qD⟩ := q; exact ⟨q0, qP, va_K.moved (u := U) (U := U.calling g mk a) (Vm.Alike.refl U.vm) qK, qD⟩, by rw [← hqc]; exact va_recv hK hP hci hrecv, fun U hU hW => ⟨rfl, by rw [hU]; exact hP, va_K.moved hW.alike hK, (hD S).weaken (fun _ _ _ _ => trivial)⟩⟩ rfl hn hl.1 hst (lv_room hcat) d hcs
  refine va_calli hr hS (fun q _ h => hA q h) hA (fun r u t H1 locs1 ht hvm hw hB hz1 hk1 hS1 => ?_)
  obtain ⟨ri, rfl, hp⟩ := hw
  exact k ri u hp H1 locs1 ls (by rw [← ht]; exact hB.1) hS1 hl
theorem tw_callv (C : CX X cc own rm w tys) (hok : wOK w) {y : MethodName} {idx : Nat} {bytes : ByteArray} {mL n b ci : Nat} {rm' : Room} {As : List Value} {post : TS → Prop} {fs : List Value} {q : vw_C} (hM : ∀ l : Launch, MV l y bytes mL rm' w tys (.ref b :: As) S post) (cs : CS own idx y bytes mL none n)
    (hrm : (rm'.cells = 0 ∧ rm'.slots = 0) ∧ (rm'.frames + 1 ≤ rm.frames ∧ 8 + (mL + 11) + rm'.locals ≤ rm.locals)) (hrecv : (w S)[0]? = some (b, .inr (ci, fs))) (hci : classes[ci]? = some q) (hqc : q.1 = y.cls) (hn : As.length = n) (hst : st = As.reverse ++ .ref b :: rest) (hcat : (rest.map fun v => v.category).sum ≤ 8) (d : DC 3 cc pc nx (.invokevirtual idx))
    (k : ∀ (S' : TS), post S' → TW X w S' nx L rest) : TW X w S pc L st := by
  obtain ⟨p, l, e, R, s, m, args, below, meth, c, Q, D, A, nL, cells, slots⟩ := X
  obtain ⟨hx, hb, hml, hown, hts, hK, hD, rfl, hcs⟩ := C
  obtain ⟨d, rfl⟩ := d
  intro H locs ls hP hS hl
  have hA : ∀ a, wA w a → A a := by
    rintro a ⟨i, e, he⟩
    obtain ⟨e', he'⟩ := hok.at S he
    exact (hD S).2 i _ he'
  have hr : va_Run p l e R s m args below meth c H locs cells slots 0 0 (F0 m pc ls st) rest (va_Qv (fun (u : TS) => post u) (fun u t => va_P D classes (w u) t.heap ∧ va_K D classes tys t) (wA w) (Value.ref b :: As).toArray) (wA w) :=
    va_runV (As := As) (rest := rest) ⟨hx, hb, hml, hown, hts⟩ (hM l D) (cwV n hts cs.1 rfl hrm.1.1 hrm.1.2 cs.2 hrm.2) ⟨fun a U g mk q => by obtain ⟨q0, qP, qK, qD⟩ := q; exact ⟨q0, qP, va_K.moved (u := U) (U := U.calling g mk a) (Vm.Alike.refl U.vm) qK, qD⟩, by rw [← hqc]; exact va_recv hK hP hci hrecv, fun U hU hW => ⟨rfl, by rw [hU]; exact hP, va_K.moved hW.alike hK, (hD S).weaken (fun _ _ _ _ => trivial)⟩⟩ rfl hn hl.1 hst (lv_room hcat) d hcs
  refine va_callv hr hS (fun q _ h => hA q h) hA (fun u t H1 locs1 ht hvm hw hB hz1 hk1 hS1 => ?_)
  exact k u hw H1 locs1 ls (by rw [← ht]; exact hB.1) hS1 hl
end CALL
end
section
def td_ws (q : Nat → Nat) (k : ClassId × ClassId × ClassId) (S : TS) : va_W := [(q 0, .inr (0, [.int (iI (S 0 0)), .ref (q 1), .ref (q 2), .ref (q 3), .ref (q 4), .ref (q 5), .ref (q 6), .ref (q 7), .int (iI (S 8 0)), .ref (q 9), .ref (q 10), .int (iI (S 11 0)), .int (iI (S 12 0)), .int (iI (S 13 0)), .ref (q 14)])), (q 1, .inl (k.1, 49, .inl (fun j => iI (S 1 j)))), (q 2, .inl (k.1, 49, .inl (fun j => iI (S 2 j)))), (q 3, .inl (k.1, 49, .inl (fun j => iI (S 3 j)))), (q 4, .inl (k.2.1, 7, .inl (fun j => iI (S 4 j)))), (q 5, .inl (k.1, 7, .inl (fun j => iI (S 5 j)))), (q 6, .inl (k.1, 7, .inl (fun j => iI (S 6 j)))), (q 7, .inl (k.2.2, 49, .inl (fun j => iI (S 7 j)))), (q 9, .inl (k.1, 24, .inl (fun j => iI (S 9 j)))), (q 10, .inl (k.2.2, 24, .inl (fun j => iI (S 10 j)))), (q 14, .inl (k.1, 7, .inl (fun j => iI (S 14 j))))]
def md_ws (q : Nat → Nat) (k : ClassId × ClassId × ClassId) (S : TS) : va_W := [(q 0, .inr (1, [.int (iI (S 0 0)), .ref (q 1), .ref (q 2), .ref (q 3), .int (iI (S 4 0))])), (q 1, .inl (k.2.1, 49, .inl (fun j => iI (S 1 j)))), (q 2, .inl (k.2.1, 49, .inl (fun j => iI (S 2 j)))), (q 3, .inl (k.2.1, 7, .inl (fun j => iI (S 3 j))))]
abbrev ty_k (k : ClassId × ClassId × ClassId) : List (ClassId × FieldType) := [(k.1, .byte), (k.2.1, .int), (k.2.2, .boolean)]
theorem td_ok (q : Nat → Nat) (k : ClassId × ClassId × ClassId) : wOK (td_ws q k) := fun _ _ => rfl
theorem md_ok (q : Nat → Nat) (k : ClassId × ClassId × ClassId) : wOK (md_ws q k) := fun _ _ => rfl
section WR
variable {X : CT} {cc : ByteArray} {rm : Room} {q : Nat → Nat} {k : ClassId × ClassId × ClassId} {S : TS} {pc nx : Nat} {L : List (Option Value)} {st : List Value}
theorem g_d0 (C : CX X cc R_d rm (td_ws q k) (ty_k k)) (d : DC 3 cc pc nx (.getfield 42)) {v : Int} (hv : S 0 0 = v) (kk : TW X (td_ws q k) S nx L (.int (iI v) :: st)) : TW X (td_ws q k) S pc L (.ref (q 0) :: st) := by
  obtain ⟨p, l, e, R, s, m, args, below, meth, c, Q, D, A, nL, cells, slots⟩ := X
  obtain ⟨hx, hb, hml, ho, hts, hK, hD, -⟩ := C
  obtain ⟨d, rfl⟩ := d
  intro H locs ls hP hS hl
  subst hv
  exact va_get (D := D) (ci := 0) (C := R_d) (T := F_d) (N := 15) hx hb hts i_d ho hK hP 0 rfl rfl 0 (by decide) (hts (.fieldLink R_d 42 "TourDesk" "cities" "I") (by decide +kernel)) (fun _ h9 => h9) rfl d (kk H locs ls hP hS hl)
theorem g_d1 (C : CX X cc R_d rm (td_ws q k) (ty_k k)) (d : DC 3 cc pc nx (.getfield 7)) (kk : TW X (td_ws q k) S nx L (.ref (q 1) :: st)) : TW X (td_ws q k) S pc L (.ref (q 0) :: st) := by
  obtain ⟨p, l, e, R, s, m, args, below, meth, c, Q, D, A, nL, cells, slots⟩ := X
  obtain ⟨hx, hb, hml, ho, hts, hK, hD, -⟩ := C
  obtain ⟨d, rfl⟩ := d
  intro H locs ls hP hS hl
  exact va_get (D := D) (ci := 0) (C := R_d) (T := F_d) (N := 15) hx hb hts i_d ho hK hP 0 rfl rfl 1 (by decide) (hts (.fieldLink R_d 7 "TourDesk" "lengths" "[B") (by decide +kernel)) (fun _ h9 => h9) rfl d (kk H locs ls hP hS hl)
theorem al_d1 (C : CX X cc R_d rm (td_ws q k) (ty_k k)) (j : Nat) {x : Int} (d : DC 1 cc pc nx .baload) (hx9 : x = (j : Int)) (hj : j < 49) {v : Int} (hv : S 1 j = v) (kk : TW X (td_ws q k) S nx L (.int (iI v) :: st)) : TW X (td_ws q k) S pc L (.int (iI x) :: .ref (q 1) :: st) := by
  obtain ⟨p, l, e, R, s, m, args, below, meth, c, Q, D, A, nL, cells, slots⟩ := X
  obtain ⟨hx, hb, hml, ho, hts, hK, hD, -⟩ := C
  obtain ⟨d, rfl⟩ := d
  intro H locs ls hP hS hl
  subst hx9
  subst hv
  exact va_bald (f := fun j => iI (S 1 j)) hx hb hK hP 1 0 rfl rfl (iI_in hj (by decide)) d (by rw [iI_clamp (by omega)]; exact kk H locs ls hP hS hl)
theorem as_d1 (C : CX X cc R_d rm (td_ws q k) (ty_k k)) (j : Nat) {x v : Int} (d : DC 1 cc pc nx .bastore) (hx9 : x = (j : Int)) (hj : j < 49) (hv : -128 ≤ v ∧ v ≤ 127) (kk : TW X (td_ws q k) (up S 1 j v) nx L st) : TW X (td_ws q k) S pc L (.int (iI v) :: .int (iI x) :: .ref (q 1) :: st) := by
  obtain ⟨p, l, e, R, s, m, args, below, meth, c, Q, D, A, nL, cells, slots⟩ := X
  obtain ⟨hx, hb, hml, ho, hts, hK, hD, -⟩ := C
  obtain ⟨d, rfl⟩ := d
  intro H locs ls hP hS hl
  subst hx9
  refine va_bast (f := fun j => iI (S 1 j)) hx hb hK hP (hD S) hS 1 0 rfl rfl (iI_in hj (by decide)) d (fun H1 locs1 hP1 hD1 hS1 => kk H1 locs1 ls ?_ hS1 hl)
  rw [iI_clamp (by omega), iI_nb hv, ← up_arr] at hP1
  exact hP1
theorem g_d2 (C : CX X cc R_d rm (td_ws q k) (ty_k k)) (d : DC 3 cc pc nx (.getfield 13)) (kk : TW X (td_ws q k) S nx L (.ref (q 2) :: st)) : TW X (td_ws q k) S pc L (.ref (q 0) :: st) := by
  obtain ⟨p, l, e, R, s, m, args, below, meth, c, Q, D, A, nL, cells, slots⟩ := X
  obtain ⟨hx, hb, hml, ho, hts, hK, hD, -⟩ := C
  obtain ⟨d, rfl⟩ := d
  intro H locs ls hP hS hl
  exact va_get (D := D) (ci := 0) (C := R_d) (T := F_d) (N := 15) hx hb hts i_d ho hK hP 0 rfl rfl 2 (by decide) (hts (.fieldLink R_d 13 "TourDesk" "rules" "[B") (by decide +kernel)) (fun _ h9 => h9) rfl d (kk H locs ls hP hS hl)
theorem al_d2 (C : CX X cc R_d rm (td_ws q k) (ty_k k)) (j : Nat) {x : Int} (d : DC 1 cc pc nx .baload) (hx9 : x = (j : Int)) (hj : j < 49) {v : Int} (hv : S 2 j = v) (kk : TW X (td_ws q k) S nx L (.int (iI v) :: st)) : TW X (td_ws q k) S pc L (.int (iI x) :: .ref (q 2) :: st) := by
  obtain ⟨p, l, e, R, s, m, args, below, meth, c, Q, D, A, nL, cells, slots⟩ := X
  obtain ⟨hx, hb, hml, ho, hts, hK, hD, -⟩ := C
  obtain ⟨d, rfl⟩ := d
  intro H locs ls hP hS hl
  subst hx9
  subst hv
  exact va_bald (f := fun j => iI (S 2 j)) hx hb hK hP 2 0 rfl rfl (iI_in hj (by decide)) d (by rw [iI_clamp (by omega)]; exact kk H locs ls hP hS hl)
theorem as_d2 (C : CX X cc R_d rm (td_ws q k) (ty_k k)) (j : Nat) {x v : Int} (d : DC 1 cc pc nx .bastore) (hx9 : x = (j : Int)) (hj : j < 49) (hv : -128 ≤ v ∧ v ≤ 127) (kk : TW X (td_ws q k) (up S 2 j v) nx L st) : TW X (td_ws q k) S pc L (.int (iI v) :: .int (iI x) :: .ref (q 2) :: st) := by
  obtain ⟨p, l, e, R, s, m, args, below, meth, c, Q, D, A, nL, cells, slots⟩ := X
  obtain ⟨hx, hb, hml, ho, hts, hK, hD, -⟩ := C
  obtain ⟨d, rfl⟩ := d
  intro H locs ls hP hS hl
  subst hx9
  refine va_bast (f := fun j => iI (S 2 j)) hx hb hK hP (hD S) hS 2 0 rfl rfl (iI_in hj (by decide)) d (fun H1 locs1 hP1 hD1 hS1 => kk H1 locs1 ls ?_ hS1 hl)
  rw [iI_clamp (by omega), iI_nb hv, ← up_arr] at hP1
  exact hP1
theorem g_d3 (C : CX X cc R_d rm (td_ws q k) (ty_k k)) (d : DC 3 cc pc nx (.getfield 16)) (kk : TW X (td_ws q k) S nx L (.ref (q 3) :: st)) : TW X (td_ws q k) S pc L (.ref (q 0) :: st) := by
  obtain ⟨p, l, e, R, s, m, args, below, meth, c, Q, D, A, nL, cells, slots⟩ := X
  obtain ⟨hx, hb, hml, ho, hts, hK, hD, -⟩ := C
  obtain ⟨d, rfl⟩ := d
  intro H locs ls hP hS hl
  exact va_get (D := D) (ci := 0) (C := R_d) (T := F_d) (N := 15) hx hb hts i_d ho hK hP 0 rfl rfl 3 (by decide) (hts (.fieldLink R_d 16 "TourDesk" "now" "[B") (by decide +kernel)) (fun _ h9 => h9) rfl d (kk H locs ls hP hS hl)
theorem al_d3 (C : CX X cc R_d rm (td_ws q k) (ty_k k)) (j : Nat) {x : Int} (d : DC 1 cc pc nx .baload) (hx9 : x = (j : Int)) (hj : j < 49) {v : Int} (hv : S 3 j = v) (kk : TW X (td_ws q k) S nx L (.int (iI v) :: st)) : TW X (td_ws q k) S pc L (.int (iI x) :: .ref (q 3) :: st) := by
  obtain ⟨p, l, e, R, s, m, args, below, meth, c, Q, D, A, nL, cells, slots⟩ := X
  obtain ⟨hx, hb, hml, ho, hts, hK, hD, -⟩ := C
  obtain ⟨d, rfl⟩ := d
  intro H locs ls hP hS hl
  subst hx9
  subst hv
  exact va_bald (f := fun j => iI (S 3 j)) hx hb hK hP 3 0 rfl rfl (iI_in hj (by decide)) d (by rw [iI_clamp (by omega)]; exact kk H locs ls hP hS hl)
theorem as_d3 (C : CX X cc R_d rm (td_ws q k) (ty_k k)) (j : Nat) {x v : Int} (d : DC 1 cc pc nx .bastore) (hx9 : x = (j : Int)) (hj : j < 49) (hv : -128 ≤ v ∧ v ≤ 127) (kk : TW X (td_ws q k) (up S 3 j v) nx L st) : TW X (td_ws q k) S pc L (.int (iI v) :: .int (iI x) :: .ref (q 3) :: st) := by
  obtain ⟨p, l, e, R, s, m, args, below, meth, c, Q, D, A, nL, cells, slots⟩ := X
  obtain ⟨hx, hb, hml, ho, hts, hK, hD, -⟩ := C
  obtain ⟨d, rfl⟩ := d
  intro H locs ls hP hS hl
  subst hx9
  refine va_bast (f := fun j => iI (S 3 j)) hx hb hK hP (hD S) hS 3 0 rfl rfl (iI_in hj (by decide)) d (fun H1 locs1 hP1 hD1 hS1 => kk H1 locs1 ls ?_ hS1 hl)
  rw [iI_clamp (by omega), iI_nb hv, ← up_arr] at hP1
  exact hP1
theorem g_d4 (C : CX X cc R_d rm (td_ws q k) (ty_k k)) (d : DC 3 cc pc nx (.getfield 19)) (kk : TW X (td_ws q k) S nx L (.ref (q 4) :: st)) : TW X (td_ws q k) S pc L (.ref (q 0) :: st) := by
  obtain ⟨p, l, e, R, s, m, args, below, meth, c, Q, D, A, nL, cells, slots⟩ := X
  obtain ⟨hx, hb, hml, ho, hts, hK, hD, -⟩ := C
  obtain ⟨d, rfl⟩ := d
  intro H locs ls hP hS hl
  exact va_get (D := D) (ci := 0) (C := R_d) (T := F_d) (N := 15) hx hb hts i_d ho hK hP 0 rfl rfl 4 (by decide) (hts (.fieldLink R_d 19 "TourDesk" "penalty" "[I") (by decide +kernel)) (fun _ h9 => h9) rfl d (kk H locs ls hP hS hl)
theorem al_d4 (C : CX X cc R_d rm (td_ws q k) (ty_k k)) (j : Nat) {x : Int} (d : DC 1 cc pc nx .iaload) (hx9 : x = (j : Int)) (hj : j < 7) {v : Int} (hv : S 4 j = v) (kk : TW X (td_ws q k) S nx L (.int (iI v) :: st)) : TW X (td_ws q k) S pc L (.int (iI x) :: .ref (q 4) :: st) := by
  obtain ⟨p, l, e, R, s, m, args, below, meth, c, Q, D, A, nL, cells, slots⟩ := X
  obtain ⟨hx, hb, hml, ho, hts, hK, hD, -⟩ := C
  obtain ⟨d, rfl⟩ := d
  intro H locs ls hP hS hl
  subst hx9
  subst hv
  exact va_iald (f := fun j => iI (S 4 j)) hx hb hK hP 4 1 rfl rfl (iI_in hj (by decide)) d (by rw [iI_clamp (by omega)]; exact kk H locs ls hP hS hl)
theorem as_d4 (C : CX X cc R_d rm (td_ws q k) (ty_k k)) (j : Nat) {x v : Int} (d : DC 1 cc pc nx .iastore) (hx9 : x = (j : Int)) (hj : j < 7) (kk : TW X (td_ws q k) (up S 4 j v) nx L st) : TW X (td_ws q k) S pc L (.int (iI v) :: .int (iI x) :: .ref (q 4) :: st) := by
  obtain ⟨p, l, e, R, s, m, args, below, meth, c, Q, D, A, nL, cells, slots⟩ := X
  obtain ⟨hx, hb, hml, ho, hts, hK, hD, -⟩ := C
  obtain ⟨d, rfl⟩ := d
  intro H locs ls hP hS hl
  subst hx9
  refine va_iast (f := fun j => iI (S 4 j)) hx hb hK hP (hD S) hS 4 1 rfl rfl (iI_in hj (by decide)) d (fun H1 locs1 hP1 hD1 hS1 => kk H1 locs1 ls ?_ hS1 hl)
  rw [iI_clamp (by omega), ← up_arr] at hP1
  exact hP1
theorem g_d5 (C : CX X cc R_d rm (td_ws q k) (ty_k k)) (d : DC 3 cc pc nx (.getfield 23)) (kk : TW X (td_ws q k) S nx L (.ref (q 5) :: st)) : TW X (td_ws q k) S pc L (.ref (q 0) :: st) := by
  obtain ⟨p, l, e, R, s, m, args, below, meth, c, Q, D, A, nL, cells, slots⟩ := X
  obtain ⟨hx, hb, hml, ho, hts, hK, hD, -⟩ := C
  obtain ⟨d, rfl⟩ := d
  intro H locs ls hP hS hl
  exact va_get (D := D) (ci := 0) (C := R_d) (T := F_d) (N := 15) hx hb hts i_d ho hK hP 0 rfl rfl 5 (by decide) (hts (.fieldLink R_d 23 "TourDesk" "group" "[B") (by decide +kernel)) (fun _ h9 => h9) rfl d (kk H locs ls hP hS hl)
theorem al_d5 (C : CX X cc R_d rm (td_ws q k) (ty_k k)) (j : Nat) {x : Int} (d : DC 1 cc pc nx .baload) (hx9 : x = (j : Int)) (hj : j < 7) {v : Int} (hv : S 5 j = v) (kk : TW X (td_ws q k) S nx L (.int (iI v) :: st)) : TW X (td_ws q k) S pc L (.int (iI x) :: .ref (q 5) :: st) := by
  obtain ⟨p, l, e, R, s, m, args, below, meth, c, Q, D, A, nL, cells, slots⟩ := X
  obtain ⟨hx, hb, hml, ho, hts, hK, hD, -⟩ := C
  obtain ⟨d, rfl⟩ := d
  intro H locs ls hP hS hl
  subst hx9
  subst hv
  exact va_bald (f := fun j => iI (S 5 j)) hx hb hK hP 5 0 rfl rfl (iI_in hj (by decide)) d (by rw [iI_clamp (by omega)]; exact kk H locs ls hP hS hl)
theorem as_d5 (C : CX X cc R_d rm (td_ws q k) (ty_k k)) (j : Nat) {x v : Int} (d : DC 1 cc pc nx .bastore) (hx9 : x = (j : Int)) (hj : j < 7) (hv : -128 ≤ v ∧ v ≤ 127) (kk : TW X (td_ws q k) (up S 5 j v) nx L st) : TW X (td_ws q k) S pc L (.int (iI v) :: .int (iI x) :: .ref (q 5) :: st) := by
  obtain ⟨p, l, e, R, s, m, args, below, meth, c, Q, D, A, nL, cells, slots⟩ := X
  obtain ⟨hx, hb, hml, ho, hts, hK, hD, -⟩ := C
  obtain ⟨d, rfl⟩ := d
  intro H locs ls hP hS hl
  subst hx9
  refine va_bast (f := fun j => iI (S 5 j)) hx hb hK hP (hD S) hS 5 0 rfl rfl (iI_in hj (by decide)) d (fun H1 locs1 hP1 hD1 hS1 => kk H1 locs1 ls ?_ hS1 hl)
  rw [iI_clamp (by omega), iI_nb hv, ← up_arr] at hP1
  exact hP1
theorem g_d6 (C : CX X cc R_d rm (td_ws q k) (ty_k k)) (d : DC 3 cc pc nx (.getfield 26)) (kk : TW X (td_ws q k) S nx L (.ref (q 6) :: st)) : TW X (td_ws q k) S pc L (.ref (q 0) :: st) := by
  obtain ⟨p, l, e, R, s, m, args, below, meth, c, Q, D, A, nL, cells, slots⟩ := X
  obtain ⟨hx, hb, hml, ho, hts, hK, hD, -⟩ := C
  obtain ⟨d, rfl⟩ := d
  intro H locs ls hP hS hl
  exact va_get (D := D) (ci := 0) (C := R_d) (T := F_d) (N := 15) hx hb hts i_d ho hK hP 0 rfl rfl 6 (by decide) (hts (.fieldLink R_d 26 "TourDesk" "degree" "[B") (by decide +kernel)) (fun _ h9 => h9) rfl d (kk H locs ls hP hS hl)
theorem al_d6 (C : CX X cc R_d rm (td_ws q k) (ty_k k)) (j : Nat) {x : Int} (d : DC 1 cc pc nx .baload) (hx9 : x = (j : Int)) (hj : j < 7) {v : Int} (hv : S 6 j = v) (kk : TW X (td_ws q k) S nx L (.int (iI v) :: st)) : TW X (td_ws q k) S pc L (.int (iI x) :: .ref (q 6) :: st) := by
  obtain ⟨p, l, e, R, s, m, args, below, meth, c, Q, D, A, nL, cells, slots⟩ := X
  obtain ⟨hx, hb, hml, ho, hts, hK, hD, -⟩ := C
  obtain ⟨d, rfl⟩ := d
  intro H locs ls hP hS hl
  subst hx9
  subst hv
  exact va_bald (f := fun j => iI (S 6 j)) hx hb hK hP 6 0 rfl rfl (iI_in hj (by decide)) d (by rw [iI_clamp (by omega)]; exact kk H locs ls hP hS hl)
theorem as_d6 (C : CX X cc R_d rm (td_ws q k) (ty_k k)) (j : Nat) {x v : Int} (d : DC 1 cc pc nx .bastore) (hx9 : x = (j : Int)) (hj : j < 7) (hv : -128 ≤ v ∧ v ≤ 127) (kk : TW X (td_ws q k) (up S 6 j v) nx L st) : TW X (td_ws q k) S pc L (.int (iI v) :: .int (iI x) :: .ref (q 6) :: st) := by
  obtain ⟨p, l, e, R, s, m, args, below, meth, c, Q, D, A, nL, cells, slots⟩ := X
  obtain ⟨hx, hb, hml, ho, hts, hK, hD, -⟩ := C
  obtain ⟨d, rfl⟩ := d
  intro H locs ls hP hS hl
  subst hx9
  refine va_bast (f := fun j => iI (S 6 j)) hx hb hK hP (hD S) hS 6 0 rfl rfl (iI_in hj (by decide)) d (fun H1 locs1 hP1 hD1 hS1 => kk H1 locs1 ls ?_ hS1 hl)
  rw [iI_clamp (by omega), iI_nb hv, ← up_arr] at hP1
  exact hP1
theorem g_d7 (C : CX X cc R_d rm (td_ws q k) (ty_k k)) (d : DC 3 cc pc nx (.getfield 29)) (kk : TW X (td_ws q k) S nx L (.ref (q 7) :: st)) : TW X (td_ws q k) S pc L (.ref (q 0) :: st) := by
  obtain ⟨p, l, e, R, s, m, args, below, meth, c, Q, D, A, nL, cells, slots⟩ := X
  obtain ⟨hx, hb, hml, ho, hts, hK, hD, -⟩ := C
  obtain ⟨d, rfl⟩ := d
  intro H locs ls hP hS hl
  exact va_get (D := D) (ci := 0) (C := R_d) (T := F_d) (N := 15) hx hb hts i_d ho hK hP 0 rfl rfl 7 (by decide) (hts (.fieldLink R_d 29 "TourDesk" "chosen" "[Z") (by decide +kernel)) (fun _ h9 => h9) rfl d (kk H locs ls hP hS hl)
theorem al_d7 (C : CX X cc R_d rm (td_ws q k) (ty_k k)) (j : Nat) {x : Int} (d : DC 1 cc pc nx .baload) (hx9 : x = (j : Int)) (hj : j < 49) {v : Int} (hv : S 7 j = v) (kk : TW X (td_ws q k) S nx L (.int (iI v) :: st)) : TW X (td_ws q k) S pc L (.int (iI x) :: .ref (q 7) :: st) := by
  obtain ⟨p, l, e, R, s, m, args, below, meth, c, Q, D, A, nL, cells, slots⟩ := X
  obtain ⟨hx, hb, hml, ho, hts, hK, hD, -⟩ := C
  obtain ⟨d, rfl⟩ := d
  intro H locs ls hP hS hl
  subst hx9
  subst hv
  exact va_zald (f := fun j => iI (S 7 j)) hx hb hK hP 7 2 rfl rfl (iI_in hj (by decide)) d (by rw [iI_clamp (by omega)]; exact kk H locs ls hP hS hl)
theorem as_d7 (C : CX X cc R_d rm (td_ws q k) (ty_k k)) (j : Nat) {x v : Int} (d : DC 1 cc pc nx .bastore) (hx9 : x = (j : Int)) (hj : j < 49) (hv : v = 0 ∨ v = 1) (kk : TW X (td_ws q k) (up S 7 j v) nx L st) : TW X (td_ws q k) S pc L (.int (iI v) :: .int (iI x) :: .ref (q 7) :: st) := by
  obtain ⟨p, l, e, R, s, m, args, below, meth, c, Q, D, A, nL, cells, slots⟩ := X
  obtain ⟨hx, hb, hml, ho, hts, hK, hD, -⟩ := C
  obtain ⟨d, rfl⟩ := d
  intro H locs ls hP hS hl
  subst hx9
  refine va_zast (f := fun j => iI (S 7 j)) hx hb hK hP (hD S) hS 7 2 rfl rfl (iI_in hj (by decide)) d (fun H1 locs1 hP1 hD1 hS1 => kk H1 locs1 ls ?_ hS1 hl)
  rw [iI_clamp (by omega), iI_nzv hv, ← up_arr] at hP1
  exact hP1
theorem g_d8 (C : CX X cc R_d rm (td_ws q k) (ty_k k)) (d : DC 3 cc pc nx (.getfield 100)) {v : Int} (hv : S 8 0 = v) (kk : TW X (td_ws q k) S nx L (.int (iI v) :: st)) : TW X (td_ws q k) S pc L (.ref (q 0) :: st) := by
  obtain ⟨p, l, e, R, s, m, args, below, meth, c, Q, D, A, nL, cells, slots⟩ := X
  obtain ⟨hx, hb, hml, ho, hts, hK, hD, -⟩ := C
  obtain ⟨d, rfl⟩ := d
  intro H locs ls hP hS hl
  subst hv
  exact va_get (D := D) (ci := 0) (C := R_d) (T := F_d) (N := 15) hx hb hts i_d ho hK hP 0 rfl rfl 8 (by decide) (hts (.fieldLink R_d 100 "TourDesk" "treeCost" "I") (by decide +kernel)) (fun _ h9 => h9) rfl d (kk H locs ls hP hS hl)
theorem pt_d8 (C : CX X cc R_d rm (td_ws q k) (ty_k k)) {v : Int} (d : DC 3 cc pc nx (.putfield 100)) (kk : TW X (td_ws q k) (up S 8 0 v) nx L st) : TW X (td_ws q k) S pc L (.int (iI v) :: .ref (q 0) :: st) := by
  obtain ⟨p, l, e, R, s, m, args, below, meth, c, Q, D, A, nL, cells, slots⟩ := X
  obtain ⟨hx, hb, hml, ho, hts, hK, hD, -⟩ := C
  obtain ⟨d, rfl⟩ := d
  intro H locs ls hP hS hl
  exact va_put (D := D) (ci := 0) (v := .int (iI v)) (ty := .int) (C := R_d) (T := F_d) (N := 15) hx hb hts i_d t_d t_d_ok n_d ho hK hP (hD S) hS 0 rfl rfl 8 (by decide) (hts (.fieldLink R_d 100 "TourDesk" "treeCost" "I") (by decide +kernel)) (fun _ h9 => h9) rfl (by decide +kernel) rfl rfl (Nat.le_of_ble_eq_true rfl) d (fun H1 locs1 hP1 hD1 hS1 => kk H1 locs1 ls hP1 hS1 hl)
theorem g_d9 (C : CX X cc R_d rm (td_ws q k) (ty_k k)) (d : DC 3 cc pc nx (.getfield 33)) (kk : TW X (td_ws q k) S nx L (.ref (q 9) :: st)) : TW X (td_ws q k) S pc L (.ref (q 0) :: st) := by
  obtain ⟨p, l, e, R, s, m, args, below, meth, c, Q, D, A, nL, cells, slots⟩ := X
  obtain ⟨hx, hb, hml, ho, hts, hK, hD, -⟩ := C
  obtain ⟨d, rfl⟩ := d
  intro H locs ls hP hS hl
  exact va_get (D := D) (ci := 0) (C := R_d) (T := F_d) (N := 15) hx hb hts i_d ho hK hP 0 rfl rfl 9 (by decide) (hts (.fieldLink R_d 33 "TourDesk" "branchLink" "[B") (by decide +kernel)) (fun _ h9 => h9) rfl d (kk H locs ls hP hS hl)
theorem al_d9 (C : CX X cc R_d rm (td_ws q k) (ty_k k)) (j : Nat) {x : Int} (d : DC 1 cc pc nx .baload) (hx9 : x = (j : Int)) (hj : j < 24) {v : Int} (hv : S 9 j = v) (kk : TW X (td_ws q k) S nx L (.int (iI v) :: st)) : TW X (td_ws q k) S pc L (.int (iI x) :: .ref (q 9) :: st) := by
  obtain ⟨p, l, e, R, s, m, args, below, meth, c, Q, D, A, nL, cells, slots⟩ := X
  obtain ⟨hx, hb, hml, ho, hts, hK, hD, -⟩ := C
  obtain ⟨d, rfl⟩ := d
  intro H locs ls hP hS hl
  subst hx9
  subst hv
  exact va_bald (f := fun j => iI (S 9 j)) hx hb hK hP 8 0 rfl rfl (iI_in hj (by decide)) d (by rw [iI_clamp (by omega)]; exact kk H locs ls hP hS hl)
theorem as_d9 (C : CX X cc R_d rm (td_ws q k) (ty_k k)) (j : Nat) {x v : Int} (d : DC 1 cc pc nx .bastore) (hx9 : x = (j : Int)) (hj : j < 24) (hv : -128 ≤ v ∧ v ≤ 127) (kk : TW X (td_ws q k) (up S 9 j v) nx L st) : TW X (td_ws q k) S pc L (.int (iI v) :: .int (iI x) :: .ref (q 9) :: st) := by
  obtain ⟨p, l, e, R, s, m, args, below, meth, c, Q, D, A, nL, cells, slots⟩ := X
  obtain ⟨hx, hb, hml, ho, hts, hK, hD, -⟩ := C
  obtain ⟨d, rfl⟩ := d
  intro H locs ls hP hS hl
  subst hx9
  refine va_bast (f := fun j => iI (S 9 j)) hx hb hK hP (hD S) hS 8 0 rfl rfl (iI_in hj (by decide)) d (fun H1 locs1 hP1 hD1 hS1 => kk H1 locs1 ls ?_ hS1 hl)
  rw [iI_clamp (by omega), iI_nb hv, ← up_arr] at hP1
  exact hP1
theorem g_d10 (C : CX X cc R_d rm (td_ws q k) (ty_k k)) (d : DC 3 cc pc nx (.getfield 36)) (kk : TW X (td_ws q k) S nx L (.ref (q 10) :: st)) : TW X (td_ws q k) S pc L (.ref (q 0) :: st) := by
  obtain ⟨p, l, e, R, s, m, args, below, meth, c, Q, D, A, nL, cells, slots⟩ := X
  obtain ⟨hx, hb, hml, ho, hts, hK, hD, -⟩ := C
  obtain ⟨d, rfl⟩ := d
  intro H locs ls hP hS hl
  exact va_get (D := D) (ci := 0) (C := R_d) (T := F_d) (N := 15) hx hb hts i_d ho hK hP 0 rfl rfl 10 (by decide) (hts (.fieldLink R_d 36 "TourDesk" "branchBoth" "[Z") (by decide +kernel)) (fun _ h9 => h9) rfl d (kk H locs ls hP hS hl)
theorem al_d10 (C : CX X cc R_d rm (td_ws q k) (ty_k k)) (j : Nat) {x : Int} (d : DC 1 cc pc nx .baload) (hx9 : x = (j : Int)) (hj : j < 24) {v : Int} (hv : S 10 j = v) (kk : TW X (td_ws q k) S nx L (.int (iI v) :: st)) : TW X (td_ws q k) S pc L (.int (iI x) :: .ref (q 10) :: st) := by
  obtain ⟨p, l, e, R, s, m, args, below, meth, c, Q, D, A, nL, cells, slots⟩ := X
  obtain ⟨hx, hb, hml, ho, hts, hK, hD, -⟩ := C
  obtain ⟨d, rfl⟩ := d
  intro H locs ls hP hS hl
  subst hx9
  subst hv
  exact va_zald (f := fun j => iI (S 10 j)) hx hb hK hP 9 2 rfl rfl (iI_in hj (by decide)) d (by rw [iI_clamp (by omega)]; exact kk H locs ls hP hS hl)
theorem as_d10 (C : CX X cc R_d rm (td_ws q k) (ty_k k)) (j : Nat) {x v : Int} (d : DC 1 cc pc nx .bastore) (hx9 : x = (j : Int)) (hj : j < 24) (hv : v = 0 ∨ v = 1) (kk : TW X (td_ws q k) (up S 10 j v) nx L st) : TW X (td_ws q k) S pc L (.int (iI v) :: .int (iI x) :: .ref (q 10) :: st) := by
  obtain ⟨p, l, e, R, s, m, args, below, meth, c, Q, D, A, nL, cells, slots⟩ := X
  obtain ⟨hx, hb, hml, ho, hts, hK, hD, -⟩ := C
  obtain ⟨d, rfl⟩ := d
  intro H locs ls hP hS hl
  subst hx9
  refine va_zast (f := fun j => iI (S 10 j)) hx hb hK hP (hD S) hS 9 2 rfl rfl (iI_in hj (by decide)) d (fun H1 locs1 hP1 hD1 hS1 => kk H1 locs1 ls ?_ hS1 hl)
  rw [iI_clamp (by omega), iI_nzv hv, ← up_arr] at hP1
  exact hP1
theorem g_d11 (C : CX X cc R_d rm (td_ws q k) (ty_k k)) (d : DC 3 cc pc nx (.getfield 85)) {v : Int} (hv : S 11 0 = v) (kk : TW X (td_ws q k) S nx L (.int (iI v) :: st)) : TW X (td_ws q k) S pc L (.ref (q 0) :: st) := by
  obtain ⟨p, l, e, R, s, m, args, below, meth, c, Q, D, A, nL, cells, slots⟩ := X
  obtain ⟨hx, hb, hml, ho, hts, hK, hD, -⟩ := C
  obtain ⟨d, rfl⟩ := d
  intro H locs ls hP hS hl
  subst hv
  exact va_get (D := D) (ci := 0) (C := R_d) (T := F_d) (N := 15) hx hb hts i_d ho hK hP 0 rfl rfl 11 (by decide) (hts (.fieldLink R_d 85 "TourDesk" "least" "I") (by decide +kernel)) (fun _ h9 => h9) rfl d (kk H locs ls hP hS hl)
theorem pt_d11 (C : CX X cc R_d rm (td_ws q k) (ty_k k)) {v : Int} (d : DC 3 cc pc nx (.putfield 85)) (kk : TW X (td_ws q k) (up S 11 0 v) nx L st) : TW X (td_ws q k) S pc L (.int (iI v) :: .ref (q 0) :: st) := by
  obtain ⟨p, l, e, R, s, m, args, below, meth, c, Q, D, A, nL, cells, slots⟩ := X
  obtain ⟨hx, hb, hml, ho, hts, hK, hD, -⟩ := C
  obtain ⟨d, rfl⟩ := d
  intro H locs ls hP hS hl
  exact va_put (D := D) (ci := 0) (v := .int (iI v)) (ty := .int) (C := R_d) (T := F_d) (N := 15) hx hb hts i_d t_d t_d_ok n_d ho hK hP (hD S) hS 0 rfl rfl 11 (by decide) (hts (.fieldLink R_d 85 "TourDesk" "least" "I") (by decide +kernel)) (fun _ h9 => h9) rfl (by decide +kernel) rfl rfl (Nat.le_of_ble_eq_true rfl) d (fun H1 locs1 hP1 hD1 hS1 => kk H1 locs1 ls hP1 hS1 hl)
theorem g_d12 (C : CX X cc R_d rm (td_ws q k) (ty_k k)) (d : DC 3 cc pc nx (.getfield 54)) {v : Int} (hv : S 12 0 = v) (kk : TW X (td_ws q k) S nx L (.int (iI v) :: st)) : TW X (td_ws q k) S pc L (.ref (q 0) :: st) := by
  obtain ⟨p, l, e, R, s, m, args, below, meth, c, Q, D, A, nL, cells, slots⟩ := X
  obtain ⟨hx, hb, hml, ho, hts, hK, hD, -⟩ := C
  obtain ⟨d, rfl⟩ := d
  intro H locs ls hP hS hl
  subst hv
  exact va_get (D := D) (ci := 0) (C := R_d) (T := F_d) (N := 15) hx hb hts i_d ho hK hP 0 rfl rfl 12 (by decide) (hts (.fieldLink R_d 54 "TourDesk" "tourKnown" "Z") (by decide +kernel)) (fun _ h9 => h9) rfl d (kk H locs ls hP hS hl)
theorem pt_d12 (C : CX X cc R_d rm (td_ws q k) (ty_k k)) {v : Int} (d : DC 3 cc pc nx (.putfield 54)) (hv : v = 0 ∨ v = 1) (kk : TW X (td_ws q k) (up S 12 0 v) nx L st) : TW X (td_ws q k) S pc L (.int (iI v) :: .ref (q 0) :: st) := by
  obtain ⟨p, l, e, R, s, m, args, below, meth, c, Q, D, A, nL, cells, slots⟩ := X
  obtain ⟨hx, hb, hml, ho, hts, hK, hD, -⟩ := C
  obtain ⟨d, rfl⟩ := d
  intro H locs ls hP hS hl
  exact va_put (D := D) (ci := 0) (v := .int (iI v)) (ty := .boolean) (C := R_d) (T := F_d) (N := 15) hx hb hts i_d t_d t_d_ok n_d ho hK hP (hD S) hS 0 rfl rfl 12 (by decide) (hts (.fieldLink R_d 54 "TourDesk" "tourKnown" "Z") (by decide +kernel)) (fun _ h9 => h9) rfl (by decide +kernel) (iI_nz hv) (by rcases hv with rfl | rfl <;> rfl) (Nat.le_of_ble_eq_true rfl) d (fun H1 locs1 hP1 hD1 hS1 => kk H1 locs1 ls hP1 hS1 hl)
theorem g_d13 (C : CX X cc R_d rm (td_ws q k) (ty_k k)) (d : DC 3 cc pc nx (.getfield 61)) {v : Int} (hv : S 13 0 = v) (kk : TW X (td_ws q k) S nx L (.int (iI v) :: st)) : TW X (td_ws q k) S pc L (.ref (q 0) :: st) := by
  obtain ⟨p, l, e, R, s, m, args, below, meth, c, Q, D, A, nL, cells, slots⟩ := X
  obtain ⟨hx, hb, hml, ho, hts, hK, hD, -⟩ := C
  obtain ⟨d, rfl⟩ := d
  intro H locs ls hP hS hl
  subst hv
  exact va_get (D := D) (ci := 0) (C := R_d) (T := F_d) (N := 15) hx hb hts i_d ho hK hP 0 rfl rfl 13 (by decide) (hts (.fieldLink R_d 61 "TourDesk" "tourCost" "I") (by decide +kernel)) (fun _ h9 => h9) rfl d (kk H locs ls hP hS hl)
theorem pt_d13 (C : CX X cc R_d rm (td_ws q k) (ty_k k)) {v : Int} (d : DC 3 cc pc nx (.putfield 61)) (kk : TW X (td_ws q k) (up S 13 0 v) nx L st) : TW X (td_ws q k) S pc L (.int (iI v) :: .ref (q 0) :: st) := by
  obtain ⟨p, l, e, R, s, m, args, below, meth, c, Q, D, A, nL, cells, slots⟩ := X
  obtain ⟨hx, hb, hml, ho, hts, hK, hD, -⟩ := C
  obtain ⟨d, rfl⟩ := d
  intro H locs ls hP hS hl
  exact va_put (D := D) (ci := 0) (v := .int (iI v)) (ty := .int) (C := R_d) (T := F_d) (N := 15) hx hb hts i_d t_d t_d_ok n_d ho hK hP (hD S) hS 0 rfl rfl 13 (by decide) (hts (.fieldLink R_d 61 "TourDesk" "tourCost" "I") (by decide +kernel)) (fun _ h9 => h9) rfl (by decide +kernel) rfl rfl (Nat.le_of_ble_eq_true rfl) d (fun H1 locs1 hP1 hD1 hS1 => kk H1 locs1 ls hP1 hS1 hl)
theorem g_d14 (C : CX X cc R_d rm (td_ws q k) (ty_k k)) (d : DC 3 cc pc nx (.getfield 39)) (kk : TW X (td_ws q k) S nx L (.ref (q 14) :: st)) : TW X (td_ws q k) S pc L (.ref (q 0) :: st) := by
  obtain ⟨p, l, e, R, s, m, args, below, meth, c, Q, D, A, nL, cells, slots⟩ := X
  obtain ⟨hx, hb, hml, ho, hts, hK, hD, -⟩ := C
  obtain ⟨d, rfl⟩ := d
  intro H locs ls hP hS hl
  exact va_get (D := D) (ci := 0) (C := R_d) (T := F_d) (N := 15) hx hb hts i_d ho hK hP 0 rfl rfl 14 (by decide) (hts (.fieldLink R_d 39 "TourDesk" "tour" "[B") (by decide +kernel)) (fun _ h9 => h9) rfl d (kk H locs ls hP hS hl)
theorem al_d14 (C : CX X cc R_d rm (td_ws q k) (ty_k k)) (j : Nat) {x : Int} (d : DC 1 cc pc nx .baload) (hx9 : x = (j : Int)) (hj : j < 7) {v : Int} (hv : S 14 j = v) (kk : TW X (td_ws q k) S nx L (.int (iI v) :: st)) : TW X (td_ws q k) S pc L (.int (iI x) :: .ref (q 14) :: st) := by
  obtain ⟨p, l, e, R, s, m, args, below, meth, c, Q, D, A, nL, cells, slots⟩ := X
  obtain ⟨hx, hb, hml, ho, hts, hK, hD, -⟩ := C
  obtain ⟨d, rfl⟩ := d
  intro H locs ls hP hS hl
  subst hx9
  subst hv
  exact va_bald (f := fun j => iI (S 14 j)) hx hb hK hP 10 0 rfl rfl (iI_in hj (by decide)) d (by rw [iI_clamp (by omega)]; exact kk H locs ls hP hS hl)
theorem as_d14 (C : CX X cc R_d rm (td_ws q k) (ty_k k)) (j : Nat) {x v : Int} (d : DC 1 cc pc nx .bastore) (hx9 : x = (j : Int)) (hj : j < 7) (hv : -128 ≤ v ∧ v ≤ 127) (kk : TW X (td_ws q k) (up S 14 j v) nx L st) : TW X (td_ws q k) S pc L (.int (iI v) :: .int (iI x) :: .ref (q 14) :: st) := by
  obtain ⟨p, l, e, R, s, m, args, below, meth, c, Q, D, A, nL, cells, slots⟩ := X
  obtain ⟨hx, hb, hml, ho, hts, hK, hD, -⟩ := C
  obtain ⟨d, rfl⟩ := d
  intro H locs ls hP hS hl
  subst hx9
  refine va_bast (f := fun j => iI (S 14 j)) hx hb hK hP (hD S) hS 10 0 rfl rfl (iI_in hj (by decide)) d (fun H1 locs1 hP1 hD1 hS1 => kk H1 locs1 ls ?_ hS1 hl)
  rw [iI_clamp (by omega), iI_nb hv, ← up_arr] at hP1
  exact hP1
theorem g_m0 (C : CX X cc R_m rm (md_ws q k) (ty_k k)) (d : DC 3 cc pc nx (.getfield 19)) {v : Int} (hv : S 0 0 = v) (kk : TW X (md_ws q k) S nx L (.int (iI v) :: st)) : TW X (md_ws q k) S pc L (.ref (q 0) :: st) := by
  obtain ⟨p, l, e, R, s, m, args, below, meth, c, Q, D, A, nL, cells, slots⟩ := X
  obtain ⟨hx, hb, hml, ho, hts, hK, hD, -⟩ := C
  obtain ⟨d, rfl⟩ := d
  intro H locs ls hP hS hl
  subst hv
  exact va_get (D := D) (ci := 1) (C := R_m) (T := F_m) (N := 5) hx hb hts i_m ho hK hP 0 rfl rfl 0 (by decide) (hts (.fieldLink R_m 19 "TourDeskModel" "n" "I") (by decide +kernel)) (fun _ h9 => h9) rfl d (kk H locs ls hP hS hl)
theorem pt_m0 (C : CX X cc R_m rm (md_ws q k) (ty_k k)) {v : Int} (d : DC 3 cc pc nx (.putfield 19)) (kk : TW X (md_ws q k) (up S 0 0 v) nx L st) : TW X (md_ws q k) S pc L (.int (iI v) :: .ref (q 0) :: st) := by
  obtain ⟨p, l, e, R, s, m, args, below, meth, c, Q, D, A, nL, cells, slots⟩ := X
  obtain ⟨hx, hb, hml, ho, hts, hK, hD, -⟩ := C
  obtain ⟨d, rfl⟩ := d
  intro H locs ls hP hS hl
  exact va_put (D := D) (ci := 1) (v := .int (iI v)) (ty := .int) (C := R_m) (T := F_m) (N := 5) hx hb hts i_m t_m t_m_ok n_m ho hK hP (hD S) hS 0 rfl rfl 0 (by decide) (hts (.fieldLink R_m 19 "TourDeskModel" "n" "I") (by decide +kernel)) (fun _ h9 => h9) rfl (by decide +kernel) rfl rfl (Nat.le_of_ble_eq_true rfl) d (fun H1 locs1 hP1 hD1 hS1 => kk H1 locs1 ls hP1 hS1 hl)
theorem g_m1 (C : CX X cc R_m rm (md_ws q k) (ty_k k)) (d : DC 3 cc pc nx (.getfield 7)) (kk : TW X (md_ws q k) S nx L (.ref (q 1) :: st)) : TW X (md_ws q k) S pc L (.ref (q 0) :: st) := by
  obtain ⟨p, l, e, R, s, m, args, below, meth, c, Q, D, A, nL, cells, slots⟩ := X
  obtain ⟨hx, hb, hml, ho, hts, hK, hD, -⟩ := C
  obtain ⟨d, rfl⟩ := d
  intro H locs ls hP hS hl
  exact va_get (D := D) (ci := 1) (C := R_m) (T := F_m) (N := 5) hx hb hts i_m ho hK hP 0 rfl rfl 1 (by decide) (hts (.fieldLink R_m 7 "TourDeskModel" "far" "[I") (by decide +kernel)) (fun _ h9 => h9) rfl d (kk H locs ls hP hS hl)
theorem al_m1 (C : CX X cc R_m rm (md_ws q k) (ty_k k)) (j : Nat) {x : Int} (d : DC 1 cc pc nx .iaload) (hx9 : x = (j : Int)) (hj : j < 49) {v : Int} (hv : S 1 j = v) (kk : TW X (md_ws q k) S nx L (.int (iI v) :: st)) : TW X (md_ws q k) S pc L (.int (iI x) :: .ref (q 1) :: st) := by
  obtain ⟨p, l, e, R, s, m, args, below, meth, c, Q, D, A, nL, cells, slots⟩ := X
  obtain ⟨hx, hb, hml, ho, hts, hK, hD, -⟩ := C
  obtain ⟨d, rfl⟩ := d
  intro H locs ls hP hS hl
  subst hx9
  subst hv
  exact va_iald (f := fun j => iI (S 1 j)) hx hb hK hP 1 1 rfl rfl (iI_in hj (by decide)) d (by rw [iI_clamp (by omega)]; exact kk H locs ls hP hS hl)
theorem as_m1 (C : CX X cc R_m rm (md_ws q k) (ty_k k)) (j : Nat) {x v : Int} (d : DC 1 cc pc nx .iastore) (hx9 : x = (j : Int)) (hj : j < 49) (kk : TW X (md_ws q k) (up S 1 j v) nx L st) : TW X (md_ws q k) S pc L (.int (iI v) :: .int (iI x) :: .ref (q 1) :: st) := by
  obtain ⟨p, l, e, R, s, m, args, below, meth, c, Q, D, A, nL, cells, slots⟩ := X
  obtain ⟨hx, hb, hml, ho, hts, hK, hD, -⟩ := C
  obtain ⟨d, rfl⟩ := d
  intro H locs ls hP hS hl
  subst hx9
  refine va_iast (f := fun j => iI (S 1 j)) hx hb hK hP (hD S) hS 1 1 rfl rfl (iI_in hj (by decide)) d (fun H1 locs1 hP1 hD1 hS1 => kk H1 locs1 ls ?_ hS1 hl)
  rw [iI_clamp (by omega), ← up_arr] at hP1
  exact hP1
theorem g_m2 (C : CX X cc R_m rm (md_ws q k) (ty_k k)) (d : DC 3 cc pc nx (.getfield 13)) (kk : TW X (md_ws q k) S nx L (.ref (q 2) :: st)) : TW X (md_ws q k) S pc L (.ref (q 0) :: st) := by
  obtain ⟨p, l, e, R, s, m, args, below, meth, c, Q, D, A, nL, cells, slots⟩ := X
  obtain ⟨hx, hb, hml, ho, hts, hK, hD, -⟩ := C
  obtain ⟨d, rfl⟩ := d
  intro H locs ls hP hS hl
  exact va_get (D := D) (ci := 1) (C := R_m) (T := F_m) (N := 5) hx hb hts i_m ho hK hP 0 rfl rfl 2 (by decide) (hts (.fieldLink R_m 13 "TourDeskModel" "law" "[I") (by decide +kernel)) (fun _ h9 => h9) rfl d (kk H locs ls hP hS hl)
theorem al_m2 (C : CX X cc R_m rm (md_ws q k) (ty_k k)) (j : Nat) {x : Int} (d : DC 1 cc pc nx .iaload) (hx9 : x = (j : Int)) (hj : j < 49) {v : Int} (hv : S 2 j = v) (kk : TW X (md_ws q k) S nx L (.int (iI v) :: st)) : TW X (md_ws q k) S pc L (.int (iI x) :: .ref (q 2) :: st) := by
  obtain ⟨p, l, e, R, s, m, args, below, meth, c, Q, D, A, nL, cells, slots⟩ := X
  obtain ⟨hx, hb, hml, ho, hts, hK, hD, -⟩ := C
  obtain ⟨d, rfl⟩ := d
  intro H locs ls hP hS hl
  subst hx9
  subst hv
  exact va_iald (f := fun j => iI (S 2 j)) hx hb hK hP 2 1 rfl rfl (iI_in hj (by decide)) d (by rw [iI_clamp (by omega)]; exact kk H locs ls hP hS hl)
theorem as_m2 (C : CX X cc R_m rm (md_ws q k) (ty_k k)) (j : Nat) {x v : Int} (d : DC 1 cc pc nx .iastore) (hx9 : x = (j : Int)) (hj : j < 49) (kk : TW X (md_ws q k) (up S 2 j v) nx L st) : TW X (md_ws q k) S pc L (.int (iI v) :: .int (iI x) :: .ref (q 2) :: st) := by
  obtain ⟨p, l, e, R, s, m, args, below, meth, c, Q, D, A, nL, cells, slots⟩ := X
  obtain ⟨hx, hb, hml, ho, hts, hK, hD, -⟩ := C
  obtain ⟨d, rfl⟩ := d
  intro H locs ls hP hS hl
  subst hx9
  refine va_iast (f := fun j => iI (S 2 j)) hx hb hK hP (hD S) hS 2 1 rfl rfl (iI_in hj (by decide)) d (fun H1 locs1 hP1 hD1 hS1 => kk H1 locs1 ls ?_ hS1 hl)
  rw [iI_clamp (by omega), ← up_arr] at hP1
  exact hP1
theorem g_m3 (C : CX X cc R_m rm (md_ws q k) (ty_k k)) (d : DC 3 cc pc nx (.getfield 16)) (kk : TW X (md_ws q k) S nx L (.ref (q 3) :: st)) : TW X (md_ws q k) S pc L (.ref (q 0) :: st) := by
  obtain ⟨p, l, e, R, s, m, args, below, meth, c, Q, D, A, nL, cells, slots⟩ := X
  obtain ⟨hx, hb, hml, ho, hts, hK, hD, -⟩ := C
  obtain ⟨d, rfl⟩ := d
  intro H locs ls hP hS hl
  exact va_get (D := D) (ci := 1) (C := R_m) (T := F_m) (N := 5) hx hb hts i_m ho hK hP 0 rfl rfl 3 (by decide) (hts (.fieldLink R_m 16 "TourDeskModel" "list" "[I") (by decide +kernel)) (fun _ h9 => h9) rfl d (kk H locs ls hP hS hl)
theorem al_m3 (C : CX X cc R_m rm (md_ws q k) (ty_k k)) (j : Nat) {x : Int} (d : DC 1 cc pc nx .iaload) (hx9 : x = (j : Int)) (hj : j < 7) {v : Int} (hv : S 3 j = v) (kk : TW X (md_ws q k) S nx L (.int (iI v) :: st)) : TW X (md_ws q k) S pc L (.int (iI x) :: .ref (q 3) :: st) := by
  obtain ⟨p, l, e, R, s, m, args, below, meth, c, Q, D, A, nL, cells, slots⟩ := X
  obtain ⟨hx, hb, hml, ho, hts, hK, hD, -⟩ := C
  obtain ⟨d, rfl⟩ := d
  intro H locs ls hP hS hl
  subst hx9
  subst hv
  exact va_iald (f := fun j => iI (S 3 j)) hx hb hK hP 3 1 rfl rfl (iI_in hj (by decide)) d (by rw [iI_clamp (by omega)]; exact kk H locs ls hP hS hl)
theorem as_m3 (C : CX X cc R_m rm (md_ws q k) (ty_k k)) (j : Nat) {x v : Int} (d : DC 1 cc pc nx .iastore) (hx9 : x = (j : Int)) (hj : j < 7) (kk : TW X (md_ws q k) (up S 3 j v) nx L st) : TW X (md_ws q k) S pc L (.int (iI v) :: .int (iI x) :: .ref (q 3) :: st) := by
  obtain ⟨p, l, e, R, s, m, args, below, meth, c, Q, D, A, nL, cells, slots⟩ := X
  obtain ⟨hx, hb, hml, ho, hts, hK, hD, -⟩ := C
  obtain ⟨d, rfl⟩ := d
  intro H locs ls hP hS hl
  subst hx9
  refine va_iast (f := fun j => iI (S 3 j)) hx hb hK hP (hD S) hS 3 1 rfl rfl (iI_in hj (by decide)) d (fun H1 locs1 hP1 hD1 hS1 => kk H1 locs1 ls ?_ hS1 hl)
  rw [iI_clamp (by omega), ← up_arr] at hP1
  exact hP1
theorem g_m4 (C : CX X cc R_m rm (md_ws q k) (ty_k k)) (d : DC 3 cc pc nx (.getfield 23)) {v : Int} (hv : S 4 0 = v) (kk : TW X (md_ws q k) S nx L (.int (iI v) :: st)) : TW X (md_ws q k) S pc L (.ref (q 0) :: st) := by
  obtain ⟨p, l, e, R, s, m, args, below, meth, c, Q, D, A, nL, cells, slots⟩ := X
  obtain ⟨hx, hb, hml, ho, hts, hK, hD, -⟩ := C
  obtain ⟨d, rfl⟩ := d
  intro H locs ls hP hS hl
  subst hv
  exact va_get (D := D) (ci := 1) (C := R_m) (T := F_m) (N := 5) hx hb hts i_m ho hK hP 0 rfl rfl 4 (by decide) (hts (.fieldLink R_m 23 "TourDeskModel" "tours" "I") (by decide +kernel)) (fun _ h9 => h9) rfl d (kk H locs ls hP hS hl)
theorem pt_m4 (C : CX X cc R_m rm (md_ws q k) (ty_k k)) {v : Int} (d : DC 3 cc pc nx (.putfield 23)) (kk : TW X (md_ws q k) (up S 4 0 v) nx L st) : TW X (md_ws q k) S pc L (.int (iI v) :: .ref (q 0) :: st) := by
  obtain ⟨p, l, e, R, s, m, args, below, meth, c, Q, D, A, nL, cells, slots⟩ := X
  obtain ⟨hx, hb, hml, ho, hts, hK, hD, -⟩ := C
  obtain ⟨d, rfl⟩ := d
  intro H locs ls hP hS hl
  exact va_put (D := D) (ci := 1) (v := .int (iI v)) (ty := .int) (C := R_m) (T := F_m) (N := 5) hx hb hts i_m t_m t_m_ok n_m ho hK hP (hD S) hS 0 rfl rfl 4 (by decide) (hts (.fieldLink R_m 23 "TourDeskModel" "tours" "I") (by decide +kernel)) (fun _ h9 => h9) rfl (by decide +kernel) rfl rfl (Nat.le_of_ble_eq_true rfl) d (fun H1 locs1 hP1 hD1 hS1 => kk H1 locs1 ls hP1 hS1 hl)
end WR
theorem cs_l_d_setLength : CS R_law 21 y_d_setLength b_d_setLength 4 (some .boolean) 3 := cs_of z_d_setLength (by decide +kernel) (by decide +kernel)
theorem cs_d_d_isLink : CS R_d 46 y_d_isLink b_d_isLink 3 (some .boolean) 2 := cs_of z_d_isLink (by decide +kernel) (by decide +kernel)
theorem cs_d_d_putLength : CS R_d 50 y_d_putLength b_d_putLength 4 none 3 := cs_of z_d_putLength (by decide +kernel) (by decide +kernel)
theorem cs_l_d_setRule : CS R_law 26 y_d_setRule b_d_setRule 4 (some .boolean) 3 := cs_of z_d_setRule (by decide +kernel) (by decide +kernel)
theorem cs_l_d_shift : CS R_law 30 y_d_shift b_d_shift 6 (some .int) 2 := cs_of z_d_shift (by decide +kernel) (by decide +kernel)
theorem cs_l_d_length : CS R_law 35 y_d_length b_d_length 3 (some .int) 2 := cs_of z_d_length (by decide +kernel) (by decide +kernel)
theorem cs_l_d_rule : CS R_law 39 y_d_rule b_d_rule 3 (some .int) 2 := cs_of z_d_rule (by decide +kernel) (by decide +kernel)
theorem cs_l_d_best : CS R_law 43 y_d_best b_d_best 1 (some .int) 0 := cs_of z_d_best (by decide +kernel) (by decide +kernel)
theorem cs_d_d_findTour : CS R_d 58 y_d_findTour b_d_findTour 4 none 0 := cs_of z_d_findTour (by decide +kernel) (by decide +kernel)
theorem cs_d_d_askPlainly : CS R_d 64 y_d_askPlainly b_d_askPlainly 2 none 0 := cs_of z_d_askPlainly (by decide +kernel) (by decide +kernel)
theorem cs_d_d_solve : CS R_d 70 y_d_solve b_d_solve 5 (some .int) 0 := cs_of z_d_solve (by decide +kernel) (by decide +kernel)
theorem cs_d_d_examine : CS R_d 89 y_d_examine b_d_examine 4 (some .int) 0 := cs_of z_d_examine (by decide +kernel) (by decide +kernel)
theorem cs_d_d_build : CS R_d 96 y_d_build b_d_build 2 (some .boolean) 0 := cs_of z_d_build (by decide +kernel) (by decide +kernel)
theorem cs_d_d_takeRequired : CS R_d 116 y_d_takeRequired b_d_takeRequired 3 (some .boolean) 0 := cs_of z_d_takeRequired (by decide +kernel) (by decide +kernel)
theorem cs_d_d_takeOne : CS R_d 125 y_d_takeOne b_d_takeOne 3 (some .boolean) 2 := cs_of z_d_takeOne (by decide +kernel) (by decide +kernel)
theorem cs_d_d_take : CS R_d 128 y_d_take b_d_take 4 none 2 := cs_of z_d_take (by decide +kernel) (by decide +kernel)
theorem cs_d_d_weight : CS R_d 132 y_d_weight b_d_weight 3 (some .int) 2 := cs_of z_d_weight (by decide +kernel) (by decide +kernel)
theorem cs_d_d_merge : CS R_d 135 y_d_merge b_d_merge 4 none 2 := cs_of z_d_merge (by decide +kernel) (by decide +kernel)
theorem cs_d_d_growTree : CS R_d 119 y_d_growTree b_d_growTree 3 (some .boolean) 0 := cs_of z_d_growTree (by decide +kernel) (by decide +kernel)
theorem cs_d_d_cheapestJoin : CS R_d 138 y_d_cheapestJoin b_d_cheapestJoin 7 (some .int) 0 := cs_of z_d_cheapestJoin (by decide +kernel) (by decide +kernel)
theorem cs_d_d_joined : CS R_d 141 y_d_joined b_d_joined 2 (some .boolean) 0 := cs_of z_d_joined (by decide +kernel) (by decide +kernel)
theorem cs_d_d_closeAtZero : CS R_d 122 y_d_closeAtZero b_d_closeAtZero 7 (some .boolean) 0 := cs_of z_d_closeAtZero (by decide +kernel) (by decide +kernel)
theorem cs_d_d_twicePenalties : CS R_d 103 y_d_twicePenalties b_d_twicePenalties 3 (some .int) 0 := cs_of z_d_twicePenalties (by decide +kernel) (by decide +kernel)
theorem cs_d_d_isTour : CS R_d 106 y_d_isTour b_d_isTour 2 (some .boolean) 0 := cs_of z_d_isTour (by decide +kernel) (by decide +kernel)
theorem cs_d_d_bend : CS R_d 109 y_d_bend b_d_bend 3 none 1 := cs_of z_d_bend (by decide +kernel) (by decide +kernel)
theorem cs_d_d_linkToBranch : CS R_d 113 y_d_linkToBranch b_d_linkToBranch 4 (some .int) 0 := cs_of z_d_linkToBranch (by decide +kernel) (by decide +kernel)
theorem cs_d_d_decide : CS R_d 67 y_d_decide b_d_decide 4 none 3 := cs_of z_d_decide (by decide +kernel) (by decide +kernel)
theorem cs_d_d_backUp : CS R_d 92 y_d_backUp b_d_backUp 3 (some .int) 1 := cs_of z_d_backUp (by decide +kernel) (by decide +kernel)
theorem cs_d_d_nextCity : CS R_d 81 y_d_nextCity b_d_nextCity 6 (some .int) 2 := cs_of z_d_nextCity (by decide +kernel) (by decide +kernel)
theorem cs_l_d_cityAt : CS R_law 48 y_d_cityAt b_d_cityAt 2 (some .int) 1 := cs_of z_d_cityAt (by decide +kernel) (by decide +kernel)
theorem cs_l_d_bestWith : CS R_law 53 y_d_bestWith b_d_bestWith 3 (some .int) 2 := cs_of z_d_bestWith (by decide +kernel) (by decide +kernel)
theorem cs_l_d_bestWithout : CS R_law 57 y_d_bestWithout b_d_bestWithout 3 (some .int) 2 := cs_of z_d_bestWithout (by decide +kernel) (by decide +kernel)
theorem cs_l_d_neighbours : CS R_law 61 y_d_neighbours b_d_neighbours 5 (some .int) 1 := cs_of z_d_neighbours (by decide +kernel) (by decide +kernel)
theorem cs_d_d_bestWith : CS R_d 74 y_d_bestWith b_d_bestWith 3 (some .int) 2 := cs_of z_d_bestWith (by decide +kernel) (by decide +kernel)
theorem cs_l_d_limit : CS R_law 65 y_d_limit b_d_limit 6 (some .int) 2 := cs_of z_d_limit (by decide +kernel) (by decide +kernel)
theorem cs_d_d_bestWithout : CS R_d 78 y_d_bestWithout b_d_bestWithout 3 (some .int) 2 := cs_of z_d_bestWithout (by decide +kernel) (by decide +kernel)
theorem cs_l_m_setLength : CS R_law 25 y_m_setLength b_m_setLength 4 (some .boolean) 3 := cs_of z_m_setLength (by decide +kernel) (by decide +kernel)
theorem cs_m_m_link : CS R_m 26 y_m_link b_m_link 3 (some .boolean) 2 := cs_of z_m_link (by decide +kernel) (by decide +kernel)
theorem cs_l_m_setRule : CS R_law 29 y_m_setRule b_m_setRule 4 (some .boolean) 3 := cs_of z_m_setRule (by decide +kernel) (by decide +kernel)
theorem cs_l_m_shift : CS R_law 34 y_m_shift b_m_shift 5 (some .int) 2 := cs_of z_m_shift (by decide +kernel) (by decide +kernel)
theorem cs_m_m_setLength : CS R_m 30 y_m_setLength b_m_setLength 4 (some .boolean) 3 := cs_of z_m_setLength (by decide +kernel) (by decide +kernel)
theorem cs_l_m_length : CS R_law 38 y_m_length b_m_length 3 (some .int) 2 := cs_of z_m_length (by decide +kernel) (by decide +kernel)
theorem cs_l_m_rule : CS R_law 42 y_m_rule b_m_rule 3 (some .int) 2 := cs_of z_m_rule (by decide +kernel) (by decide +kernel)
theorem cs_l_m_best : CS R_law 47 y_m_best b_m_best 1 (some .int) 0 := cs_of z_m_best (by decide +kernel) (by decide +kernel)
theorem cs_m_m_least : CS R_m 57 y_m_least b_m_least 7 (some .int) 3 := cs_of z_m_least (by decide +kernel) (by decide +kernel)
theorem cs_m_m_spell : CS R_m 42 y_m_spell b_m_spell 8 none 1 := cs_of z_m_spell (by decide +kernel) (by decide +kernel)
theorem cs_m_m_nth : CS R_m 34 y_m_nth b_m_nth 5 (some .int) 2 := cs_of z_m_nth (by decide +kernel) (by decide +kernel)
theorem cs_m_m_has : CS R_m 46 y_m_has b_m_has 7 (some .boolean) 2 := cs_of z_m_has (by decide +kernel) (by decide +kernel)
theorem cs_m_m_next : CS R_m 38 y_m_next b_m_next 2 (some .int) 1 := cs_of z_m_next (by decide +kernel) (by decide +kernel)
theorem cs_m_m_allowed : CS R_m 49 y_m_allowed b_m_allowed 6 (some .boolean) 0 := cs_of z_m_allowed (by decide +kernel) (by decide +kernel)
theorem cs_m_m_cost : CS R_m 53 y_m_cost b_m_cost 3 (some .int) 0 := cs_of z_m_cost (by decide +kernel) (by decide +kernel)
theorem cs_l_m_cityAt : CS R_law 52 y_m_cityAt b_m_cityAt 4 (some .int) 1 := cs_of z_m_cityAt (by decide +kernel) (by decide +kernel)
theorem cs_m_m_best : CS R_m 61 y_m_best b_m_best 1 (some .int) 0 := cs_of z_m_best (by decide +kernel) (by decide +kernel)
theorem cs_l_m_bestWith : CS R_law 56 y_m_bestWith b_m_bestWith 3 (some .int) 2 := cs_of z_m_bestWith (by decide +kernel) (by decide +kernel)
theorem cs_l_m_bestWithout : CS R_law 60 y_m_bestWithout b_m_bestWithout 3 (some .int) 2 := cs_of z_m_bestWithout (by decide +kernel) (by decide +kernel)
theorem cs_l_m_neighbours : CS R_law 64 y_m_neighbours b_m_neighbours 6 (some .int) 1 := cs_of z_m_neighbours (by decide +kernel) (by decide +kernel)
theorem cs_l_m_limit : CS R_law 68 y_m_limit b_m_limit 7 (some .int) 2 := cs_of z_m_limit (by decide +kernel) (by decide +kernel)
theorem cs_m_m_bestWith : CS R_m 64 y_m_bestWith b_m_bestWith 3 (some .int) 2 := cs_of z_m_bestWith (by decide +kernel) (by decide +kernel)
theorem cs_m_m_bestWithout : CS R_m 67 y_m_bestWithout b_m_bestWithout 3 (some .int) 2 := cs_of z_m_bestWithout (by decide +kernel) (by decide +kernel)
end
section
/-! leaf methods of TourDesk -/
def decS (S : TS) (a b : Nat) (v : Int) : TS := up (up S 3 (a * 7 + b) v) 3 (b * 7 + a) v
def putS (S : TS) (a b : Nat) (v : Int) : TS := up (up (up S 1 (a * 7 + b) v) 1 (b * 7 + a) v) 12 0 0
set_option maxRecDepth 20000 in
theorem c_d_weight {q : Nat → Nat} {kz : ClassId × ClassId × ClassId} {S : TS} {a b : Nat} (ha : a < 7) (hb : b < 7) : ∀ l : Launch, MI l y_d_weight b_d_weight 3 .int ({ frames := 0, cells := 0, slots := 0, locals := 0 }) (td_ws q kz) (ty_k kz) [.ref (q 0), .int (iI a), .int (iI b)] S (fun r S' => r = S 1 (a * 7 + b) + S 4 a + S 4 b ∧ S' = S) := by
  refine mi_of (td_ok q kz) (by decide) (Nat.le_of_ble_eq_true rfl) (by simp [Value.category]) (Nat.le_of_ble_eq_true rfl) ?_
  intro X C hR
  show TW X (td_ws q kz) S 0 [some (.ref (q 0)), some (.int (iI a)), some (.int (iI b))] []
  refine tw_aload0 C d_d_weight_0 ?_
  refine g_d1 C d_d_weight_1 ?_
  refine tw_iload1 C d_d_weight_4 ?_
  refine tw_bipush C d_d_weight_5 rfl ?_
  refine tw_imul C d_d_weight_7 ?_
  refine tw_iload2 C d_d_weight_8 ?_
  refine tw_iadd C d_d_weight_9 ?_
  refine al_d1 C (((a * 7) + b)) d_d_weight_10 (by omega) (by omega) rfl ?_
  refine tw_aload0 C d_d_weight_11 ?_
  refine g_d4 C d_d_weight_12 ?_
  refine tw_iload1 C d_d_weight_15 ?_
  refine al_d4 C a d_d_weight_16 (by omega) (by omega) rfl ?_
  refine tw_iadd C d_d_weight_17 ?_
  refine tw_aload0 C d_d_weight_18 ?_
  refine g_d4 C d_d_weight_19 ?_
  refine tw_iload2 C d_d_weight_22 ?_
  refine al_d4 C b d_d_weight_23 (by omega) (by omega) rfl ?_
  refine tw_iadd C d_d_weight_24 ?_
  exact hR _ _ _ _ _ d_d_weight_25 rfl (⟨by omega, rfl⟩)
set_option maxRecDepth 20000 in
theorem c_d_decide {q : Nat → Nat} {kz : ClassId × ClassId × ClassId} {S : TS} {a b : Nat} {v : Int} (ha : a < 7) (hb : b < 7) (hv : 0 ≤ v ∧ v ≤ 2) : ∀ l : Launch, MV l y_d_decide b_d_decide 4 ({ frames := 0, cells := 0, slots := 0, locals := 0 }) (td_ws q kz) (ty_k kz) [.ref (q 0), .int (iI a), .int (iI b), .int (iI v)] S (fun S' => S' = decS S a b v) := by
  refine mv_of (td_ok q kz) (by decide) (Nat.le_of_ble_eq_true rfl) (by simp [Value.category]) (Nat.le_of_ble_eq_true rfl) ?_
  intro X C hR
  show TW X (td_ws q kz) S 0 [some (.ref (q 0)), some (.int (iI a)), some (.int (iI b)), some (.int (iI v))] []
  refine tw_aload0 C d_d_decide_0 ?_
  refine g_d3 C d_d_decide_1 ?_
  refine tw_iload1 C d_d_decide_4 ?_
  refine tw_bipush C d_d_decide_5 rfl ?_
  refine tw_imul C d_d_decide_7 ?_
  refine tw_iload2 C d_d_decide_8 ?_
  refine tw_iadd C d_d_decide_9 ?_
  refine tw_iload3 C d_d_decide_10 ?_
  refine tw_i2b C d_d_decide_11 (by omega) ?_
  refine as_d3 C (((a * 7) + b)) d_d_decide_12 (by omega) (by omega) (by omega) ?_
  refine tw_aload0 C d_d_decide_13 ?_
  refine g_d3 C d_d_decide_14 ?_
  refine tw_iload2 C d_d_decide_17 ?_
  refine tw_bipush C d_d_decide_18 rfl ?_
  refine tw_imul C d_d_decide_20 ?_
  refine tw_iload1 C d_d_decide_21 ?_
  refine tw_iadd C d_d_decide_22 ?_
  refine tw_iload3 C d_d_decide_23 ?_
  refine tw_i2b C d_d_decide_24 (by omega) ?_
  refine as_d3 C (((b * 7) + a)) d_d_decide_25 (by omega) (by omega) (by omega) ?_
  exact hR _ _ _ _ d_d_decide_26 rfl
set_option maxRecDepth 20000 in
theorem c_d_putLength {q : Nat → Nat} {kz : ClassId × ClassId × ClassId} {S : TS} {a b : Nat} {v : Int} (ha : a < 7) (hb : b < 7) (hv : 0 ≤ v ∧ v ≤ 99) : ∀ l : Launch, MV l y_d_putLength b_d_putLength 4 ({ frames := 0, cells := 0, slots := 0, locals := 0 }) (td_ws q kz) (ty_k kz) [.ref (q 0), .int (iI a), .int (iI b), .int (iI v)] S (fun S' => S' = putS S a b v) := by
  refine mv_of (td_ok q kz) (by decide) (Nat.le_of_ble_eq_true rfl) (by simp [Value.category]) (Nat.le_of_ble_eq_true rfl) ?_
  intro X C hR
  show TW X (td_ws q kz) S 0 [some (.ref (q 0)), some (.int (iI a)), some (.int (iI b)), some (.int (iI v))] []
  refine tw_aload0 C d_d_putLength_0 ?_
  refine g_d1 C d_d_putLength_1 ?_
  refine tw_iload1 C d_d_putLength_4 ?_
  refine tw_bipush C d_d_putLength_5 rfl ?_
  refine tw_imul C d_d_putLength_7 ?_
  refine tw_iload2 C d_d_putLength_8 ?_
  refine tw_iadd C d_d_putLength_9 ?_
  refine tw_iload3 C d_d_putLength_10 ?_
  refine tw_i2b C d_d_putLength_11 (by omega) ?_
  refine as_d1 C (((a * 7) + b)) d_d_putLength_12 (by omega) (by omega) (by omega) ?_
  refine tw_aload0 C d_d_putLength_13 ?_
  refine g_d1 C d_d_putLength_14 ?_
  refine tw_iload2 C d_d_putLength_17 ?_
  refine tw_bipush C d_d_putLength_18 rfl ?_
  refine tw_imul C d_d_putLength_20 ?_
  refine tw_iload1 C d_d_putLength_21 ?_
  refine tw_iadd C d_d_putLength_22 ?_
  refine tw_iload3 C d_d_putLength_23 ?_
  refine tw_i2b C d_d_putLength_24 (by omega) ?_
  refine as_d1 C (((b * 7) + a)) d_d_putLength_25 (by omega) (by omega) (by omega) ?_
  refine tw_aload0 C d_d_putLength_26 ?_
  refine tw_iconst C d_d_putLength_27 ?_
  refine pt_d12 C d_d_putLength_28 (by first | exact Or.inl rfl | exact Or.inr rfl) ?_
  exact hR _ _ _ _ d_d_putLength_31 rfl
end
section
/-! leaf methods of TourDesk with loops -/
set_option maxRecDepth 20000 in
theorem c_d_isLink {q : Nat → Nat} {kz : ClassId × ClassId × ClassId} {S : TS} {n : Nat} {a b : Int} (hn : S 0 0 = (n : Int)) (h7 : n ≤ 7) (ha : inR a) (hb : inR b) : ∀ l : Launch, MI l y_d_isLink b_d_isLink 3 .boolean ({ frames := 0, cells := 0, slots := 0, locals := 0 }) (td_ws q kz) (ty_k kz) [.ref (q 0), .int (iI a), .int (iI b)] S (fun r S' => S' = S ∧ ((r = 1 ∧ ((0 ≤ a ∧ a < n) ∧ (0 ≤ b ∧ b < n) ∧ a ≠ b)) ∨ (r = 0 ∧ ¬ ((0 ≤ a ∧ a < n) ∧ (0 ≤ b ∧ b < n) ∧ a ≠ b)))) := by
  refine mi_of (td_ok q kz) (by decide) (Nat.le_of_ble_eq_true rfl) (by simp [Value.category]) (Nat.le_of_ble_eq_true rfl) ?_
  intro X C hR
  show TW X (td_ws q kz) S 0 [some (.ref (q 0)), some (.int (iI a)), some (.int (iI b))] []
  refine tw_iload1 C d_d_isLink_0 ?_
  refine tw_if_lt C d_d_isLink_1 (by omega) (fun u1 => ?_) (fun u1 => ?_)
  · refine tw_iconst C d_d_isLink_33 ?_
    exact hR _ _ _ _ _ d_d_isLink_34 rfl (⟨rfl, Or.inr ⟨rfl, by omega⟩⟩)
  · refine tw_iload1 C d_d_isLink_4 ?_
    refine tw_aload0 C d_d_isLink_5 ?_
    refine g_d0 C d_d_isLink_6 hn ?_
    refine tw_icmp_ge C d_d_isLink_9 (by omega) (by omega) (fun u9 => ?_) (fun u9 => ?_)
    · refine tw_iconst C d_d_isLink_33 ?_
      exact hR _ _ _ _ _ d_d_isLink_34 rfl (⟨rfl, Or.inr ⟨rfl, by omega⟩⟩)
    · refine tw_iload2 C d_d_isLink_12 ?_
      refine tw_if_lt C d_d_isLink_13 (by omega) (fun u13 => ?_) (fun u13 => ?_)
      · refine tw_iconst C d_d_isLink_33 ?_
        exact hR _ _ _ _ _ d_d_isLink_34 rfl (⟨rfl, Or.inr ⟨rfl, by omega⟩⟩)
      · refine tw_iload2 C d_d_isLink_16 ?_
        refine tw_aload0 C d_d_isLink_17 ?_
        refine g_d0 C d_d_isLink_18 hn ?_
        refine tw_icmp_ge C d_d_isLink_21 (by omega) (by omega) (fun u21 => ?_) (fun u21 => ?_)
        · refine tw_iconst C d_d_isLink_33 ?_
          exact hR _ _ _ _ _ d_d_isLink_34 rfl (⟨rfl, Or.inr ⟨rfl, by omega⟩⟩)
        · refine tw_iload1 C d_d_isLink_24 ?_
          refine tw_iload2 C d_d_isLink_25 ?_
          refine tw_icmp_eq C d_d_isLink_26 (by omega) (by omega) (fun u26 => ?_) (fun u26 => ?_)
          · refine tw_iconst C d_d_isLink_33 ?_
            exact hR _ _ _ _ _ d_d_isLink_34 rfl (⟨rfl, Or.inr ⟨rfl, by omega⟩⟩)
          · refine tw_iconst C d_d_isLink_29 ?_
            refine tw_goto C d_d_isLink_30 ?_
            exact hR _ _ _ _ _ d_d_isLink_34 rfl (⟨rfl, Or.inl ⟨rfl, by omega⟩⟩)
def mgS (S : TS) (c : Nat) (x y : Int) : TS := fun f j => if f = 5 ∧ (j < c ∧ S 5 j = y) then x else S f j
theorem mgS_0 (S : TS) (x y : Int) : mgS S 0 x y = S := by
  funext f j; simp [mgS]
theorem mgS_at (S : TS) (x y : Int) (c : Nat) : mgS S c x y 5 c = S 5 c := by simp [mgS]
theorem mgS_skip (S : TS) (x y : Int) {c : Nat} (h : S 5 c ≠ y) : mgS S (c + 1) x y = mgS S c x y := by
  funext f j
  unfold mgS
  by_cases hj : j = c
  · subst hj
    have h1 : ¬ (f = 5 ∧ (j < j + 1 ∧ S 5 j = y)) := fun q => h q.2.2
    have h2 : ¬ (f = 5 ∧ (j < j ∧ S 5 j = y)) := fun q => h q.2.2
    rw [if_neg h1, if_neg h2]
  · have e : (j < c + 1) = (j < c) := by apply propext; omega
    simp only [e]
theorem mgS_put (S : TS) (x y : Int) {c : Nat} (h : S 5 c = y) : mgS S (c + 1) x y = up (mgS S c x y) 5 c x := by
  funext f j
  unfold mgS up
  by_cases hf : f = 5
  · subst hf
    by_cases hj : j = c
    · subst hj; simp [h]
    · have e : (j < c + 1) = (j < c) := by apply propext; omega
      simp [hj, e]
  · simp [hf]
set_option maxRecDepth 20000 in
theorem c_d_merge {q : Nat → Nat} {kz : ClassId × ClassId × ClassId} {S : TS} {n : Nat} {x y : Int} (hn : S 0 0 = (n : Int)) (h7 : n ≤ 7) (hx : 0 ≤ x ∧ x ≤ 6) (hy : 0 ≤ y ∧ y ≤ 6) (h5 : ∀ j, j < n → 0 ≤ S 5 j ∧ S 5 j ≤ 6) : ∀ l : Launch, MV l y_d_merge b_d_merge 4 ({ frames := 0, cells := 0, slots := 0, locals := 0 }) (td_ws q kz) (ty_k kz) [.ref (q 0), .int (iI x), .int (iI y)] S (fun S' => S' = mgS S n x y) := by
  refine mv_of (td_ok q kz) (by decide) (Nat.le_of_ble_eq_true rfl) (by simp [Value.category]) (Nat.le_of_ble_eq_true rfl) ?_
  intro X C hR
  show TW X (td_ws q kz) S 0 [some (.ref (q 0)), some (.int (iI x)), some (.int (iI y)), none] []
  refine tw_iconst C d_d_merge_0 ?_
  refine tw_istore3 C d_d_merge_1 ?_
  suffices hl2 : ∀ (f2 : Nat) (c : Nat), n < c + f2 → c ≤ n → TW X (td_ws q kz) (mgS S c x y) 2 [some (.ref (q 0)), some (.int (iI x)), some (.int (iI y)), some (.int (iI c))] [] from tw_S (mgS_0 S x y).symm (hl2 (n + 1) 0 (by omega) (by omega))
  intro f2
  induction f2 with
  | zero => intro c h1 h2; exfalso; omega
  | succ f2 ih2 =>
    intro c h1 h2
    refine tw_iload3 C d_d_merge_2 ?_
    refine tw_aload0 C d_d_merge_3 ?_
    refine g_d0 C d_d_merge_4 hn ?_
    refine tw_icmp_ge C d_d_merge_7 (by omega) (by omega) (fun u7 => ?_) (fun u7 => ?_)
    · exact hR _ _ _ _ d_d_merge_34 (by rw [show c = n by omega])
    · refine tw_aload0 C d_d_merge_10 ?_
      refine g_d5 C d_d_merge_11 ?_
      refine tw_iload3 C d_d_merge_14 ?_
      refine al_d5 C c d_d_merge_15 (by omega) (by omega) (mgS_at S x y c) ?_
      refine tw_iload2 C d_d_merge_16 ?_
      have r15 := h5 c (by omega)
      refine tw_icmp_ne C d_d_merge_17 (by omega) (by omega) (fun u17 => ?_) (fun u17 => ?_)
      · refine tw_iinc3 C d_d_merge_28 ?_
        refine tw_goto C d_d_merge_31 ?_
        exact tw_S (mgS_skip S x y u17).symm (ih2 (c + 1) (by omega) (by omega))
      · refine tw_aload0 C d_d_merge_20 ?_
        refine g_d5 C d_d_merge_21 ?_
        refine tw_iload3 C d_d_merge_24 ?_
        refine tw_iload1 C d_d_merge_25 ?_
        refine tw_i2b C d_d_merge_26 (by omega) ?_
        refine as_d5 C c d_d_merge_27 (by omega) (by omega) (by omega) ?_
        refine tw_iinc3 C d_d_merge_28 ?_
        refine tw_goto C d_d_merge_31 ?_
        exact tw_S (mgS_put S x y u17).symm (ih2 (c + 1) (by omega) (by omega))
def cpS (S : TS) (c : Nat) : TS := fun f j => if f = 3 ∧ j < c then S 2 j else S f j
theorem cpS_0 (S : TS) : cpS S 0 = S := by funext f j; simp [cpS]
theorem cpS_put (S : TS) (c : Nat) : cpS S (c + 1) = up (cpS S c) 3 c (S 2 c) := by
  funext f j
  unfold cpS up
  by_cases hf : f = 3
  · subst hf
    by_cases hj : j = c
    · subst hj; simp
    · have e : (j < c + 1) = (j < c) := by apply propext; omega
      simp [hj, e]
  · simp [hf]
set_option maxRecDepth 20000 in
theorem c_d_askPlainly {q : Nat → Nat} {kz : ClassId × ClassId × ClassId} {S : TS} (h2r : ∀ j, 0 ≤ S 2 j ∧ S 2 j ≤ 2) : ∀ l : Launch, MV l y_d_askPlainly b_d_askPlainly 2 ({ frames := 0, cells := 0, slots := 0, locals := 0 }) (td_ws q kz) (ty_k kz) [.ref (q 0)] S (fun S' => S' = cpS S 49) := by
  refine mv_of (td_ok q kz) (by decide) (Nat.le_of_ble_eq_true rfl) (by simp [Value.category]) (Nat.le_of_ble_eq_true rfl) ?_
  intro X C hR
  show TW X (td_ws q kz) S 0 [some (.ref (q 0)), none] []
  refine tw_iconst C d_d_askPlainly_0 ?_
  refine tw_istore1 C d_d_askPlainly_1 ?_
  suffices hl2 : ∀ (f2 : Nat) (c : Nat), 49 < c + f2 → c ≤ 49 → TW X (td_ws q kz) (cpS S c) 2 [some (.ref (q 0)), some (.int (iI c))] [] from tw_S (cpS_0 S).symm (hl2 50 0 (by omega) (by omega))
  intro f2
  induction f2 with
  | zero => intro c h1 h2; exfalso; omega
  | succ f2 ih2 =>
    intro c h1 h2
    refine tw_iload1 C d_d_askPlainly_2 ?_
    refine tw_bipush C d_d_askPlainly_3 rfl ?_
    refine tw_icmp_ge C d_d_askPlainly_5 (by omega) (by omega) (fun u5 => ?_) (fun u5 => ?_)
    · exact hR _ _ _ _ d_d_askPlainly_26 (by rw [show c = 49 by omega])
    · refine tw_aload0 C d_d_askPlainly_8 ?_
      refine g_d3 C d_d_askPlainly_9 ?_
      refine tw_iload1 C d_d_askPlainly_12 ?_
      refine tw_aload0 C d_d_askPlainly_13 ?_
      refine g_d2 C d_d_askPlainly_14 ?_
      refine tw_iload1 C d_d_askPlainly_17 ?_
      refine al_d2 C c d_d_askPlainly_18 (by omega) (by omega) (show cpS S c 2 c = S 2 c from rfl) ?_
      have r15 := h2r c
      refine as_d3 C c d_d_askPlainly_19 (by omega) (by omega) (by omega) ?_
      refine tw_iinc1 C d_d_askPlainly_20 ?_
      refine tw_goto C d_d_askPlainly_23 ?_
      exact tw_S (cpS_put S c).symm (ih2 (c + 1) (by omega) (by omega))
def bnS (S : TS) (c : Nat) (x : Int) : TS := fun f j => if f = 4 ∧ j < c then S 4 j + x * (S 6 j - 2) else S f j
theorem bnS_0 (S : TS) (x : Int) : bnS S 0 x = S := by funext f j; simp [bnS]
theorem bnS_at (S : TS) (c : Nat) (x : Int) : bnS S c x 4 c = S 4 c := by simp [bnS]
theorem bnS_put (S : TS) (c : Nat) (x : Int) : bnS S (c + 1) x = up (bnS S c x) 4 c (S 4 c + x * (S 6 c - 2)) := by
  funext f j
  unfold bnS up
  by_cases hf : f = 4
  · subst hf
    by_cases hj : j = c
    · subst hj; simp
    · have e : (j < c + 1) = (j < c) := by apply propext; omega
      simp [hj, e]
  · simp [hf]
set_option maxRecDepth 20000 in
theorem c_d_bend {q : Nat → Nat} {kz : ClassId × ClassId × ClassId} {S : TS} {n : Nat} {x : Int} (hn : S 0 0 = (n : Int)) (h7 : n ≤ 7) : ∀ l : Launch, MV l y_d_bend b_d_bend 3 ({ frames := 0, cells := 0, slots := 0, locals := 0 }) (td_ws q kz) (ty_k kz) [.ref (q 0), .int (iI x)] S (fun S' => S' = bnS S n x) := by
  refine mv_of (td_ok q kz) (by decide) (Nat.le_of_ble_eq_true rfl) (by simp [Value.category]) (Nat.le_of_ble_eq_true rfl) ?_
  intro X C hR
  show TW X (td_ws q kz) S 0 [some (.ref (q 0)), some (.int (iI x)), none] []
  refine tw_iconst C d_d_bend_0 ?_
  refine tw_istore2 C d_d_bend_1 ?_
  suffices hl2 : ∀ (f2 : Nat) (c : Nat), n < c + f2 → c ≤ n → TW X (td_ws q kz) (bnS S c x) 2 [some (.ref (q 0)), some (.int (iI x)), some (.int (iI c))] [] from tw_S (bnS_0 S x).symm (hl2 (n + 1) 0 (by omega) (by omega))
  intro f2
  induction f2 with
  | zero => intro c h1 h2; exfalso; omega
  | succ f2 ih2 =>
    intro c h1 h2
    refine tw_iload2 C d_d_bend_2 ?_
    refine tw_aload0 C d_d_bend_3 ?_
    refine g_d0 C d_d_bend_4 hn ?_
    refine tw_icmp_ge C d_d_bend_7 (by omega) (by omega) (fun u7 => ?_) (fun u7 => ?_)
    · exact hR _ _ _ _ d_d_bend_35 (by rw [show c = n by omega])
    · refine tw_aload0 C d_d_bend_10 ?_
      refine g_d4 C d_d_bend_11 ?_
      refine tw_iload2 C d_d_bend_14 ?_
      refine tw_dup2 C d_d_bend_15 rfl rfl ?_
      refine al_d4 C c d_d_bend_16 (by omega) (by omega) (bnS_at S c x) ?_
      refine tw_iload1 C d_d_bend_17 ?_
      refine tw_aload0 C d_d_bend_18 ?_
      refine g_d6 C d_d_bend_19 ?_
      refine tw_iload2 C d_d_bend_22 ?_
      refine al_d6 C c d_d_bend_23 (by omega) (by omega) (show bnS S c x 6 c = S 6 c from rfl) ?_
      refine tw_iconst C d_d_bend_24 ?_
      refine tw_isub C d_d_bend_25 ?_
      refine tw_imul C d_d_bend_26 ?_
      refine tw_iadd C d_d_bend_27 ?_
      refine as_d4 C c d_d_bend_28 (by omega) (by omega) ?_
      refine tw_iinc2 C d_d_bend_29 ?_
      refine tw_goto C d_d_bend_32 ?_
      exact tw_S (bnS_put S c x).symm (ih2 (c + 1) (by omega) (by omega))
def sm (f : Nat → Int) : Nat → Int
  | 0 => 0
  | n + 1 => sm f n + f n
set_option maxRecDepth 20000 in
theorem c_d_twicePenalties {q : Nat → Nat} {kz : ClassId × ClassId × ClassId} {S : TS} {n : Nat} (hn : S 0 0 = (n : Int)) (h7 : n ≤ 7) : ∀ l : Launch, MI l y_d_twicePenalties b_d_twicePenalties 3 .int ({ frames := 0, cells := 0, slots := 0, locals := 0 }) (td_ws q kz) (ty_k kz) [.ref (q 0)] S (fun r S' => r = 2 * sm (S 4) n ∧ S' = S) := by
  refine mi_of (td_ok q kz) (by decide) (Nat.le_of_ble_eq_true rfl) (by simp [Value.category]) (Nat.le_of_ble_eq_true rfl) ?_
  intro X C hR
  show TW X (td_ws q kz) S 0 [some (.ref (q 0)), none, none] []
  refine tw_iconst C d_d_twicePenalties_0 ?_
  refine tw_istore1 C d_d_twicePenalties_1 ?_
  refine tw_iconst C d_d_twicePenalties_2 ?_
  refine tw_istore2 C d_d_twicePenalties_3 ?_
  suffices hl4 : ∀ (f4 : Nat) (c : Nat), n < c + f4 → c ≤ n → TW X (td_ws q kz) (S) 4 [some (.ref (q 0)), some (.int (iI (sm (S 4) c))), some (.int (iI c))] [] from hl4 (n + 1) 0 (by omega) (by omega)
  intro f4
  induction f4 with
  | zero => intro c h1 h2; exfalso; omega
  | succ f4 ih4 =>
    intro c h1 h2
    refine tw_iload2 C d_d_twicePenalties_4 ?_
    refine tw_aload0 C d_d_twicePenalties_5 ?_
    refine g_d0 C d_d_twicePenalties_6 hn ?_
    refine tw_icmp_ge C d_d_twicePenalties_9 (by omega) (by omega) (fun u9 => ?_) (fun u9 => ?_)
    · refine tw_iconst C d_d_twicePenalties_27 ?_
      refine tw_iload1 C d_d_twicePenalties_28 ?_
      refine tw_imul C d_d_twicePenalties_29 ?_
      exact hR _ _ _ _ _ d_d_twicePenalties_30 rfl (⟨by rw [show c = n by omega], rfl⟩)
    · refine tw_iload1 C d_d_twicePenalties_12 ?_
      refine tw_aload0 C d_d_twicePenalties_13 ?_
      refine g_d4 C d_d_twicePenalties_14 ?_
      refine tw_iload2 C d_d_twicePenalties_17 ?_
      refine al_d4 C c d_d_twicePenalties_18 (by omega) (by omega) rfl ?_
      refine tw_iadd C d_d_twicePenalties_19 ?_
      refine tw_istore1 C d_d_twicePenalties_20 ?_
      refine tw_iinc2 C d_d_twicePenalties_21 ?_
      refine tw_goto C d_d_twicePenalties_24 ?_
      exact ih4 (c + 1) (by omega) (by omega)
set_option maxRecDepth 20000 in
theorem c_d_isTour {q : Nat → Nat} {kz : ClassId × ClassId × ClassId} {S : TS} {n : Nat} (hn : S 0 0 = (n : Int)) (h7 : n ≤ 7) (h6 : ∀ j, j < n → inR (S 6 j)) : ∀ l : Launch, MI l y_d_isTour b_d_isTour 2 .boolean ({ frames := 0, cells := 0, slots := 0, locals := 0 }) (td_ws q kz) (ty_k kz) [.ref (q 0)] S (fun r S' => S' = S ∧ ((r = 1 ∧ ∀ j, j < n → S 6 j = 2) ∨ (r = 0 ∧ ∃ j, j < n ∧ S 6 j ≠ 2))) := by
  refine mi_of (td_ok q kz) (by decide) (Nat.le_of_ble_eq_true rfl) (by simp [Value.category]) (Nat.le_of_ble_eq_true rfl) ?_
  intro X C hR
  show TW X (td_ws q kz) S 0 [some (.ref (q 0)), none] []
  refine tw_iconst C d_d_isTour_0 ?_
  refine tw_istore1 C d_d_isTour_1 ?_
  suffices hl2 : ∀ (f2 : Nat) (c : Nat), n < c + f2 → c ≤ n → (∀ j, j < c → S 6 j = 2) → TW X (td_ws q kz) (S) 2 [some (.ref (q 0)), some (.int (iI c))] [] from hl2 (n + 1) 0 (by omega) (by omega) (fun _ h => absurd h (Nat.not_lt_zero _))
  intro f2
  induction f2 with
  | zero => intro c h1 h2 hI; exfalso; omega
  | succ f2 ih2 =>
    intro c h1 h2 hI
    refine tw_iload1 C d_d_isTour_2 ?_
    refine tw_aload0 C d_d_isTour_3 ?_
    refine g_d0 C d_d_isTour_4 hn ?_
    refine tw_icmp_ge C d_d_isTour_7 (by omega) (by omega) (fun u7 => ?_) (fun u7 => ?_)
    · refine tw_iconst C d_d_isTour_28 ?_
      exact hR _ _ _ _ _ d_d_isTour_29 rfl (⟨rfl, Or.inl ⟨rfl, fun j hj => hI j (by omega)⟩⟩)
    · refine tw_aload0 C d_d_isTour_10 ?_
      refine g_d6 C d_d_isTour_11 ?_
      refine tw_iload1 C d_d_isTour_14 ?_
      refine al_d6 C c d_d_isTour_15 (by omega) (by omega) rfl ?_
      have r15 := h6 c (by omega)
      refine tw_iconst C d_d_isTour_16 ?_
      refine tw_icmp_eq C d_d_isTour_17 (by omega) (by omega) (fun u17 => ?_) (fun u17 => ?_)
      · refine tw_iinc1 C d_d_isTour_22 ?_
        refine tw_goto C d_d_isTour_25 ?_
        exact ih2 (c + 1) (by omega) (by omega) (lt_s hI u17)
      · refine tw_iconst C d_d_isTour_20 ?_
        exact hR _ _ _ _ _ d_d_isTour_21 rfl (⟨rfl, Or.inr ⟨rfl, c, by omega, u17⟩⟩)
set_option maxRecDepth 20000 in
theorem c_d_joined {q : Nat → Nat} {kz : ClassId × ClassId × ClassId} {S : TS} {n : Nat} (hn : S 0 0 = (n : Int)) (h7 : n ≤ 7) (h3n : 3 ≤ n) (h5 : ∀ j, j < n → 0 ≤ S 5 j ∧ S 5 j ≤ 6) : ∀ l : Launch, MI l y_d_joined b_d_joined 2 .boolean ({ frames := 0, cells := 0, slots := 0, locals := 0 }) (td_ws q kz) (ty_k kz) [.ref (q 0)] S (fun r S' => S' = S ∧ ((r = 1 ∧ ∀ j, 2 ≤ j → j < n → S 5 j = S 5 1) ∨ (r = 0 ∧ ∃ j, 2 ≤ j ∧ j < n ∧ S 5 j ≠ S 5 1))) := by
  refine mi_of (td_ok q kz) (by decide) (Nat.le_of_ble_eq_true rfl) (by simp [Value.category]) (Nat.le_of_ble_eq_true rfl) ?_
  intro X C hR
  show TW X (td_ws q kz) S 0 [some (.ref (q 0)), none] []
  refine tw_iconst C d_d_joined_0 ?_
  refine tw_istore1 C d_d_joined_1 ?_
  suffices hl2 : ∀ (f2 : Nat) (c : Nat), n < c + f2 → c ≤ n → 2 ≤ c → (∀ j, 2 ≤ j → j < c → S 5 j = S 5 1) → TW X (td_ws q kz) (S) 2 [some (.ref (q 0)), some (.int (iI c))] [] from hl2 (n + 1) 2 (by omega) (by omega) (by omega) (fun _ h g => by omega)
  intro f2
  induction f2 with
  | zero => intro c h1 h2 h3 hI; exfalso; omega
  | succ f2 ih2 =>
    intro c h1 h2 h3 hI
    refine tw_iload1 C d_d_joined_2 ?_
    refine tw_aload0 C d_d_joined_3 ?_
    refine g_d0 C d_d_joined_4 hn ?_
    refine tw_icmp_ge C d_d_joined_7 (by omega) (by omega) (fun u7 => ?_) (fun u7 => ?_)
    · refine tw_iconst C d_d_joined_33 ?_
      exact hR _ _ _ _ _ d_d_joined_34 rfl (⟨rfl, Or.inl ⟨rfl, fun j g hj => hI j g (by omega)⟩⟩)
    · refine tw_aload0 C d_d_joined_10 ?_
      refine g_d5 C d_d_joined_11 ?_
      refine tw_iload1 C d_d_joined_14 ?_
      refine al_d5 C c d_d_joined_15 (by omega) (by omega) rfl ?_
      have r15 := h5 c (by omega)
      refine tw_aload0 C d_d_joined_16 ?_
      refine g_d5 C d_d_joined_17 ?_
      refine tw_iconst C d_d_joined_20 ?_
      refine al_d5 C 1 d_d_joined_21 (by omega) (by omega) rfl ?_
      have r21 := h5 1 (by omega)
      refine tw_icmp_eq C d_d_joined_22 (by omega) (by omega) (fun u22 => ?_) (fun u22 => ?_)
      · refine tw_iinc1 C d_d_joined_27 ?_
        refine tw_goto C d_d_joined_30 ?_
        exact ih2 (c + 1) (by omega) (by omega) (by omega) (fun j g1 g2 => by rcases Nat.lt_or_ge j c with g | g; exact hI j g1 g; rw [show j = c by omega]; exact u22)
      · refine tw_iconst C d_d_joined_25 ?_
        exact hR _ _ _ _ _ d_d_joined_26 rfl (⟨rfl, Or.inr ⟨rfl, c, by omega, by omega, u22⟩⟩)
end
section
/-! linkToBranch, cheapestJoin -/
/-- a free chosen link at a city with more than two links -/
def lbP (S : TS) (a b : Nat) : Prop := 2 < S 6 a ∧ S 7 (a * 7 + b) ≠ 0 ∧ S 3 (a * 7 + b) = 0
set_option maxRecDepth 20000 in
theorem c_d_linkToBranch {q : Nat → Nat} {kz : ClassId × ClassId × ClassId} {S : TS} {n : Nat} (hn : S 0 0 = (n : Int)) (h7 : n ≤ 7) (h6 : ∀ j, j < n → inR (S 6 j)) (h7r : ∀ x y, x < n → y < n → inR (S 7 (x * 7 + y))) (h3r : ∀ j, inR (S 3 j)) : ∀ l : Launch, MI l y_d_linkToBranch b_d_linkToBranch 4 .int ({ frames := 0, cells := 0, slots := 0, locals := 0 }) (td_ws q kz) (ty_k kz) [.ref (q 0)] S (fun r S' => S' = S ∧ ((r = -1 ∧ ∀ x y, x < n → y < n → ¬ lbP S x y) ∨ ∃ x y : Nat, x < n ∧ y < n ∧ r = x * 7 + y ∧ lbP S x y)) := by
  refine mi_of (td_ok q kz) (by decide) (Nat.le_of_ble_eq_true rfl) (by simp [Value.category]) (Nat.le_of_ble_eq_true rfl) ?_
  intro X C hR
  show TW X (td_ws q kz) S 0 [some (.ref (q 0)), none, none, none] []
  refine tw_iconst C d_d_linkToBranch_0 ?_
  refine tw_istore1 C d_d_linkToBranch_1 ?_
  suffices hl2 : ∀ (f2 : Nat) (a : Nat), n < a + f2 → a ≤ n → (∀ x y, x < a → y < n → ¬ lbP S x y) → TW X (td_ws q kz) (S) 2 [some (.ref (q 0)), some (.int (iI a)), none, none] [] from hl2 (n + 1) 0 (by omega) (by omega) (fun _ _ h => absurd h (Nat.not_lt_zero _))
  intro f2
  induction f2 with
  | zero => intro a h1 h2 hI; exfalso; omega
  | succ f2 ih2 =>
    intro a h1 h2 hI
    refine tw_iload1 C d_d_linkToBranch_2 ?_
    refine tw_aload0 C d_d_linkToBranch_3 ?_
    refine g_d0 C d_d_linkToBranch_4 hn ?_
    refine tw_icmp_ge C d_d_linkToBranch_7 (by omega) (by omega) (fun u7 => ?_) (fun u7 => ?_)
    · refine tw_iconst C d_d_linkToBranch_69 ?_
      exact hR _ _ _ _ _ d_d_linkToBranch_70 rfl (⟨rfl, Or.inl ⟨rfl, fun x y hx hy => hI x y (by omega) hy⟩⟩)
    · refine tw_iconst C d_d_linkToBranch_10 ?_
      refine tw_istore2 C d_d_linkToBranch_11 ?_
      suffices hl12 : ∀ (f12 : Nat) (b : Nat), n < b + f12 → b ≤ n → (∀ y, y < b → ¬ lbP S a y) → TW X (td_ws q kz) (S) 12 [some (.ref (q 0)), some (.int (iI a)), some (.int (iI b)), none] [] from hl12 (n + 1) 0 (by omega) (by omega) (fun _ h => absurd h (Nat.not_lt_zero _))
      intro f12
      induction f12 with
      | zero => intro b g1 g2 hJ; exfalso; omega
      | succ f12 ih12 =>
        intro b g1 g2 hJ
        refine tw_iload2 C d_d_linkToBranch_12 ?_
        refine tw_aload0 C d_d_linkToBranch_13 ?_
        refine g_d0 C d_d_linkToBranch_14 hn ?_
        refine tw_icmp_ge C d_d_linkToBranch_17 (by omega) (by omega) (fun u17 => ?_) (fun u17 => ?_)
        · refine tw_iinc1 C d_d_linkToBranch_63 ?_
          refine tw_goto C d_d_linkToBranch_66 ?_
          exact tw_drop 2 (tw_drop 3 (ih2 (a + 1) (by omega) (by omega) (fun x y hx hy => by rcases Nat.lt_or_ge x a with g | g; exact hI x y g hy; rw [show x = a by omega]; exact hJ y (by omega))))
        · refine tw_iload1 C d_d_linkToBranch_20 ?_
          refine tw_bipush C d_d_linkToBranch_21 rfl ?_
          refine tw_imul C d_d_linkToBranch_23 ?_
          refine tw_iload2 C d_d_linkToBranch_24 ?_
          refine tw_iadd C d_d_linkToBranch_25 ?_
          refine tw_istore3 C d_d_linkToBranch_26 ?_
          refine tw_aload0 C d_d_linkToBranch_27 ?_
          refine g_d6 C d_d_linkToBranch_28 ?_
          refine tw_iload1 C d_d_linkToBranch_31 ?_
          refine al_d6 C a d_d_linkToBranch_32 (by omega) (by omega) rfl ?_
          have r32 := h6 a (by omega)
          refine tw_iconst C d_d_linkToBranch_33 ?_
          refine tw_icmp_le C d_d_linkToBranch_34 (by omega) (by omega) (fun u34 => ?_) (fun u34 => ?_)
          · refine tw_iinc2 C d_d_linkToBranch_57 ?_
            refine tw_goto C d_d_linkToBranch_60 ?_
            exact tw_drop 3 (ih12 (b + 1) (by omega) (by omega) (lt_s hJ (fun h => by unfold lbP at h; omega)))
          · refine tw_aload0 C d_d_linkToBranch_37 ?_
            refine g_d7 C d_d_linkToBranch_38 ?_
            refine tw_iload3 C d_d_linkToBranch_41 ?_
            refine al_d7 C (((a * 7) + b)) d_d_linkToBranch_42 (by omega) (by omega) rfl ?_
            have r42 := h7r a b (by omega) (by omega)
            refine tw_if_eq C d_d_linkToBranch_43 (by omega) (fun u43 => ?_) (fun u43 => ?_)
            · refine tw_iinc2 C d_d_linkToBranch_57 ?_
              refine tw_goto C d_d_linkToBranch_60 ?_
              exact tw_drop 3 (ih12 (b + 1) (by omega) (by omega) (lt_s hJ (fun h => h.2.1 u43)))
            · refine tw_aload0 C d_d_linkToBranch_46 ?_
              refine g_d3 C d_d_linkToBranch_47 ?_
              refine tw_iload3 C d_d_linkToBranch_50 ?_
              refine al_d3 C (((a * 7) + b)) d_d_linkToBranch_51 (by omega) (by omega) rfl ?_
              have r51 := h3r (((a * 7) + b))
              refine tw_if_ne C d_d_linkToBranch_52 (by omega) (fun u52 => ?_) (fun u52 => ?_)
              · refine tw_iinc2 C d_d_linkToBranch_57 ?_
                refine tw_goto C d_d_linkToBranch_60 ?_
                exact tw_drop 3 (ih12 (b + 1) (by omega) (by omega) (lt_s hJ (fun h => u52 h.2.2)))
              · refine tw_iload3 C d_d_linkToBranch_55 ?_
                exact hR _ _ _ _ _ d_d_linkToBranch_56 rfl (⟨rfl, Or.inr ⟨a, b, by omega, by omega, by omega, by omega, u43, u52⟩⟩)
/-- the weight of a link -/
def wt (S : TS) (a b : Nat) : Int := S 1 (a * 7 + b) + S 4 a + S 4 b
/-- an open link between two groups -/
def opn (S : TS) (a b : Nat) : Prop := S 3 (a * 7 + b) = 0 ∧ S 5 a ≠ S 5 b
/-- best and cost over the links ahead of (a, b) -/
def cjI (S : TS) (n a b : Nat) (best cost : Int) : Prop :=
  (best = -1 ∧ ∀ x y, 1 ≤ x → x < y → y < n → (x < a ∨ (x = a ∧ y < b)) → ¬ opn S x y) ∨
  ∃ u v : Nat, 1 ≤ u ∧ u < v ∧ v < n ∧ opn S u v ∧ best = u * 7 + v ∧ cost = wt S u v ∧ ∀ x y, 1 ≤ x → x < y → y < n → (x < a ∨ (x = a ∧ y < b)) → opn S x y → wt S u v ≤ wt S x y
theorem cjI_skip {S : TS} {n a b : Nat} {best cost : Int} (h : cjI S n a b best cost) (hs : ¬ opn S a b) : cjI S n a (b + 1) best cost := by
  rcases h with ⟨h1, h2⟩ | ⟨u, v, h1, h2, h3, h4, h5, h6, h7⟩
  · refine Or.inl ⟨h1, fun x y p1 p2 p3 p4 => ?_⟩
    by_cases g : x = a ∧ y = b
    · rw [g.1, g.2]; exact hs
    · exact h2 x y p1 p2 p3 (by omega)
  · refine Or.inr ⟨u, v, h1, h2, h3, h4, h5, h6, fun x y p1 p2 p3 p4 p5 => ?_⟩
    by_cases g : x = a ∧ y = b
    · rw [g.1, g.2] at p5; exact absurd p5 hs
    · exact h7 x y p1 p2 p3 (by omega) p5
theorem cjI_keep {S : TS} {n a b : Nat} {best cost : Int} (h : cjI S n a b best cost) (h0 : 0 ≤ best) (hs : cost ≤ wt S a b) : cjI S n a (b + 1) best cost := by
  rcases h with ⟨h1, h2⟩ | ⟨u, v, h1, h2, h3, h4, h5, h6, h7⟩
  · omega
  · refine Or.inr ⟨u, v, h1, h2, h3, h4, h5, h6, fun x y p1 p2 p3 p4 p5 => ?_⟩
    by_cases g : x = a ∧ y = b
    · rw [g.1, g.2]; omega
    · exact h7 x y p1 p2 p3 (by omega) p5
theorem cjI_take {S : TS} {n a b : Nat} {best cost : Int} (h : cjI S n a b best cost) (ha : 1 ≤ a) (hab : a < b) (hb : b < n) (ho : opn S a b) (hs : best < 0 ∨ wt S a b < cost) : cjI S n a (b + 1) ((a : Int) * 7 + b) (wt S a b) := by
  refine Or.inr ⟨a, b, ha, hab, hb, ho, rfl, rfl, fun x y p1 p2 p3 p4 p5 => ?_⟩
  by_cases g : x = a ∧ y = b
  · rw [g.1, g.2]; omega
  · rcases h with ⟨h1, h2⟩ | ⟨u, v, h1, h2, h3, h4, h5, h6, h7⟩
    · exact absurd p5 (h2 x y p1 p2 p3 (by omega))
    · have := h7 x y p1 p2 p3 (by omega) p5
      omega
theorem cjI_row {S : TS} {n a : Nat} {best cost : Int} (h : cjI S n a n best cost) : cjI S n (a + 1) (a + 2) best cost := by
  rcases h with ⟨h1, h2⟩ | ⟨u, v, h1, h2, h3, h4, h5, h6, h7⟩
  · exact Or.inl ⟨h1, fun x y p1 p2 p3 p4 => h2 x y p1 p2 p3 (by omega)⟩
  · exact Or.inr ⟨u, v, h1, h2, h3, h4, h5, h6, fun x y p1 p2 p3 p4 p5 => h7 x y p1 p2 p3 (by omega) p5⟩
theorem cjI_rng {S : TS} {n a b : Nat} {best cost : Int} (h : cjI S n a b best cost) (h7 : n ≤ 7) : -1 ≤ best ∧ best ≤ 48 := by
  rcases h with ⟨h1, -⟩ | ⟨u, v, h1, h2, h3, h4, h5, -⟩ <;> omega
def cjP (S : TS) (n : Nat) (r : Int) : Prop := (r = -1 ∧ ∀ x y, 1 ≤ x → x < y → y < n → ¬ opn S x y) ∨ ∃ u v : Nat, 1 ≤ u ∧ u < v ∧ v < n ∧ r = u * 7 + v ∧ opn S u v ∧ ∀ x y, 1 ≤ x → x < y → y < n → opn S x y → wt S u v ≤ wt S x y
theorem cjI_end {S : TS} {n : Nat} {best cost : Int} (h : cjI S n n (n + 1) best cost) : cjP S n best := by
  rcases h with ⟨h1, h2⟩ | ⟨u, v, h1, h2, h3, h4, h5, h6, h7⟩
  · exact Or.inl ⟨h1, fun x y p1 p2 p3 => h2 x y p1 p2 p3 (by omega)⟩
  · exact Or.inr ⟨u, v, h1, h2, h3, h5, h4, fun x y p1 p2 p3 p5 => h7 x y p1 p2 p3 (by omega) p5⟩
set_option maxRecDepth 20000 in
theorem c_d_cheapestJoin {q : Nat → Nat} {kz : ClassId × ClassId × ClassId} {S : TS} {n : Nat} (hn : S 0 0 = (n : Int)) (h7 : n ≤ 7) (h3n : 3 ≤ n) (hw : ∀ a b, a < n → b < n → inR (wt S a b)) (h5r : ∀ j, j < n → inR (S 5 j)) (h3r : ∀ j, inR (S 3 j)) : ∀ l : Launch, MI l y_d_cheapestJoin b_d_cheapestJoin 7 .int ({ frames := 1, cells := 0, slots := 0, locals := 22 }) (td_ws q kz) (ty_k kz) [.ref (q 0)] S (fun r S' => S' = S ∧ cjP S n r) := by
  refine mi_of (td_ok q kz) (by decide) (Nat.le_of_ble_eq_true rfl) (by simp [Value.category]) (Nat.le_of_ble_eq_true rfl) ?_
  intro X C hR
  show TW X (td_ws q kz) S 0 [some (.ref (q 0)), none, none, none, none, none, none] []
  refine tw_iconst C d_d_cheapestJoin_0 ?_
  refine tw_istore1 C d_d_cheapestJoin_1 ?_
  refine tw_iconst C d_d_cheapestJoin_2 ?_
  refine tw_istore2 C d_d_cheapestJoin_3 ?_
  refine tw_iconst C d_d_cheapestJoin_4 ?_
  refine tw_istore3 C d_d_cheapestJoin_5 ?_
  suffices hl6 : ∀ (f6 : Nat) (a : Nat) (best cost : Int), n < a + f6 → a ≤ n → 1 ≤ a → cjI S n a (a + 1) best cost → inR cost → TW X (td_ws q kz) (S) 6 [some (.ref (q 0)), some (.int (iI best)), some (.int (iI cost)), some (.int (iI a)), none, none, none] [] from hl6 (n + 1) 1 (-1) 0 (by omega) (by omega) (by omega) (Or.inl ⟨rfl, fun x y p1 p2 p3 p4 => by omega⟩) (by decide)
  intro f6
  induction f6 with
  | zero => intro a best cost h1 h2 h3 hI hc; exfalso; omega
  | succ f6 ih6 =>
    intro a best cost h1 h2 h3 hI hc
    refine tw_iload3 C d_d_cheapestJoin_6 ?_
    refine tw_aload0 C d_d_cheapestJoin_7 ?_
    refine g_d0 C d_d_cheapestJoin_8 hn ?_
    refine tw_icmp_ge C d_d_cheapestJoin_11 (by omega) (by omega) (fun u11 => ?_) (fun u11 => ?_)
    · refine tw_iload1 C d_d_cheapestJoin_113 ?_
      exact hR _ _ _ _ _ d_d_cheapestJoin_114 rfl (⟨rfl, cjI_end (show cjI S n n (n + 1) best cost by rw [show n = a by omega] at hI ⊢; exact hI)⟩)
    · refine tw_iload3 C d_d_cheapestJoin_14 ?_
      refine tw_iconst C d_d_cheapestJoin_15 ?_
      refine tw_iadd C d_d_cheapestJoin_16 ?_
      refine tw_istore4 C d_d_cheapestJoin_17 ?_
      suffices hl19 : ∀ (f19 : Nat) (b : Nat) (bst2 cst2 : Int), n < b + f19 → b ≤ n → a < b → cjI S n a b bst2 cst2 → inR cst2 → TW X (td_ws q kz) (S) 19 [some (.ref (q 0)), some (.int (iI bst2)), some (.int (iI cst2)), some (.int (iI a)), some (.int (iI b)), none, none] [] from hl19 (n + 1) (a + 1) best cost (by omega) (by omega) (by omega) hI hc
      intro f19
      induction f19 with
      | zero => intro b bst2 cst2 g1 g2 g3 hJ hc2; exfalso; omega
      | succ f19 ih19 =>
        intro b bst2 cst2 g1 g2 g3 hJ hc2
        have hrb := cjI_rng hJ h7
        refine tw_iload4 C d_d_cheapestJoin_19 ?_
        refine tw_aload0 C d_d_cheapestJoin_21 ?_
        refine g_d0 C d_d_cheapestJoin_22 hn ?_
        refine tw_icmp_ge C d_d_cheapestJoin_25 (by omega) (by omega) (fun u25 => ?_) (fun u25 => ?_)
        · refine tw_iinc3 C d_d_cheapestJoin_107 ?_
          refine tw_goto C d_d_cheapestJoin_110 ?_
          exact tw_drop 4 (tw_drop 5 (tw_drop 6 (ih6 (a + 1) bst2 cst2 (by omega) (by omega) (by omega) (cjI_row (by rw [show n = b by omega] at hJ ⊢; exact hJ)) hc2)))
        · refine tw_aload0 C d_d_cheapestJoin_28 ?_
          refine tw_iload3 C d_d_cheapestJoin_29 ?_
          refine tw_iload4 C d_d_cheapestJoin_30 ?_
          refine tw_calli C (td_ok q kz) (c_d_weight (a := a) (b := b) (by omega) (by omega)) cs_d_d_weight ⟨⟨rfl, rfl⟩, by decide, by decide⟩ rfl rfl rfl rfl rfl (Nat.le_of_ble_eq_true rfl) d_d_cheapestJoin_32 (fun r32 z32 hp32 => ?_)
          obtain ⟨rfl, hz⟩ := hp32
          replace hz := hz.symm
          subst hz
          have hwr : inR (wt S a b) := hw a b (by omega) (by omega)
          refine tw_istore5 C d_d_cheapestJoin_35 ?_
          refine tw_aload0 C d_d_cheapestJoin_37 ?_
          refine g_d3 C d_d_cheapestJoin_38 ?_
          refine tw_iload3 C d_d_cheapestJoin_41 ?_
          refine tw_bipush C d_d_cheapestJoin_42 rfl ?_
          refine tw_imul C d_d_cheapestJoin_44 ?_
          refine tw_iload4 C d_d_cheapestJoin_45 ?_
          refine tw_iadd C d_d_cheapestJoin_47 ?_
          refine al_d3 C (((a * 7) + b)) d_d_cheapestJoin_48 (by omega) (by omega) rfl ?_
          have r48 := h3r (((a * 7) + b))
          refine tw_if_ne C d_d_cheapestJoin_49 (by omega) (fun u49 => ?_) (fun u49 => ?_)
          · refine tw_iconst C d_d_cheapestJoin_72 ?_
            refine tw_istore6 C d_d_cheapestJoin_73 ?_
            refine tw_iload6 C d_d_cheapestJoin_75 ?_
            refine tw_if_eq C d_d_cheapestJoin_77 (by decide) (fun _ => ?_) (fun h => absurd h (by decide))
            refine tw_iinc4 C d_d_cheapestJoin_101 ?_
            refine tw_goto C d_d_cheapestJoin_104 ?_
            exact tw_drop 5 (tw_drop 6 (ih19 (b + 1) bst2 cst2 (by omega) (by omega) (by omega) (cjI_skip hJ (fun h => u49 h.1)) hc2))
          · refine tw_aload0 C d_d_cheapestJoin_52 ?_
            refine g_d5 C d_d_cheapestJoin_53 ?_
            refine tw_iload3 C d_d_cheapestJoin_56 ?_
            refine al_d5 C a d_d_cheapestJoin_57 (by omega) (by omega) rfl ?_
            have r57 := h5r a (by omega)
            refine tw_aload0 C d_d_cheapestJoin_58 ?_
            refine g_d5 C d_d_cheapestJoin_59 ?_
            refine tw_iload4 C d_d_cheapestJoin_62 ?_
            refine al_d5 C b d_d_cheapestJoin_64 (by omega) (by omega) rfl ?_
            have r64 := h5r b (by omega)
            refine tw_icmp_eq C d_d_cheapestJoin_65 (by omega) (by omega) (fun u65 => ?_) (fun u65 => ?_)
            · refine tw_iconst C d_d_cheapestJoin_72 ?_
              refine tw_istore6 C d_d_cheapestJoin_73 ?_
              refine tw_iload6 C d_d_cheapestJoin_75 ?_
              refine tw_if_eq C d_d_cheapestJoin_77 (by decide) (fun _ => ?_) (fun h => absurd h (by decide))
              refine tw_iinc4 C d_d_cheapestJoin_101 ?_
              refine tw_goto C d_d_cheapestJoin_104 ?_
              exact tw_drop 5 (tw_drop 6 (ih19 (b + 1) bst2 cst2 (by omega) (by omega) (by omega) (cjI_skip hJ (fun h => h.2 u65)) hc2))
            · refine tw_iconst C d_d_cheapestJoin_68 ?_
              refine tw_goto C d_d_cheapestJoin_69 ?_
              refine tw_istore6 C d_d_cheapestJoin_73 ?_
              refine tw_iload6 C d_d_cheapestJoin_75 ?_
              refine tw_if_eq C d_d_cheapestJoin_77 (by decide) (fun h => absurd h (by decide)) (fun _ => ?_)
              refine tw_iload1 C d_d_cheapestJoin_80 ?_
              refine tw_if_lt C d_d_cheapestJoin_81 (by omega) (fun u81 => ?_) (fun u81 => ?_)
              · refine tw_iload3 C d_d_cheapestJoin_90 ?_
                refine tw_bipush C d_d_cheapestJoin_91 rfl ?_
                refine tw_imul C d_d_cheapestJoin_93 ?_
                refine tw_iload4 C d_d_cheapestJoin_94 ?_
                refine tw_iadd C d_d_cheapestJoin_96 ?_
                refine tw_istore1 C d_d_cheapestJoin_97 ?_
                refine tw_iload5 C d_d_cheapestJoin_98 ?_
                refine tw_istore2 C d_d_cheapestJoin_100 ?_
                refine tw_iinc4 C d_d_cheapestJoin_101 ?_
                refine tw_goto C d_d_cheapestJoin_104 ?_
                exact tw_drop 5 (tw_drop 6 (ih19 (b + 1) _ _ (by omega) (by omega) (by omega) (cjI_take hJ (by omega) (by omega) (by omega) ⟨u49, u65⟩ (Or.inl u81)) hwr))
              · refine tw_iload5 C d_d_cheapestJoin_84 ?_
                refine tw_iload2 C d_d_cheapestJoin_86 ?_
                refine tw_icmp_ge C d_d_cheapestJoin_87 hwr hc2 (fun u87 => ?_) (fun u87 => ?_)
                · refine tw_iinc4 C d_d_cheapestJoin_101 ?_
                  refine tw_goto C d_d_cheapestJoin_104 ?_
                  exact tw_drop 5 (tw_drop 6 (ih19 (b + 1) bst2 cst2 (by omega) (by omega) (by omega) (cjI_keep hJ (by omega) u87) hc2))
                · refine tw_iload3 C d_d_cheapestJoin_90 ?_
                  refine tw_bipush C d_d_cheapestJoin_91 rfl ?_
                  refine tw_imul C d_d_cheapestJoin_93 ?_
                  refine tw_iload4 C d_d_cheapestJoin_94 ?_
                  refine tw_iadd C d_d_cheapestJoin_96 ?_
                  refine tw_istore1 C d_d_cheapestJoin_97 ?_
                  refine tw_iload5 C d_d_cheapestJoin_98 ?_
                  refine tw_istore2 C d_d_cheapestJoin_100 ?_
                  refine tw_iinc4 C d_d_cheapestJoin_101 ?_
                  refine tw_goto C d_d_cheapestJoin_104 ?_
                  exact tw_drop 5 (tw_drop 6 (ih19 (b + 1) _ _ (by omega) (by omega) (by omega) (cjI_take hJ (by omega) (by omega) (by omega) ⟨u49, u65⟩ (Or.inr u87)) hwr))
end
section
/-! take, takeOne -/
/-- what take(a, b) makes of the state, ahead of the merge and with it -/
def tk0 (S : TS) (a b : Nat) : TS := up (up (up (up (up S 7 (a * 7 + b) 1) 7 (b * 7 + a) 1) 6 a (S 6 a + 1)) 6 b (S 6 b + 1)) 8 0 (S 8 0 + wt S a b)
def takeS (S : TS) (n a b : Nat) : TS := if a ≠ 0 ∧ b ≠ 0 then mgS (tk0 S a b) n (S 5 a) (S 5 b) else tk0 S a b
set_option maxRecDepth 20000 in
theorem c_d_take {q : Nat → Nat} {kz : ClassId × ClassId × ClassId} {S : TS} {n a b : Nat} (hn : S 0 0 = (n : Int)) (h7 : n ≤ 7) (ha : a < n) (hb : b < n) (hab : a ≠ b) (h5 : ∀ j, j < n → 0 ≤ S 5 j ∧ S 5 j ≤ 6) (h6 : ∀ j, j < n → 0 ≤ S 6 j ∧ S 6 j ≤ 100) : ∀ l : Launch, MV l y_d_take b_d_take 4 ({ frames := 1, cells := 0, slots := 0, locals := 23 }) (td_ws q kz) (ty_k kz) [.ref (q 0), .int (iI a), .int (iI b)] S (fun S' => S' = takeS S n a b) := by
  refine mv_of (td_ok q kz) (by decide) (Nat.le_of_ble_eq_true rfl) (by simp [Value.category]) (Nat.le_of_ble_eq_true rfl) ?_
  intro X C hR
  show TW X (td_ws q kz) S 0 [some (.ref (q 0)), some (.int (iI a)), some (.int (iI b)), none] []
  refine tw_iload1 C d_d_take_0 ?_
  refine tw_bipush C d_d_take_1 rfl ?_
  refine tw_imul C d_d_take_3 ?_
  refine tw_iload2 C d_d_take_4 ?_
  refine tw_iadd C d_d_take_5 ?_
  refine tw_istore3 C d_d_take_6 ?_
  refine tw_aload0 C d_d_take_7 ?_
  refine g_d7 C d_d_take_8 ?_
  refine tw_iload3 C d_d_take_11 ?_
  refine tw_iconst C d_d_take_12 ?_
  refine as_d7 C (((a * 7) + b)) d_d_take_13 (by omega) (by omega) (by first | exact Or.inl rfl | exact Or.inr rfl) ?_
  refine tw_aload0 C d_d_take_14 ?_
  refine g_d7 C d_d_take_15 ?_
  refine tw_iload2 C d_d_take_18 ?_
  refine tw_bipush C d_d_take_19 rfl ?_
  refine tw_imul C d_d_take_21 ?_
  refine tw_iload1 C d_d_take_22 ?_
  refine tw_iadd C d_d_take_23 ?_
  refine tw_iconst C d_d_take_24 ?_
  refine as_d7 C (((b * 7) + a)) d_d_take_25 (by omega) (by omega) (by first | exact Or.inl rfl | exact Or.inr rfl) ?_
  refine tw_aload0 C d_d_take_26 ?_
  refine g_d6 C d_d_take_27 ?_
  refine tw_iload1 C d_d_take_30 ?_
  refine tw_dup2 C d_d_take_31 rfl rfl ?_
  have r6a := h6 a ha
  refine al_d6 C a d_d_take_32 (by omega) (by omega) (show _ = S 6 a from rfl) ?_
  refine tw_iconst C d_d_take_33 ?_
  refine tw_iadd C d_d_take_34 ?_
  refine tw_i2b C d_d_take_35 (by omega) ?_
  refine as_d6 C a d_d_take_36 (by omega) (by omega) (by omega) ?_
  refine tw_aload0 C d_d_take_37 ?_
  refine g_d6 C d_d_take_38 ?_
  refine tw_iload2 C d_d_take_41 ?_
  refine tw_dup2 C d_d_take_42 rfl rfl ?_
  have r6b := h6 b hb
  refine al_d6 C b d_d_take_43 (by omega) (by omega) (show _ = S 6 b from up_k _ (Ne.symm hab)) ?_
  refine tw_iconst C d_d_take_44 ?_
  refine tw_iadd C d_d_take_45 ?_
  refine tw_i2b C d_d_take_46 (by omega) ?_
  refine as_d6 C b d_d_take_47 (by omega) (by omega) (by omega) ?_
  refine tw_aload0 C d_d_take_48 ?_
  refine tw_dup C d_d_take_49 rfl ?_
  refine g_d8 C d_d_take_50 (show _ = S 8 0 from rfl) ?_
  refine tw_aload0 C d_d_take_53 ?_
  refine tw_iload1 C d_d_take_54 ?_
  refine tw_iload2 C d_d_take_55 ?_
  refine tw_calli C (td_ok q kz) (c_d_weight (a := a) (b := b) (by omega) (by omega)) cs_d_d_weight ⟨⟨rfl, rfl⟩, by decide, by decide⟩ rfl rfl rfl rfl rfl (Nat.le_of_ble_eq_true rfl) d_d_take_56 (fun r56 z56 hp56 => ?_)
  obtain ⟨hr56, hz⟩ := hp56
  replace hz := hz.symm
  subst hz
  replace hr56 : r56 = wt S a b := hr56
  subst hr56
  refine tw_iadd C d_d_take_59 ?_
  refine pt_d8 C d_d_take_60 ?_
  refine tw_S (show _ = tk0 S a b from rfl) ?_
  refine tw_iload1 C d_d_take_63 ?_
  refine tw_if_eq C d_d_take_64 (by omega) (fun u64 => ?_) (fun u64 => ?_)
  · exact hR _ _ _ _ d_d_take_87 ((if_neg (by omega)).symm)
  · refine tw_iload2 C d_d_take_67 ?_
    refine tw_if_eq C d_d_take_68 (by omega) (fun u68 => ?_) (fun u68 => ?_)
    · exact hR _ _ _ _ d_d_take_87 ((if_neg (by omega)).symm)
    · refine tw_aload0 C d_d_take_71 ?_
      refine tw_aload0 C d_d_take_72 ?_
      refine g_d5 C d_d_take_73 ?_
      refine tw_iload1 C d_d_take_76 ?_
      refine al_d5 C a d_d_take_77 (by omega) (by omega) (show _ = S 5 a from rfl) ?_
      refine tw_aload0 C d_d_take_78 ?_
      refine g_d5 C d_d_take_79 ?_
      refine tw_iload2 C d_d_take_82 ?_
      have r5a := h5 a ha
      have r5b := h5 b hb
      refine al_d5 C b d_d_take_83 (by omega) (by omega) (show _ = S 5 b from rfl) ?_
      refine tw_callv C (td_ok q kz) (c_d_merge (S := tk0 S a b) (n := n) (x := S 5 a) (y := S 5 b) hn h7 r5a r5b h5) cs_d_d_merge ⟨⟨rfl, rfl⟩, by decide, by decide⟩ rfl rfl rfl rfl rfl (Nat.le_of_ble_eq_true rfl) d_d_take_84 (fun z84 hp84 => ?_)
      exact hR _ _ _ _ d_d_take_87 (by rw [hp84]; exact (if_pos ⟨by omega, by omega⟩).symm)
set_option maxRecDepth 20000 in
theorem c_d_takeOne {q : Nat → Nat} {kz : ClassId × ClassId × ClassId} {S : TS} {n a b : Nat} (hn : S 0 0 = (n : Int)) (h7 : n ≤ 7) (ha : a < n) (hb : b < n) (hab : a ≠ b) (h5 : ∀ j, j < n → 0 ≤ S 5 j ∧ S 5 j ≤ 6) (h6 : ∀ j, j < n → 0 ≤ S 6 j ∧ S 6 j ≤ 100) : ∀ l : Launch, MI l y_d_takeOne b_d_takeOne 3 .boolean ({ frames := 2, cells := 0, slots := 0, locals := 46 }) (td_ws q kz) (ty_k kz) [.ref (q 0), .int (iI a), .int (iI b)] S (fun r S' => (r = 0 ∧ S' = S ∧ (2 ≤ S 6 a ∨ 2 ≤ S 6 b ∨ (a ≠ 0 ∧ S 5 a = S 5 b))) ∨ (r = 1 ∧ S' = takeS S n a b ∧ S 6 a < 2 ∧ S 6 b < 2 ∧ (a = 0 ∨ S 5 a ≠ S 5 b))) := by
  refine mi_of (td_ok q kz) (by decide) (Nat.le_of_ble_eq_true rfl) (by simp [Value.category]) (Nat.le_of_ble_eq_true rfl) ?_
  intro X C hR
  show TW X (td_ws q kz) S 0 [some (.ref (q 0)), some (.int (iI a)), some (.int (iI b))] []
  refine tw_aload0 C d_d_takeOne_0 ?_
  refine g_d6 C d_d_takeOne_1 ?_
  refine tw_iload1 C d_d_takeOne_4 ?_
  refine al_d6 C a d_d_takeOne_5 (by omega) (by omega) rfl ?_
  have r5 := h6 a (by omega)
  refine tw_iconst C d_d_takeOne_6 ?_
  refine tw_icmp_ge C d_d_takeOne_7 (by omega) (by omega) (fun u7 => ?_) (fun u7 => ?_)
  · refine tw_iconst C d_d_takeOne_20 ?_
    exact hR _ _ _ _ _ d_d_takeOne_21 rfl (Or.inl ⟨rfl, rfl, by omega⟩)
  · refine tw_aload0 C d_d_takeOne_10 ?_
    refine g_d6 C d_d_takeOne_11 ?_
    refine tw_iload2 C d_d_takeOne_14 ?_
    refine al_d6 C b d_d_takeOne_15 (by omega) (by omega) rfl ?_
    have r15 := h6 b (by omega)
    refine tw_iconst C d_d_takeOne_16 ?_
    refine tw_icmp_lt C d_d_takeOne_17 (by omega) (by omega) (fun u17 => ?_) (fun u17 => ?_)
    · refine tw_iload1 C d_d_takeOne_22 ?_
      refine tw_if_eq C d_d_takeOne_23 (by omega) (fun u23 => ?_) (fun u23 => ?_)
      · refine tw_aload0 C d_d_takeOne_43 ?_
        refine tw_iload1 C d_d_takeOne_44 ?_
        refine tw_iload2 C d_d_takeOne_45 ?_
        refine tw_callv C (td_ok q kz) (c_d_take (n := n) (a := a) (b := b) hn h7 ha hb hab h5 h6) cs_d_d_take ⟨⟨rfl, rfl⟩, by decide, by decide⟩ rfl rfl rfl rfl rfl (Nat.le_of_ble_eq_true rfl) d_d_takeOne_46 (fun z46 hp46 => ?_)
        subst hp46
        refine tw_iconst C d_d_takeOne_49 ?_
        exact hR _ _ _ _ _ d_d_takeOne_50 rfl (Or.inr ⟨rfl, rfl, by omega, by omega, by omega⟩)
      · refine tw_aload0 C d_d_takeOne_26 ?_
        refine g_d5 C d_d_takeOne_27 ?_
        refine tw_iload1 C d_d_takeOne_30 ?_
        refine al_d5 C a d_d_takeOne_31 (by omega) (by omega) rfl ?_
        have r31 := h5 a (by omega)
        refine tw_aload0 C d_d_takeOne_32 ?_
        refine g_d5 C d_d_takeOne_33 ?_
        refine tw_iload2 C d_d_takeOne_36 ?_
        refine al_d5 C b d_d_takeOne_37 (by omega) (by omega) rfl ?_
        have r37 := h5 b (by omega)
        refine tw_icmp_ne C d_d_takeOne_38 (by omega) (by omega) (fun u38 => ?_) (fun u38 => ?_)
        · refine tw_aload0 C d_d_takeOne_43 ?_
          refine tw_iload1 C d_d_takeOne_44 ?_
          refine tw_iload2 C d_d_takeOne_45 ?_
          refine tw_callv C (td_ok q kz) (c_d_take (n := n) (a := a) (b := b) hn h7 ha hb hab h5 h6) cs_d_d_take ⟨⟨rfl, rfl⟩, by decide, by decide⟩ rfl rfl rfl rfl rfl (Nat.le_of_ble_eq_true rfl) d_d_takeOne_46 (fun z46 hp46 => ?_)
          subst hp46
          refine tw_iconst C d_d_takeOne_49 ?_
          exact hR _ _ _ _ _ d_d_takeOne_50 rfl (Or.inr ⟨rfl, rfl, by omega, by omega, by omega⟩)
        · refine tw_iconst C d_d_takeOne_41 ?_
          exact hR _ _ _ _ _ d_d_takeOne_42 rfl (Or.inl ⟨rfl, rfl, by omega⟩)
    · refine tw_iconst C d_d_takeOne_20 ?_
      exact hR _ _ _ _ _ d_d_takeOne_21 rfl (Or.inl ⟨rfl, rfl, by omega⟩)
end
section
/-! ===== finite sums and counts ===== -/
theorem sm_congr {f g : Nat → Int} : ∀ {n : Nat}, (∀ k, k < n → f k = g k) → sm f n = sm g n := by
  intro n
  induction n with
  | zero => intro _; rfl
  | succ n ih => intro h; show sm f n + f n = sm g n + g n; rw [ih (fun k hk => h k (by omega)), h n (by omega)]
theorem sm_add (f g : Nat → Int) : ∀ n : Nat, sm (fun k => f k + g k) n = sm f n + sm g n := by
  intro n
  induction n with
  | zero => rfl
  | succ n ih => show sm (fun k => f k + g k) n + (f n + g n) = (sm f n + f n) + (sm g n + g n); rw [ih]; omega
theorem sm_le {f g : Nat → Int} : ∀ {n : Nat}, (∀ k, k < n → f k ≤ g k) → sm f n ≤ sm g n := by
  intro n
  induction n with
  | zero => intro _; exact Int.le_refl _
  | succ n ih =>
    intro h
    show sm f n + f n ≤ sm g n + g n
    have h1 := ih (fun k hk => h k (by omega))
    have h2 := h n (by omega)
    omega
theorem sm_zero : ∀ n : Nat, sm (fun _ => 0) n = 0 := by
  intro n
  induction n with
  | zero => rfl
  | succ n ih => show sm (fun _ => 0) n + 0 = 0; rw [ih]; rfl
theorem sm_one : ∀ n : Nat, sm (fun _ => 1) n = n := by
  intro n
  induction n with
  | zero => rfl
  | succ n ih => show sm (fun _ => 1) n + 1 = _; rw [ih]; rfl
theorem sm_swap (f : Nat → Nat → Int) (m : Nat) : ∀ n : Nat, sm (fun i => sm (fun j => f i j) m) n = sm (fun j => sm (fun i => f i j) n) m := by
  intro n
  induction n with
  | zero => exact (sm_zero m).symm
  | succ n ih =>
    show sm (fun i => sm (fun j => f i j) m) n + sm (fun j => f n j) m = sm (fun j => sm (fun i => f i j) n + f n j) m
    rw [ih, ← sm_add]
theorem sm_single {f : Nat → Int} {k0 : Nat} : ∀ {n : Nat}, k0 < n → (∀ k, k < n → k ≠ k0 → f k = 0) → sm f n = f k0 := by
  intro n
  induction n with
  | zero => intro h; omega
  | succ n ih =>
    intro h h0
    show sm f n + f n = f k0
    by_cases e : k0 = n
    · subst e
      rw [sm_congr (g := fun _ => 0) (fun k hk => h0 k (by omega) (by omega)), sm_zero]; omega
    · rw [ih (by omega) (fun k hk => h0 k (by omega)), h0 n (by omega) (by omega)]; omega
theorem sm_nonneg {f : Nat → Int} {n : Nat} (h : ∀ k, k < n → 0 ≤ f k) : 0 ≤ sm f n := by
  have := sm_le (f := fun _ => 0) (g := f) h
  rw [sm_zero] at this; exact this
theorem sm_all_zero {f : Nat → Int} : ∀ {n : Nat}, (∀ k, k < n → 0 ≤ f k) → sm f n = 0 → ∀ k, k < n → f k = 0 := by
  intro n
  induction n with
  | zero => intro _ _ k hk; omega
  | succ n ih =>
    intro h h0 k hk
    have h1 : 0 ≤ sm f n := sm_nonneg (fun k hk => h k (by omega))
    have h2 := h n (by omega)
    have h3 : sm f n + f n = 0 := h0
    by_cases e : k = n
    · subst e; omega
    · exact ih (fun k hk => h k (by omega)) (by omega) k (by omega)
/-- the sum of f over the places where P holds -/
noncomputable def si (P : Nat → Prop) (f : Nat → Int) (n : Nat) : Int := sm (fun k => @ite Int (P k) (Classical.propDecidable _) (f k) 0) n
noncomputable def cn (P : Nat → Prop) (n : Nat) : Int := si P (fun _ => 1) n
theorem si_congr {P Q : Nat → Prop} {f g : Nat → Int} {n : Nat} (h : ∀ k, k < n → (P k ↔ Q k)) (hf : ∀ k, k < n → P k → f k = g k) : si P f n = si Q g n := by
  refine sm_congr (fun k hk => ?_)
  by_cases p : P k
  · rw [if_pos p, if_pos ((h k hk).mp p), hf k hk p]
  · rw [if_neg p, if_neg (fun q => p ((h k hk).mpr q))]
theorem si_none {P : Nat → Prop} {f : Nat → Int} {n : Nat} (h : ∀ k, k < n → ¬ P k) : si P f n = 0 := by
  rw [← sm_zero n]
  exact sm_congr (fun k hk => if_neg (h k hk))
theorem si_all {P : Nat → Prop} {f : Nat → Int} {n : Nat} (h : ∀ k, k < n → P k) : si P f n = sm f n :=
  sm_congr (fun k hk => if_pos (h k hk))
theorem si_split {P : Nat → Prop} (Q : Nat → Prop) (f : Nat → Int) (n : Nat) : si P f n = si (fun k => P k ∧ Q k) f n + si (fun k => P k ∧ ¬ Q k) f n := by
  unfold si
  rw [← sm_add]
  refine sm_congr (fun k hk => ?_)
  by_cases p : P k
  · by_cases q : Q k
    · rw [if_pos p, if_pos ⟨p, q⟩, if_neg (fun h => h.2 q)]; omega
    · rw [if_pos p, if_neg (fun h => q h.2), if_pos ⟨p, q⟩]; omega
  · rw [if_neg p, if_neg (fun h => p h.1), if_neg (fun h => p h.1)]; rfl
theorem si_one {P : Nat → Prop} {f : Nat → Int} {n k0 : Nat} (h0 : k0 < n) (p : P k0) : si P f n = si (fun k => P k ∧ k ≠ k0) f n + f k0 := by
  rw [si_split (fun k => k ≠ k0) f n]
  congr 1
  have h : si (fun k => P k ∧ ¬ k ≠ k0) f n = (fun k => @ite Int (P k ∧ ¬ k ≠ k0) (Classical.propDecidable _) (f k) 0) k0 := sm_single h0 (fun k hk hne => if_neg (fun q => q.2 hne))
  rw [h]
  exact if_pos ⟨p, fun q => q rfl⟩
theorem si_le {P : Nat → Prop} {f g : Nat → Int} {n : Nat} (h : ∀ k, k < n → P k → f k ≤ g k) : si P f n ≤ si P g n := by
  refine sm_le (fun k hk => ?_)
  by_cases p : P k
  · rw [if_pos p, if_pos p]; exact h k hk p
  · rw [if_neg p, if_neg p]; exact Int.le_refl _
theorem cn_mono {P Q : Nat → Prop} {n : Nat} (h : ∀ k, k < n → P k → Q k) : cn P n ≤ cn Q n := by
  refine sm_le (fun k hk => ?_)
  by_cases p : P k
  · rw [if_pos p, if_pos (h k hk p)]; exact Int.le_refl _
  · rw [if_neg p]
    by_cases q : Q k
    · rw [if_pos q]; show (0 : Int) ≤ 1; decide
    · rw [if_neg q]; exact Int.le_refl _
theorem cn_nonneg (P : Nat → Prop) (n : Nat) : 0 ≤ cn P n := by
  refine sm_nonneg (fun k hk => ?_)
  by_cases p : P k
  · rw [if_pos p]; show (0 : Int) ≤ 1; decide
  · rw [if_neg p]; exact Int.le_refl _
theorem cn_pos {P : Nat → Prop} {n : Nat} (h : 0 < cn P n) : ∃ k, k < n ∧ P k := by
  refine Classical.byContradiction (fun q => ?_)
  have : cn P n = 0 := si_none (fun k hk p => q ⟨k, hk, p⟩)
  omega
theorem cn_ex {P : Nat → Prop} {n k0 : Nat} (h0 : k0 < n) (p : P k0) : 1 ≤ cn P n := by
  have h1 : cn P n = cn (fun k => P k ∧ k ≠ k0) n + 1 := si_one h0 p
  have := cn_nonneg (fun k => P k ∧ k ≠ k0) n
  omega
theorem cn_le {P : Nat → Prop} (n : Nat) : cn P n ≤ n := by
  have h : cn P n ≤ cn (fun _ => True) n := cn_mono (fun _ _ _ => trivial)
  have h2 : cn (fun _ => True) n = sm (fun _ => 1) n := si_all (fun _ _ => trivial)
  rw [h2, sm_one] at h
  exact h
/-- at most one more -/
theorem cn_succ {P Q : Nat → Prop} {n k0 : Nat} (h : ∀ k, k < n → P k → Q k ∨ k = k0) : cn P n ≤ cn Q n + 1 := by
  by_cases p : k0 < n ∧ P k0
  · have h1 : cn P n = cn (fun k => P k ∧ k ≠ k0) n + 1 := si_one p.1 p.2
    have h2 : cn (fun k => P k ∧ k ≠ k0) n ≤ cn Q n := cn_mono (fun k hk q => (h k hk q.1).resolve_right q.2)
    omega
  · have h2 : cn P n ≤ cn Q n := cn_mono (fun k hk q => by
      rcases h k hk q with a | a
      · exact a
      · exact absurd ⟨a ▸ hk, a ▸ q⟩ p)
    omega
theorem cn_lt {P Q : Nat → Prop} {n k0 : Nat} (h : ∀ k, k < n → P k → Q k) (h0 : k0 < n) (q : Q k0) (p : ¬ P k0) : cn P n + 1 ≤ cn Q n := by
  have h1 : cn Q n = cn (fun k => Q k ∧ k ≠ k0) n + 1 := si_one h0 q
  have h2 : cn P n ≤ cn (fun k => Q k ∧ k ≠ k0) n := cn_mono (fun k hk a => ⟨h k hk a, fun e => p (e ▸ a)⟩)
  omega
theorem cn_split {P : Nat → Prop} (Q : Nat → Prop) (n : Nat) : cn P n = cn (fun k => P k ∧ Q k) n + cn (fun k => P k ∧ ¬ Q k) n := si_split Q _ n
theorem cn_congr {P Q : Nat → Prop} {n : Nat} (h : ∀ k, k < n → (P k ↔ Q k)) : cn P n = cn Q n := si_congr h (fun _ _ _ => rfl)
/-- domination: if for every i at least (number of P) - i of P's numbers are not under w i, then w's sum is not over P's -/
theorem dom_le {f w : Nat → Int} {n : Nat} : ∀ (m : Nat) (P : Nat → Prop), cn P n = m → (∀ i, i < m → (m : Int) - i ≤ cn (fun k => P k ∧ w i ≤ f k) n) → sm w m ≤ si P f n := by
  intro m
  induction m with
  | zero =>
    intro P h _
    have h0 : si P f n = 0 := si_none (fun k hk p => by have := cn_ex hk p; omega)
    rw [h0]; exact Int.le_refl _
  | succ m ih =>
    intro P h hd
    obtain ⟨k0, hk0, p0, hw⟩ := cn_pos (P := fun k => P k ∧ w m ≤ f k) (n := n) (by have := hd m (by omega); omega)
    have h1 : si P f n = si (fun k => P k ∧ k ≠ k0) f n + f k0 := si_one hk0 p0
    have h2 : cn P n = cn (fun k => P k ∧ k ≠ k0) n + 1 := si_one hk0 p0
    have h3 := ih (fun k => P k ∧ k ≠ k0) (by omega) (fun i hi => by
      have a := hd i (by omega)
      have b : cn (fun k => P k ∧ w i ≤ f k) n ≤ cn (fun k => (P k ∧ k ≠ k0) ∧ w i ≤ f k) n + 1 := cn_succ (k0 := k0) (fun k _ q => by
        by_cases e : k = k0
        · exact Or.inr e
        · exact Or.inl ⟨⟨q.1, e⟩, q.2⟩)
      omega)
    show sm w m + w m ≤ _
    omega
/-! ===== injective maps of [0, j) into [0, n) ===== -/
theorem inj_cnt {v : Nat → Nat} {j : Nat} (hi : ∀ a b, a < j → b < j → v a = v b → a = b) (x : Nat) : cn (fun k => v k = x) j ≤ 1 := by
  by_cases h : ∃ k0, k0 < j ∧ v k0 = x
  · obtain ⟨k0, h0, e0⟩ := h
    have := cn_succ (P := fun k => v k = x) (Q := fun _ => False) (n := j) (k0 := k0) (fun k hk e => Or.inr (hi k k0 hk h0 (by omega)))
    have h2 : cn (fun _ => False) j = 0 := si_none (fun _ _ q => q)
    omega
  · have : cn (fun k => v k = x) j = 0 := si_none (fun k hk e => h ⟨k, hk, e⟩)
    omega
theorem map_cnt {v : Nat → Nat} {j n : Nat} (hv : ∀ a, a < j → v a < n) : sm (fun x => cn (fun k => v k = x) j) n = j := by
  show sm (fun x => sm (fun k => @ite Int (v k = x) (Classical.propDecidable _) 1 0) j) n = j
  rw [sm_swap, ← sm_one j]
  refine sm_congr (fun k hk => ?_)
  have h : sm (fun x => @ite Int (v k = x) (Classical.propDecidable _) 1 0) n = (fun x => @ite Int (v k = x) (Classical.propDecidable _) 1 0) (v k) := sm_single (hv k hk) (fun x _ hx => if_neg (fun e => hx e.symm))
  rw [h]; exact if_pos rfl
theorem inj_le {v : Nat → Nat} {j n : Nat} (hv : ∀ a, a < j → v a < n) (hi : ∀ a b, a < j → b < j → v a = v b → a = b) : j ≤ n := by
  have h1 := map_cnt hv
  have h2 : sm (fun x => cn (fun k => v k = x) j) n ≤ sm (fun _ => 1) n := sm_le (fun x _ => inj_cnt hi x)
  rw [sm_one] at h2
  omega
theorem sur_le {v : Nat → Nat} {j n : Nat} (hv : ∀ a, a < j → v a < n) (hs : ∀ x, x < n → ∃ a, a < j ∧ v a = x) : n ≤ j := by
  have h1 := map_cnt hv
  have h2 : sm (fun _ => 1) n ≤ sm (fun x => cn (fun k => v k = x) j) n := sm_le (fun x hx => by
    obtain ⟨a, ha, e⟩ := hs x hx
    exact cn_ex ha e)
  rw [sm_one] at h2
  omega
theorem inj_one {v : Nat → Nat} {n : Nat} (hv : ∀ a, a < n → v a < n) (hi : ∀ a b, a < n → b < n → v a = v b → a = b) : ∀ x, x < n → cn (fun k => v k = x) n = 1 := by
  have h1 := map_cnt hv
  have h2 : sm (fun x => 1 - cn (fun k => v k = x) n) n = 0 := by
    have h3 := sm_add (fun x => 1 - cn (fun k => v k = x) n) (fun x => cn (fun k => v k = x) n) n
    rw [sm_congr (g := fun _ => 1) (fun k _ => by omega), sm_one, h1] at h3
    omega
  intro x hx
  have := sm_all_zero (fun k _ => by have := inj_cnt hi k; omega) h2 x hx
  omega
theorem inj_sur {v : Nat → Nat} {n : Nat} (hv : ∀ a, a < n → v a < n) (hi : ∀ a b, a < n → b < n → v a = v b → a = b) (x : Nat) (hx : x < n) : ∃ a, a < n ∧ v a = x := by
  have := inj_one hv hi x hx
  exact cn_pos (by omega)
theorem inj_sm {v : Nat → Nat} {n : Nat} (hv : ∀ a, a < n → v a < n) (hi : ∀ a b, a < n → b < n → v a = v b → a = b) (f : Nat → Int) : sm (fun k => f (v k)) n = sm f n := by
  have h1 : sm (fun k => f (v k)) n = sm (fun k => sm (fun x => @ite Int (v k = x) (Classical.propDecidable _) (f x) 0) n) n := by
    refine sm_congr (fun k hk => ?_)
    have h : sm (fun x => @ite Int (v k = x) (Classical.propDecidable _) (f x) 0) n = (fun x => @ite Int (v k = x) (Classical.propDecidable _) (f x) 0) (v k) := sm_single (hv k hk) (fun x _ hx => if_neg (fun e => hx e.symm))
    rw [h]; exact (if_pos rfl).symm
  rw [h1, sm_swap]
  refine sm_congr (fun x hx => ?_)
  obtain ⟨a, ha, e⟩ := inj_sur hv hi x hx
  have h : sm (fun i => @ite Int (v i = x) (Classical.propDecidable _) (f x) 0) n = (fun i => @ite Int (v i = x) (Classical.propDecidable _) (f x) 0) a := sm_single ha (fun i hi2 hne => if_neg (fun e2 => hne (hi i a hi2 ha (by omega))))
  rw [h]; exact if_pos e
end
section
/-! ===== tours ===== -/
/-- c goes through all n cities once, from 0 back to 0 -/
def Tour (n : Nat) (c : Nat → Nat) : Prop := c 0 = 0 ∧ c n = 0 ∧ (∀ k, k < n → c k < n) ∧ ∀ i j, i < n → j < n → c i = c j → i = j
def Adj (n : Nat) (c : Nat → Nat) (a b : Nat) : Prop := ∃ k, k < n ∧ ((c k = a ∧ c (k + 1) = b) ∨ (c k = b ∧ c (k + 1) = a))
def Fits (n : Nat) (R : Nat → Int) (c : Nat → Nat) : Prop := (∀ k, k < n → R (c k * 7 + c (k + 1)) ≠ 2) ∧ ∀ a b, a < b → b < n → R (a * 7 + b) = 1 → Adj n c a b
def Cost (n : Nat) (M : Nat → Int) (c : Nat → Nat) : Int := sm (fun k => M (c k * 7 + c (k + 1))) n
def Sy (n : Nat) (M : Nat → Int) : Prop := ∀ a b, a < n → b < n → M (a * 7 + b) = M (b * 7 + a)
theorem Adj.symm {n : Nat} {c : Nat → Nat} {a b : Nat} (h : Adj n c a b) : Adj n c b a := by
  obtain ⟨k, hk, h⟩ := h
  exact ⟨k, hk, h.symm⟩
/-- the place behind i -/
theorem Tour.nx {n : Nat} {c : Nat → Nat} (h : Tour n c) {i : Nat} (hi : i < n) : ∃ i', i' < n ∧ c (i + 1) = c i' ∧ ((i' = i + 1) ∨ (i' = 0 ∧ i + 1 = n)) := by
  by_cases e : i + 1 = n
  · exact ⟨0, by omega, by rw [e, h.2.1, h.1], Or.inr ⟨rfl, e⟩⟩
  · exact ⟨i + 1, by omega, rfl, Or.inl rfl⟩
theorem Tour.lt {n : Nat} {c : Nat → Nat} (h : Tour n c) {i : Nat} (hi : i ≤ n) (hn : 0 < n) : c i < n := by
  by_cases e : i = n
  · rw [e, h.2.1]; exact hn
  · exact h.2.2.1 i (by omega)
theorem Tour.ne {n : Nat} {c : Nat → Nat} (h : Tour n c) (hn : 3 ≤ n) {i : Nat} (hi : i < n) : c i ≠ c (i + 1) := by
  obtain ⟨i', h1, h2, h3⟩ := h.nx hi
  intro e
  have := h.2.2.2 i i' hi h1 (by omega)
  omega
/-- a link lies at one place -/
theorem Tour.one {n : Nat} {c : Nat → Nat} (h : Tour n c) (hn : 3 ≤ n) {i j : Nat} (hi : i < n) (hj : j < n) (he : (c i = c j ∧ c (i + 1) = c (j + 1)) ∨ (c i = c (j + 1) ∧ c (i + 1) = c j)) : i = j := by
  obtain ⟨i', h1, h2, h3⟩ := h.nx hi
  obtain ⟨j', g1, g2, g3⟩ := h.nx hj
  rcases he with ⟨a, b⟩ | ⟨a, b⟩
  · exact h.2.2.2 i j hi hj a
  · have e1 := h.2.2.2 i j' hi g1 (by omega)
    have e2 := h.2.2.2 i' j h1 hj (by omega)
    omega
theorem Tour.sur {n : Nat} {c : Nat → Nat} (h : Tour n c) {x : Nat} (hx : x < n) : ∃ k, k < n ∧ c k = x := inj_sur h.2.2.1 h.2.2.2 x hx
theorem Adj.lt {n : Nat} {c : Nat → Nat} {a b : Nat} (h : Tour n c) (ha : Adj n c a b) : a < n ∧ b < n := by
  obtain ⟨k, hk, ⟨e1, e2⟩ | ⟨e1, e2⟩⟩ := ha
  · have := h.lt (i := k) (by omega) (by omega)
    have := h.lt (i := k + 1) (by omega) (by omega)
    omega
  · have := h.lt (i := k) (by omega) (by omega)
    have := h.lt (i := k + 1) (by omega) (by omega)
    omega
/-- a city has two neighbours -/
theorem Tour.two {n : Nat} {c : Nat → Nat} (h : Tour n c) (hn : 3 ≤ n) {k : Nat} (hk : k < n) : ∃ p, p < n ∧ c (p + 1) = c k ∧ p ≠ k ∧ c p ≠ c (k + 1) ∧ ∀ y, Adj n c (c k) y → y = c (k + 1) ∨ y = c p := by
  have hp : ∃ p, p < n ∧ c (p + 1) = c k ∧ ((p + 1 = k) ∨ (k = 0 ∧ p + 1 = n)) := by
    by_cases e : k = 0
    · exact ⟨n - 1, by omega, by rw [show n - 1 + 1 = n by omega, h.2.1, e, h.1], Or.inr ⟨e, by omega⟩⟩
    · exact ⟨k - 1, by omega, by rw [show k - 1 + 1 = k by omega], Or.inl (by omega)⟩
  obtain ⟨p, hp1, hp2, hp3⟩ := hp
  refine ⟨p, hp1, hp2, by omega, ?_, fun y hy => ?_⟩
  · intro e
    have := h.one hn hp1 hk (Or.inr ⟨e, hp2⟩)
    omega
  · obtain ⟨i, hi, ⟨e1, e2⟩ | ⟨e1, e2⟩⟩ := hy
    · have := h.2.2.2 i k hi hk e1
      subst this
      exact Or.inl e2.symm
    · obtain ⟨i', h1, h2, h3⟩ := h.nx hi
      have e3 := h.2.2.2 i' k h1 hk (by omega)
      have e4 : i = p := by omega
      subst e4
      exact Or.inr e1.symm
theorem Tour.deg {n : Nat} {c : Nat → Nat} (h : Tour n c) (hn : 3 ≤ n) {x : Nat} (hx : x < n) : cn (fun y => Adj n c x y) n ≤ 2 := by
  obtain ⟨k, hk, rfl⟩ := h.sur hx
  obtain ⟨p, hp, hp2, hpk, hne, hall⟩ := h.two hn hk
  have h1 : cn (fun y => Adj n c (c k) y) n ≤ cn (fun y => y = c p) n + 1 := cn_succ (k0 := c (k + 1)) (fun y _ hy => (hall y hy).symm)
  have h2 : cn (fun y => y = c p) n ≤ cn (fun _ => False) n + 1 := cn_succ (k0 := c p) (fun y _ hy => Or.inr hy)
  have h3 : cn (fun _ => False) n = 0 := si_none (fun _ _ q => q)
  omega
/-- the penalties over a tour -/
theorem Tour.pen {n : Nat} {c : Nat → Nat} (h : Tour n c) (hn : 0 < n) (f : Nat → Int) : sm (fun k => f (c k) + f (c (k + 1))) n = 2 * sm f n := by
  rw [sm_add]
  have h1 : sm (fun k => f (c k)) n = sm f n := inj_sm h.2.2.1 h.2.2.2 f
  have h2 : ∀ m, sm (fun k => f (c (k + 1))) m = sm (fun k => f (c k)) m + f (c m) - f (c 0) := by
    intro m
    induction m with
    | zero => show (0 : Int) = 0 + f (c 0) - f (c 0); omega
    | succ m ih =>
      show sm (fun k => f (c (k + 1))) m + f (c (m + 1)) = sm (fun k => f (c k)) m + f (c m) + f (c (m + 1)) - f (c 0)
      rw [ih]; omega
  rw [h2 n, h1, h.1, h.2.1]
  omega
/-- labels along a tour: no more labels than steps between labels, and one -/
def lab (n : Nat) (g : Nat → Int) (v : Nat) : Prop := ∃ x, 1 ≤ x ∧ x < n ∧ g x = (v : Int)
def pth (n k : Nat) : Prop := 1 ≤ k ∧ k + 1 < n
theorem Tour.labs {n : Nat} {c : Nat → Nat} (h : Tour n c) (hn : 3 ≤ n) (g : Nat → Int) : cn (lab n g) n ≤ 1 + cn (fun k => pth n k ∧ g (c k) ≠ g (c (k + 1))) n := by
  have key : ∀ j, j + 1 < n → cn (fun v => ∃ i, 1 ≤ i ∧ i ≤ j + 1 ∧ g (c i) = (v : Int)) n ≤ 1 + cn (fun k => 1 ≤ k ∧ g (c k) ≠ g (c (k + 1))) (j + 1) := by
    intro j
    induction j with
    | zero =>
      intro hj
      have h1 : cn (fun v => ∃ i, 1 ≤ i ∧ i ≤ 0 + 1 ∧ g (c i) = (v : Int)) n ≤ cn (fun _ => False) n + 1 := cn_succ (k0 := (g (c 1)).toNat) (fun v _ ⟨i, h1, h2, h3⟩ => Or.inr (by rw [show i = 1 by omega] at h3; omega))
      have h3 : cn (fun _ => False) n = 0 := si_none (fun _ _ q => q)
      have h4 := cn_nonneg (fun k => 1 ≤ k ∧ g (c k) ≠ g (c (k + 1))) (0 + 1)
      omega
    | succ j ih =>
      intro hj
      have h0 := ih (by omega)
      have e : cn (fun k => 1 ≤ k ∧ g (c k) ≠ g (c (k + 1))) (j + 1 + 1) = cn (fun k => 1 ≤ k ∧ g (c k) ≠ g (c (k + 1))) (j + 1) + @ite Int (1 ≤ j + 1 ∧ g (c (j + 1)) ≠ g (c (j + 1 + 1))) (Classical.propDecidable _) 1 0 := rfl
      rw [e]
      by_cases q : g (c (j + 1)) = g (c (j + 1 + 1))
      · rw [if_neg (fun z => z.2 q)]
        have : cn (fun v => ∃ i, 1 ≤ i ∧ i ≤ j + 1 + 1 ∧ g (c i) = (v : Int)) n ≤ cn (fun v => ∃ i, 1 ≤ i ∧ i ≤ j + 1 ∧ g (c i) = (v : Int)) n := cn_mono (fun v _ ⟨i, h1, h2, h3⟩ => by
          by_cases ei : i = j + 1 + 1
          · exact ⟨j + 1, by omega, by omega, by rw [q, ← ei]; exact h3⟩
          · exact ⟨i, h1, by omega, h3⟩)
        omega
      · rw [if_pos ⟨by omega, q⟩]
        have : cn (fun v => ∃ i, 1 ≤ i ∧ i ≤ j + 1 + 1 ∧ g (c i) = (v : Int)) n ≤ cn (fun v => ∃ i, 1 ≤ i ∧ i ≤ j + 1 ∧ g (c i) = (v : Int)) n + 1 := cn_succ (k0 := (g (c (j + 1 + 1))).toNat) (fun v _ ⟨i, h1, h2, h3⟩ => by
          by_cases ei : i = j + 1 + 1
          · exact Or.inr (by rw [ei] at h3; omega)
          · exact Or.inl ⟨i, h1, by omega, h3⟩)
        omega
  obtain ⟨m, rfl⟩ : ∃ m, n = m + 2 := ⟨n - 2, by omega⟩
  have h1 := key m (by omega)
  have h2 : cn (lab (m + 2) g) (m + 2) ≤ cn (fun v => ∃ i, 1 ≤ i ∧ i ≤ m + 1 ∧ g (c i) = (v : Int)) (m + 2) := cn_mono (fun v _ ⟨x, x1, x2, x3⟩ => by
    obtain ⟨k, hk, e⟩ := h.sur x2
    refine ⟨k, ?_, by omega, by rw [e]; exact x3⟩
    by_cases k0 : k = 0
    · rw [k0, h.1] at e; omega
    · omega)
  have h3 : cn (fun k => pth (m + 2) k ∧ g (c k) ≠ g (c (k + 1))) (m + 2) = cn (fun k => pth (m + 2) k ∧ g (c k) ≠ g (c (k + 1))) (m + 1) + @ite Int (pth (m + 2) (m + 1) ∧ g (c (m + 1)) ≠ g (c (m + 1 + 1))) (Classical.propDecidable _) 1 0 := rfl
  rw [if_neg (fun z => by have := z.1.2; omega)] at h3
  have h4 : cn (fun k => pth (m + 2) k ∧ g (c k) ≠ g (c (k + 1))) (m + 1) = cn (fun k => 1 ≤ k ∧ g (c k) ≠ g (c (k + 1))) (m + 1) := cn_congr (fun k hk => ⟨fun z => ⟨z.1.1, z.2⟩, fun z => ⟨⟨z.1, by omega⟩, z.2⟩⟩)
  omega
theorem pth_cnt {n : Nat} (hn : 3 ≤ n) : cn (pth n) n = (n : Int) - 2 := by
  have h1 : cn (fun _ => True) n = n := by
    have : cn (fun _ => True) n = sm (fun _ => 1) n := si_all (fun _ _ => trivial)
    rw [this, sm_one]
  have h2 : cn (fun _ => True) n = cn (fun k => True ∧ k ≠ 0) n + 1 := si_one (by omega) trivial
  have h3 : cn (fun k => True ∧ k ≠ 0) n = cn (fun k => (True ∧ k ≠ 0) ∧ k ≠ n - 1) n + 1 := si_one (by omega) ⟨trivial, by omega⟩
  have h4 : cn (fun k => (True ∧ k ≠ 0) ∧ k ≠ n - 1) n = cn (pth n) n := cn_congr (fun k hk => ⟨fun z => ⟨by omega, by omega⟩, fun z => ⟨⟨trivial, by have := z.1; omega⟩, by have := z.2; omega⟩⟩)
  omega
end
section
/-! ===== a connected graph in which every city has two links is a tour ===== -/
theorem two_nb {n : Nat} {F : Nat → Prop} (h : cn F n = 2) {u : Nat} (hu : u < n) (fu : F u) : ∃ z, z < n ∧ z ≠ u ∧ F z ∧ ∀ y, y < n → F y → y = u ∨ y = z := by
  have h1 : cn F n = cn (fun k => F k ∧ k ≠ u) n + 1 := si_one hu fu
  obtain ⟨z, hz, fz, zu⟩ := cn_pos (P := fun k => F k ∧ k ≠ u) (n := n) (by omega)
  have h2 : cn (fun k => F k ∧ k ≠ u) n = cn (fun k => (F k ∧ k ≠ u) ∧ k ≠ z) n + 1 := si_one hz ⟨fz, zu⟩
  refine ⟨z, hz, zu, fz, fun y hy fy => ?_⟩
  refine Classical.byContradiction (fun q => ?_)
  have := cn_ex (P := fun k => (F k ∧ k ≠ u) ∧ k ≠ z) hy ⟨⟨fy, fun e => q (Or.inl e)⟩, fun e => q (Or.inr e)⟩
  omega
theorem walk_of {n : Nat} (hn : 3 ≤ n) {E : Nat → Nat → Prop} (hs : ∀ x y, x < n → y < n → E x y → E y x) (hd : ∀ x, x < n → cn (E x) n = 2) :
    ∃ v : Nat → Nat, v 0 = 0 ∧ ∀ i, v i < n ∧ v (i + 1) < n ∧ E (v i) (v (i + 1)) ∧ v (i + 2) ≠ v i ∧ ∀ y, y < n → E (v (i + 1)) y → y = v i ∨ y = v (i + 2) := by
  have hnx : ∀ u w : Nat, ∃ z, u < n → w < n → E w u → z < n ∧ z ≠ u ∧ E w z ∧ ∀ y, y < n → E w y → y = u ∨ y = z := by
    intro u w
    by_cases q : u < n ∧ w < n ∧ E w u
    · obtain ⟨z, hz⟩ := two_nb (hd w q.2.1) q.1 q.2.2
      exact ⟨z, fun _ _ _ => hz⟩
    · exact ⟨0, fun a b c => absurd ⟨a, b, c⟩ q⟩
  obtain ⟨x, hx, ex⟩ := cn_pos (P := E 0) (n := n) (by have := hd 0 (by omega); omega)
  let s : Nat → Nat × Nat := fun i => Nat.rec (0, x) (fun _ p => (p.2, Classical.choose (hnx p.1 p.2))) i
  have hstep : ∀ i, s (i + 1) = ((s i).2, Classical.choose (hnx (s i).1 (s i).2)) := fun _ => rfl
  have hinv : ∀ i, (s i).1 < n ∧ (s i).2 < n ∧ E (s i).1 (s i).2 := by
    intro i
    induction i with
    | zero => exact ⟨by show 0 < n; omega, hx, ex⟩
    | succ i ih =>
      have := Classical.choose_spec (hnx (s i).1 (s i).2) ih.1 ih.2.1 (hs _ _ ih.1 ih.2.1 ih.2.2)
      rw [hstep]
      exact ⟨ih.2.1, this.1, this.2.2.1⟩
  refine ⟨fun i => (s i).1, rfl, fun i => ?_⟩
  have ih := hinv i
  have := Classical.choose_spec (hnx (s i).1 (s i).2) ih.1 ih.2.1 (hs _ _ ih.1 ih.2.1 ih.2.2)
  have e1 : (s (i + 1)).1 = (s i).2 := rfl
  have e2 : (s (i + 2)).1 = Classical.choose (hnx (s i).1 (s i).2) := rfl
  refine ⟨ih.1, ?_, ?_, ?_, ?_⟩
  · show (s (i + 1)).1 < n; rw [e1]; exact ih.2.1
  · show E (s i).1 (s (i + 1)).1; rw [e1]; exact ih.2.2
  · show (s (i + 2)).1 ≠ (s i).1; rw [e2]; exact this.2.1
  · intro y hy fy
    show y = (s i).1 ∨ y = (s (i + 2)).1
    rw [e2]
    have fy : E (s (i + 1)).1 y := fy
    rw [e1] at fy
    exact this.2.2.2 y hy fy
theorem cyc_of {n : Nat} (hn : 3 ≤ n) {E : Nat → Nat → Prop} (hs : ∀ x y, x < n → y < n → E x y → E y x) (hir : ∀ x, x < n → ¬ E x x) (hd : ∀ x, x < n → cn (E x) n = 2)
    (hcon : ∀ P : Nat → Prop, (∀ x y, 1 ≤ x → x < n → 1 ≤ y → y < n → E x y → P x → P y) → ∀ x y, 1 ≤ x → x < n → 1 ≤ y → y < n → P x → P y) : ∃ c, Tour n c ∧ ∀ k, k < n → E (c k) (c (k + 1)) := by
  obtain ⟨v, v0, hv⟩ := walk_of hn hs hd
  have hrep : ∃ j, ∃ i, i < j ∧ v i = v j := by
    refine Classical.byContradiction (fun q => ?_)
    have : n + 1 ≤ n := inj_le (v := v) (j := n + 1) (n := n) (fun a _ => (hv a).1) (fun a b _ _ e => by
      rcases Nat.lt_trichotomy a b with g | g | g
      · exact absurd ⟨b, a, g, e⟩ q
      · exact g
      · exact absurd ⟨a, b, g, e.symm⟩ q)
    omega
  obtain ⟨j, ⟨i, hij, hvij⟩, hmin⟩ := pk_least (fun j => ∃ i, i < j ∧ v i = v j) hrep
  have hinj : ∀ a b, a < j → b < j → v a = v b → a = b := by
    intro a b ha hb e
    rcases Nat.lt_trichotomy a b with g | g | g
    · exact absurd ⟨a, g, e⟩ (hmin b hb)
    · exact g
    · exact absurd ⟨b, g, e.symm⟩ (hmin a ha)
  have hi0 : i = 0 := by
    refine Classical.byContradiction (fun q => ?_)
    obtain ⟨i1, rfl⟩ : ∃ i1, i = i1 + 1 := ⟨i - 1, by omega⟩
    obtain ⟨j1, rfl⟩ : ∃ j1, j = j1 + 1 := ⟨j - 1, by omega⟩
    have a := hv j1
    have e1 : E (v (i1 + 1)) (v j1) := by rw [hvij]; exact hs _ _ a.1 a.2.1 a.2.2.1
    rcases (hv i1).2.2.2.2 (v j1) a.1 e1 with g | g
    · have := hinj j1 i1 (by omega) (by omega) g
      omega
    · by_cases c1 : i1 + 2 < j1 + 1
      · have := hinj j1 (i1 + 2) (by omega) c1 g
        subst this
        exact (hv (i1 + 1)).2.2.2.1 hvij.symm
      · have : j1 = i1 + 1 := by omega
        subst this
        rw [hvij] at a
        have b := (hv (i1 + 1 + 1)).1
        exact hir _ b a.2.2.1
  subst hi0
  have h3 : 3 ≤ j := by
    refine Classical.byContradiction (fun q => ?_)
    by_cases j1 : j = 1
    · subst j1
      have a := hv 0
      have b := a.2.2.1
      rw [← hvij] at b
      exact hir _ a.1 b
    · have : j = 2 := by omega
      subst this
      exact (hv 0).2.2.2.1 hvij.symm
  have hvj : v j = 0 := by rw [← hvij]; exact v0
  have hne0 : ∀ a, 1 ≤ a → a < j → v a ≠ 0 := fun a h1 h2 e => by
    have := hinj a 0 h2 (by omega) (by rw [e, v0])
    omega
  have hP := hcon (fun y => ∃ a, 1 ≤ a ∧ a < j ∧ v a = y) (by
    rintro x y - hx hy1 hy hxy ⟨a, a1, a2, rfl⟩
    obtain ⟨b, rfl⟩ : ∃ b, a = b + 1 := ⟨a - 1, by omega⟩
    rcases (hv b).2.2.2.2 y hy hxy with g | g
    · by_cases hb : b = 0
      · subst hb; rw [v0] at g; omega
      · exact ⟨b, by omega, by omega, g.symm⟩
    · by_cases hb : b + 2 = j
      · rw [hb, hvj] at g; omega
      · exact ⟨b + 2, by omega, by omega, g.symm⟩) (v 1)
  have hsur : ∀ x, x < n → ∃ a, a < j ∧ v a = x := by
    intro x hx
    by_cases x0 : x = 0
    · exact ⟨0, by omega, by rw [v0, x0]⟩
    · have h1 := hne0 1 (by omega) (by omega)
      obtain ⟨a, a1, a2, a3⟩ := hP x (by omega) (hv 1).1 (by omega) hx ⟨1, by omega, by omega, rfl⟩
      exact ⟨a, a2, a3⟩
  have e1 : j ≤ n := inj_le (fun a _ => (hv a).1) hinj
  have e2 : n ≤ j := sur_le (v := v) (fun a _ => (hv a).1) hsur
  obtain rfl : j = n := by omega
  exact ⟨v, ⟨v0, hvj, fun k _ => (hv k).1, hinj⟩, fun k _ => (hv k).2.2.1⟩
end
section
/-! ===== the tree in the making: what take keeps ===== -/
theorem ix7 {x y a b : Nat} (hy : y < 7) (hb : b < 7) : x * 7 + y = a * 7 + b ↔ x = a ∧ y = b := by omega
theorem tk0_f (S : TS) (a b : Nat) {f : Nat} (h6 : f ≠ 6) (h7 : f ≠ 7) (h8 : f ≠ 8) : tk0 S a b f = S f := by
  unfold tk0
  rw [up_f _ h8, up_f _ h6, up_f _ h6, up_f _ h7, up_f _ h7]
theorem takeS_f (S : TS) (n a b : Nat) {f : Nat} (h5 : f ≠ 5) (h6 : f ≠ 6) (h7 : f ≠ 7) (h8 : f ≠ 8) : takeS S n a b f = S f := by
  unfold takeS
  by_cases q : a ≠ 0 ∧ b ≠ 0
  · rw [if_pos q]
    funext j
    unfold mgS
    rw [if_neg (fun z => h5 z.1), tk0_f S a b h6 h7 h8]
  · rw [if_neg q, tk0_f S a b h6 h7 h8]
theorem takeS_n5 (S : TS) (n a b : Nat) {f : Nat} (h5 : f ≠ 5) : takeS S n a b f = tk0 S a b f := by
  unfold takeS
  by_cases q : a ≠ 0 ∧ b ≠ 0
  · rw [if_pos q]
    funext j
    unfold mgS
    rw [if_neg (fun z => h5 z.1)]
  · rw [if_neg q]
theorem takeS_7 (S : TS) (n a b j : Nat) : takeS S n a b 7 j = if j = a * 7 + b ∨ j = b * 7 + a then 1 else S 7 j := by
  rw [takeS_n5 S n a b (by decide)]
  unfold tk0
  rw [up_f _ (by decide), up_f _ (by decide), up_f _ (by decide), up_at, up_at]
  by_cases h1 : j = b * 7 + a
  · rw [if_pos h1, if_pos (Or.inr h1)]
  · by_cases h2 : j = a * 7 + b
    · rw [if_neg h1, if_pos h2, if_pos (Or.inl h2)]
    · rw [if_neg h1, if_neg h2, if_neg (fun q => q.elim h2 h1)]
theorem takeS_6 (S : TS) (n : Nat) {a b : Nat} (hab : a ≠ b) (x : Nat) : takeS S n a b 6 x = S 6 x + (if x = a then 1 else 0) + (if x = b then 1 else 0) := by
  rw [takeS_n5 S n a b (by decide)]
  unfold tk0
  rw [up_f _ (by decide), up_at, up_at, up_f _ (by decide), up_f _ (by decide)]
  by_cases h1 : x = b
  · rw [if_pos h1, if_pos h1, if_neg (by omega), h1]; omega
  · by_cases h2 : x = a
    · rw [if_neg h1, if_neg h1, if_pos h2, if_pos h2, h2]; omega
    · rw [if_neg h1, if_neg h1, if_neg h2, if_neg h2]; omega
theorem takeS_8 (S : TS) (n a b : Nat) : takeS S n a b 8 0 = S 8 0 + wt S a b := by
  rw [takeS_n5 S n a b (by decide)]
  unfold tk0
  rw [up_s]
theorem takeS_5 (S : TS) (n a b j : Nat) : takeS S n a b 5 j = if (a ≠ 0 ∧ b ≠ 0) ∧ j < n ∧ S 5 j = S 5 b then S 5 a else S 5 j := by
  have e : tk0 S a b 5 = S 5 := tk0_f S a b (by decide) (by decide) (by decide)
  unfold takeS
  by_cases q : a ≠ 0 ∧ b ≠ 0
  · rw [if_pos q]
    unfold mgS
    rw [e]
    by_cases q2 : j < n ∧ S 5 j = S 5 b
    · rw [if_pos ⟨rfl, q2⟩, if_pos ⟨q, q2⟩]
    · rw [if_neg (fun z => q2 z.2), if_neg (fun z => q2 z.2)]
  · rw [if_neg q, if_neg (fun z => q z.1), e]
theorem wt_take (S : TS) (n a b x y : Nat) : wt (takeS S n a b) x y = wt S x y := by
  unfold wt
  rw [takeS_f S n a b (f := 1) (by decide) (by decide) (by decide) (by decide), takeS_f S n a b (f := 4) (by decide) (by decide) (by decide) (by decide)]
/-- the links chosen are links of the tour -/
def inT (n : Nat) (S : TS) (c : Nat → Nat) : Prop := ∀ x y, x < n → y < n → S 7 (x * 7 + y) = 1 → Adj n c x y
noncomputable def ES (n : Nat) (S : TS) (c : Nat → Nat) (φ : Nat → Int) : Int := si (fun k => S 7 (c k * 7 + c (k + 1)) = 1) φ n
def pw (n k : Nat) : Int := if 1 ≤ k ∧ k + 1 < n then 1 else 0
def tA (n : Nat) (S : TS) : Prop := (∀ x y, x < n → y < n → (S 7 (x * 7 + y) = 0 ∨ S 7 (x * 7 + y) = 1) ∧ S 7 (x * 7 + y) = S 7 (y * 7 + x)) ∧ ∀ x, x < n → S 7 (x * 7 + x) = 0
def tB (n : Nat) (S : TS) : Prop := ∀ x, x < n → S 6 x = sm (fun y => S 7 (x * 7 + y)) n
def tC (n : Nat) (S : TS) : Prop := ∀ x y, 1 ≤ x → x < n → 1 ≤ y → y < n → S 7 (x * 7 + y) = 1 → S 5 x = S 5 y
def tD (n : Nat) (S : TS) : Prop := ∀ P : Nat → Prop, (∀ x y, 1 ≤ x → x < n → 1 ≤ y → y < n → S 7 (x * 7 + y) = 1 → P x → P y) → ∀ x y, 1 ≤ x → x < n → 1 ≤ y → y < n → S 5 x = S 5 y → P x → P y
def tE (n : Nat) (S : TS) : Prop := ∀ x, x < n → ∃ v : Nat, v < n ∧ S 5 x = (v : Int) ∧ (1 ≤ x → 1 ≤ v)
noncomputable def cl (n : Nat) (S : TS) : Int := cn (lab n (S 5)) n
def tF (n : Nat) (S : TS) : Prop := sm (S 6) n = 2 * ((n : Int) - 1 - cl n S) + 2 * S 6 0
def tG (n : Nat) (S : TS) : Prop := ∀ c, Tour n c → inT n S c → S 8 0 = ES n S c (fun k => wt S (c k) (c (k + 1)))
def tH (n : Nat) (S : TS) : Prop := ∀ x y, x < n → y < n → S 7 (x * 7 + y) = 1 → S 3 (x * 7 + y) ≠ 2
def tI (n : Nat) (S : TS) : Prop := ∀ c, Tour n c → inT n S c → cl n S = (n : Int) - 1 - ES n S c (pw n)
def tJ (n : Nat) (S : TS) : Prop := ∀ c, Tour n c → inT n S c → S 6 0 = ES n S c (fun k => 1 - pw n k)
def tK (n : Nat) (S : TS) : Prop := -(20000 * sm (S 6) n) ≤ S 8 0 ∧ S 8 0 ≤ 20000 * sm (S 6) n
def TI (n : Nat) (S : TS) : Prop := tA n S ∧ tB n S ∧ tC n S ∧ tD n S ∧ tE n S ∧ tF n S ∧ tG n S ∧ tH n S ∧ tI n S ∧ tJ n S ∧ tK n S
section TK
variable {n a b : Nat} {S : TS}
theorem take_A (h7 : n ≤ 7) (ha : a < n) (hb : b < n) (hab : a ≠ b) (h : tA n S) : tA n (takeS S n a b) := by
  refine ⟨fun x y hx hy => ?_, fun x hx => ?_⟩
  · rw [takeS_7, takeS_7]
    have := h.1 x y hx hy
    by_cases q : x * 7 + y = a * 7 + b ∨ x * 7 + y = b * 7 + a
    · rw [if_pos q, if_pos (by omega)]; exact ⟨Or.inr rfl, rfl⟩
    · rw [if_neg q, if_neg (by omega)]; exact this
  · rw [takeS_7, if_neg (by omega)]; exact h.2 x hx
theorem take_B (h7 : n ≤ 7) (ha : a < n) (hb : b < n) (hab : a ≠ b) (hA : tA n S) (h0 : S 7 (a * 7 + b) = 0) (h : tB n S) : tB n (takeS S n a b) := by
  intro x hx
  have h0' : S 7 (b * 7 + a) = 0 := by rw [← (hA.1 a b ha hb).2]; exact h0
  rw [takeS_6 S n hab, h x hx]
  have e : sm (fun y => takeS S n a b 7 (x * 7 + y)) n = sm (fun y => (S 7 (x * 7 + y) + (if x = a ∧ y = b then 1 else 0)) + (if x = b ∧ y = a then 1 else 0)) n := by
    refine sm_congr (fun y hy => ?_)
    rw [takeS_7]
    by_cases q1 : x = a ∧ y = b
    · rw [if_pos (by omega), if_pos q1, if_neg (by omega), q1.1, q1.2, h0]; rfl
    · by_cases q2 : x = b ∧ y = a
      · rw [if_pos (by omega), if_neg q1, if_pos q2, q2.1, q2.2, h0']; rfl
      · rw [if_neg (by omega), if_neg q1, if_neg q2]; omega
  rw [e, sm_add, sm_add]
  have e1 : sm (fun y => if x = a ∧ y = b then (1 : Int) else 0) n = if x = a then 1 else 0 := by
    have : sm (fun y => if x = a ∧ y = b then (1 : Int) else 0) n = (fun y => if x = a ∧ y = b then (1 : Int) else 0) b := sm_single hb (fun y _ hy => if_neg (fun q => hy q.2))
    rw [this]
    by_cases q : x = a
    · show (if x = a ∧ b = b then (1 : Int) else 0) = _; rw [if_pos ⟨q, rfl⟩, if_pos q]
    · show (if x = a ∧ b = b then (1 : Int) else 0) = _; rw [if_neg (fun z => q z.1), if_neg q]
  have e2 : sm (fun y => if x = b ∧ y = a then (1 : Int) else 0) n = if x = b then 1 else 0 := by
    have : sm (fun y => if x = b ∧ y = a then (1 : Int) else 0) n = (fun y => if x = b ∧ y = a then (1 : Int) else 0) a := sm_single ha (fun y _ hy => if_neg (fun q => hy q.2))
    rw [this]
    by_cases q : x = b
    · show (if x = b ∧ a = a then (1 : Int) else 0) = _; rw [if_pos ⟨q, rfl⟩, if_pos q]
    · show (if x = b ∧ a = a then (1 : Int) else 0) = _; rw [if_neg (fun z => q z.1), if_neg q]
  rw [e1, e2]
theorem take_C (h7 : n ≤ 7) (ha : a < n) (hb : b < n) (h : tC n S) : tC n (takeS S n a b) := by
  intro x y hx1 hx hy1 hy he
  rw [takeS_7] at he
  rw [takeS_5, takeS_5]
  by_cases q : x * 7 + y = a * 7 + b ∨ x * 7 + y = b * 7 + a
  · rcases q with q | q
    · have e := (ix7 (by omega) (by omega)).mp q
      obtain ⟨rfl, rfl⟩ := e
      rw [if_pos (c := (x ≠ 0 ∧ y ≠ 0) ∧ y < n ∧ S 5 y = S 5 y) ⟨⟨by omega, by omega⟩, hy, rfl⟩]
      by_cases z : S 5 x = S 5 y
      · rw [if_pos ⟨⟨by omega, by omega⟩, hx, z⟩]
      · rw [if_neg (fun w => z w.2.2)]
    · have e := (ix7 (by omega) (by omega)).mp q
      obtain ⟨rfl, rfl⟩ := e
      rw [if_pos (c := (y ≠ 0 ∧ x ≠ 0) ∧ x < n ∧ S 5 x = S 5 x) ⟨⟨by omega, by omega⟩, hx, rfl⟩]
      by_cases z : S 5 y = S 5 x
      · rw [if_pos ⟨⟨by omega, by omega⟩, hy, z⟩]
      · rw [if_neg (fun w => z w.2.2)]
  · rw [if_neg q] at he
    have e := h x y hx1 hx hy1 hy he
    rw [e]
    by_cases z : (a ≠ 0 ∧ b ≠ 0) ∧ S 5 y = S 5 b
    · rw [if_pos ⟨z.1, hx, z.2⟩, if_pos ⟨z.1, hy, z.2⟩]
    · rw [if_neg (fun w => z ⟨w.1, w.2.2⟩), if_neg (fun w => z ⟨w.1, w.2.2⟩)]
theorem take_D (h7 : n ≤ 7) (ha : a < n) (hb : b < n) (h : tD n S) : tD n (takeS S n a b) := by
  intro P hcl x y hx1 hx hy1 hy he px
  have old : ∀ x y, 1 ≤ x → x < n → 1 ≤ y → y < n → S 7 (x * 7 + y) = 1 → P x → P y := fun x y h1 h2 h3 h4 h5 => hcl x y h1 h2 h3 h4 (by
    rw [takeS_7]
    by_cases q : x * 7 + y = a * 7 + b ∨ x * 7 + y = b * 7 + a
    · rw [if_pos q]
    · rw [if_neg q]; exact h5)
  have go := h P old
  rw [takeS_5, takeS_5] at he
  by_cases z : a ≠ 0 ∧ b ≠ 0
  · have ab : P a → P b := hcl a b (by omega) ha (by omega) hb (by rw [takeS_7, if_pos (Or.inl rfl)])
    have ba : P b → P a := hcl b a (by omega) hb (by omega) ha (by rw [takeS_7, if_pos (Or.inr rfl)])
    by_cases qx : S 5 x = S 5 b
    · rw [if_pos ⟨z, hx, qx⟩] at he
      have pb := go x b hx1 hx (by omega) hb qx px
      by_cases qy : S 5 y = S 5 b
      · exact go b y (by omega) hb hy1 hy qy.symm pb
      · rw [if_neg (fun w => qy w.2.2)] at he
        exact go a y (by omega) ha hy1 hy he (ba pb)
    · rw [if_neg (fun w => qx w.2.2)] at he
      by_cases qy : S 5 y = S 5 b
      · rw [if_pos ⟨z, hy, qy⟩] at he
        exact go b y (by omega) hb hy1 hy qy.symm (ab (go x a hx1 hx (by omega) ha he px))
      · rw [if_neg (fun w => qy w.2.2)] at he
        exact go x y hx1 hx hy1 hy he px
  · rw [if_neg (fun w => z w.1), if_neg (fun w => z w.1)] at he
    exact go x y hx1 hx hy1 hy he px
theorem take_E (ha : a < n) (h : tE n S) : tE n (takeS S n a b) := by
  intro x hx
  rw [takeS_5]
  by_cases q : (a ≠ 0 ∧ b ≠ 0) ∧ x < n ∧ S 5 x = S 5 b
  · rw [if_pos q]
    obtain ⟨v, h1, h2, h3⟩ := h a ha
    exact ⟨v, h1, h2, fun _ => h3 (by omega)⟩
  · rw [if_neg q]; exact h x hx
theorem take_cl0 (hz : a = 0 ∨ b = 0) : cl n (takeS S n a b) = cl n S := by
  have e : takeS S n a b 5 = S 5 := by
    funext j
    rw [takeS_5, if_neg (fun w => by omega)]
  unfold cl
  rw [e]
theorem take_cl1 (ha : a < n) (hb : b < n) (hz : a ≠ 0 ∧ b ≠ 0) (hE : tE n S) (hg : S 5 a ≠ S 5 b) : cl n (takeS S n a b) = cl n S - 1 := by
  obtain ⟨v0, hv0, e0, -⟩ := hE b hb
  have h1 : cn (lab n (S 5)) n = cn (fun v => lab n (S 5) v ∧ v ≠ v0) n + 1 := si_one hv0 ⟨b, by omega, hb, e0⟩
  have h2 : cn (lab n (takeS S n a b 5)) n = cn (fun v => lab n (S 5) v ∧ v ≠ v0) n := cn_congr (fun v hv => by
    constructor
    · rintro ⟨x, x1, x2, x3⟩
      rw [takeS_5] at x3
      by_cases q : S 5 x = S 5 b
      · rw [if_pos ⟨hz, x2, q⟩] at x3
        exact ⟨⟨a, by omega, ha, x3⟩, fun e => hg (by rw [x3, e0, e])⟩
      · rw [if_neg (fun w => q w.2.2)] at x3
        exact ⟨⟨x, x1, x2, x3⟩, fun e => q (by rw [x3, e0, e])⟩
    · rintro ⟨⟨x, x1, x2, x3⟩, hne⟩
      refine ⟨x, x1, x2, ?_⟩
      rw [takeS_5, if_neg (fun w => hne (by have := w.2.2; omega))]
      exact x3)
  unfold cl
  omega
theorem take_sm (ha : a < n) (hb : b < n) (hab : a ≠ b) : sm (takeS S n a b 6) n = sm (S 6) n + 2 := by
  have : sm (takeS S n a b 6) n = sm (fun x => (S 6 x + (if x = a then 1 else 0)) + (if x = b then 1 else 0)) n := sm_congr (fun x _ => takeS_6 S n hab x)
  rw [this, sm_add, sm_add]
  have q1 : sm (fun x => if x = a then (1 : Int) else 0) n = (fun x => if x = a then (1 : Int) else 0) a := sm_single ha (fun y _ hy => if_neg hy)
  have q2 : sm (fun x => if x = b then (1 : Int) else 0) n = (fun x => if x = b then (1 : Int) else 0) b := sm_single hb (fun y _ hy => if_neg hy)
  rw [q1, q2]
  show _ + (if a = a then (1 : Int) else 0) + (if b = b then (1 : Int) else 0) = _
  rw [if_pos rfl, if_pos rfl]; omega
theorem take_F (ha : a < n) (hb : b < n) (hab : a ≠ b) (hE : tE n S) (hg : a = 0 ∨ b = 0 ∨ S 5 a ≠ S 5 b) (h : tF n S) : tF n (takeS S n a b) := by
  have e1 : sm (takeS S n a b 6) n = sm (S 6) n + 2 := take_sm ha hb hab
  unfold tF at h ⊢
  rw [e1, takeS_6 S n hab 0]
  by_cases z : a = 0 ∨ b = 0
  · rw [take_cl0 z]
    rcases z with rfl | rfl
    · rw [if_pos rfl, if_neg (by omega)]; omega
    · rw [if_neg (by omega), if_pos rfl]; omega
  · rw [take_cl1 ha hb ⟨by omega, by omega⟩ hE (by omega), if_neg (by omega), if_neg (by omega)]; omega
theorem take_ES (h7 : n ≤ 7) (hn : 3 ≤ n) (ha : a < n) (hb : b < n) (hA : tA n S) (h0 : S 7 (a * 7 + b) = 0) {c : Nat → Nat} (ht : Tour n c) (hadj : Adj n c a b) (φ : Nat → Int) :
    ∃ k0, k0 < n ∧ ((c k0 = a ∧ c (k0 + 1) = b) ∨ (c k0 = b ∧ c (k0 + 1) = a)) ∧ ES n (takeS S n a b) c φ = ES n S c φ + φ k0 := by
  obtain ⟨k0, hk0, he⟩ := hadj
  have h0' : S 7 (b * 7 + a) = 0 := by rw [← (hA.1 a b ha hb).2]; exact h0
  refine ⟨k0, hk0, he, ?_⟩
  have h1 : ES n (takeS S n a b) c φ = si (fun k => takeS S n a b 7 (c k * 7 + c (k + 1)) = 1 ∧ k ≠ k0) φ n + φ k0 := si_one hk0 (by
    rw [takeS_7]
    rcases he with ⟨e1, e2⟩ | ⟨e1, e2⟩
    · rw [if_pos (Or.inl (by rw [e1, e2]))]
    · rw [if_pos (Or.inr (by rw [e1, e2]))])
  rw [h1]
  congr 1
  refine si_congr (fun k hk => ?_) (fun _ _ _ => rfl)
  rw [takeS_7]
  have l1 := ht.lt (i := k) (by omega) (by omega)
  have l2 := ht.lt (i := k + 1) (by omega) (by omega)
  constructor
  · rintro ⟨g1, g2⟩
    by_cases q : c k * 7 + c (k + 1) = a * 7 + b ∨ c k * 7 + c (k + 1) = b * 7 + a
    · exfalso
      refine g2 (ht.one hn hk hk0 ?_)
      rcases q with q | q
      · have e := (ix7 (by omega) (by omega)).mp q
        omega
      · have e := (ix7 (by omega) (by omega)).mp q
        omega
    · rw [if_neg q] at g1; exact g1
  · intro g
    by_cases q : c k * 7 + c (k + 1) = a * 7 + b ∨ c k * 7 + c (k + 1) = b * 7 + a
    · exfalso
      rcases q with q | q
      · rw [q, h0] at g; exact absurd g (by decide)
      · rw [q, h0'] at g; exact absurd g (by decide)
    · rw [if_neg q]
      refine ⟨g, fun e => q ?_⟩
      subst e
      rcases he with ⟨e1, e2⟩ | ⟨e1, e2⟩
      · left; rw [e1, e2]
      · right; rw [e1, e2]
theorem inT_old {c : Nat → Nat} (h : inT n (takeS S n a b) c) : inT n S c := fun x y hx hy he => h x y hx hy (by
  rw [takeS_7]
  by_cases q : x * 7 + y = a * 7 + b ∨ x * 7 + y = b * 7 + a
  · rw [if_pos q]
  · rw [if_neg q]; exact he)
theorem inT_new (ha : a < n) (hb : b < n) {c : Nat → Nat} (h : inT n (takeS S n a b) c) : Adj n c a b := h a b ha hb (by rw [takeS_7, if_pos (Or.inl rfl)])
theorem wt_sy (hsy : Sy n (S 1)) {x y : Nat} (hx : x < n) (hy : y < n) : wt S x y = wt S y x := by
  unfold wt; rw [hsy x y hx hy]; omega
theorem take_G (h7 : n ≤ 7) (hn : 3 ≤ n) (ha : a < n) (hb : b < n) (hsy : Sy n (S 1)) (hA : tA n S) (h0 : S 7 (a * 7 + b) = 0) (h : tG n S) : tG n (takeS S n a b) := by
  intro c ht hin
  obtain ⟨k0, hk0, he, e⟩ := take_ES h7 hn ha hb hA h0 ht (inT_new ha hb hin) (fun k => wt S (c k) (c (k + 1)))
  rw [takeS_8, h c ht (inT_old hin)]
  have e1 : ES n (takeS S n a b) c (fun k => wt (takeS S n a b) (c k) (c (k + 1))) = ES n (takeS S n a b) c (fun k => wt S (c k) (c (k + 1))) := si_congr (fun _ _ => Iff.rfl) (fun k _ _ => wt_take S n a b _ _)
  rw [e1, e]
  congr 1
  rcases he with ⟨e1, e2⟩ | ⟨e1, e2⟩
  · show wt S a b = wt S (c k0) (c (k0 + 1)); rw [e1, e2]
  · show wt S a b = wt S (c k0) (c (k0 + 1)); rw [e1, e2]; exact wt_sy hsy ha hb
theorem take_H (h7 : n ≤ 7) (hb : b < n) (ha : a < n) (hsy : Sy n (S 3)) (h3 : S 3 (a * 7 + b) ≠ 2) (h : tH n S) : tH n (takeS S n a b) := by
  intro x y hx hy he
  rw [takeS_f S n a b (f := 3) (by decide) (by decide) (by decide) (by decide)]
  rw [takeS_7] at he
  by_cases q : x * 7 + y = a * 7 + b ∨ x * 7 + y = b * 7 + a
  · rcases q with q | q
    · rw [q]; exact h3
    · rw [q, ← hsy a b ha hb]; exact h3
  · rw [if_neg q] at he; exact h x y hx hy he
theorem take_I (h7 : n ≤ 7) (hn : 3 ≤ n) (ha : a < n) (hb : b < n) (hA : tA n S) (hE : tE n S) (h0 : S 7 (a * 7 + b) = 0) (hg : a = 0 ∨ b = 0 ∨ S 5 a ≠ S 5 b) (h : tI n S) : tI n (takeS S n a b) := by
  intro c ht hin
  obtain ⟨k0, hk0, he, e⟩ := take_ES h7 hn ha hb hA h0 ht (inT_new ha hb hin) (pw n)
  have ih := h c ht (inT_old hin)
  rw [e]
  have hc0 : c k0 = 0 ↔ k0 = 0 := ⟨fun q => ht.2.2.2 k0 0 hk0 (by omega) (by rw [q, ht.1]), fun q => by rw [q]; exact ht.1⟩
  have hc1 : c (k0 + 1) = 0 ↔ k0 + 1 = n := by
    obtain ⟨i', h1, h2, h3⟩ := ht.nx hk0
    constructor
    · intro q
      have := ht.2.2.2 i' 0 h1 (by omega) (by rw [← h2, q, ht.1])
      omega
    · intro q; rw [q]; exact ht.2.1
  by_cases z : a = 0 ∨ b = 0
  · rw [take_cl0 z, ih]
    have : pw n k0 = 0 := if_neg (by omega)
    omega
  · rw [take_cl1 ha hb ⟨by omega, by omega⟩ hE (by omega), ih]
    have : pw n k0 = 1 := if_pos (by omega)
    omega
theorem take_J (h7 : n ≤ 7) (hn : 3 ≤ n) (ha : a < n) (hb : b < n) (hab : a ≠ b) (hA : tA n S) (h0 : S 7 (a * 7 + b) = 0) (h : tJ n S) : tJ n (takeS S n a b) := by
  intro c ht hin
  obtain ⟨k0, hk0, he, e⟩ := take_ES h7 hn ha hb hA h0 ht (inT_new ha hb hin) (fun k => 1 - pw n k)
  have ih := h c ht (inT_old hin)
  rw [e, takeS_6 S n hab]
  have hc0 : c k0 = 0 ↔ k0 = 0 := ⟨fun q => ht.2.2.2 k0 0 hk0 (by omega) (by rw [q, ht.1]), fun q => by rw [q]; exact ht.1⟩
  have hc1 : c (k0 + 1) = 0 ↔ k0 + 1 = n := by
    obtain ⟨i', h1, h2, h3⟩ := ht.nx hk0
    constructor
    · intro q
      have := ht.2.2.2 i' 0 h1 (by omega) (by rw [← h2, q, ht.1])
      omega
    · intro q; rw [q]; exact ht.2.1
  rw [ih]
  by_cases z : a = 0 ∨ b = 0
  · have p0 : pw n k0 = 0 := if_neg (by omega)
    rcases z with rfl | rfl
    · rw [if_pos rfl, if_neg (by omega)]; simp only [p0]; omega
    · rw [if_neg (by omega), if_pos rfl]; simp only [p0]; omega
  · have p0 : pw n k0 = 1 := if_pos (by omega)
    rw [if_neg (by omega), if_neg (by omega)]; simp only [p0]; omega
theorem take_K (ha : a < n) (hb : b < n) (hab : a ≠ b) (hw : -20000 ≤ wt S a b ∧ wt S a b ≤ 20000) (h : tK n S) : tK n (takeS S n a b) := by
  unfold tK at h ⊢
  rw [take_sm ha hb hab, takeS_8]
  omega
theorem take_TI (h7 : n ≤ 7) (hn : 3 ≤ n) (ha : a < n) (hb : b < n) (hab : a ≠ b) (hs1 : Sy n (S 1)) (hs3 : Sy n (S 3)) (hw : -20000 ≤ wt S a b ∧ wt S a b ≤ 20000) (h0 : S 7 (a * 7 + b) = 0) (h3 : S 3 (a * 7 + b) ≠ 2) (hg : a = 0 ∨ b = 0 ∨ S 5 a ≠ S 5 b) (h : TI n S) : TI n (takeS S n a b) := by
  obtain ⟨hA, hB, hC, hD, hE, hF, hG, hH, hI, hJ, hK⟩ := h
  exact ⟨take_A h7 ha hb hab hA, take_B h7 ha hb hab hA h0 hB, take_C h7 ha hb hC, take_D h7 ha hb hD, take_E ha hE, take_F ha hb hab hE hg hF, take_G h7 hn ha hb hs1 hA h0 hG, take_H h7 hb ha hs3 h3 hH, take_I h7 hn ha hb hA hE h0 hg hI, take_J h7 hn ha hb hab hA h0 hJ, take_K ha hb hab hw hK⟩
/-- the start of a build -/
theorem TI_start (h7 : n ≤ 7) (hn : 3 ≤ n) (h5 : ∀ x, x < n → S 5 x = (x : Int)) (h6 : ∀ x, x < n → S 6 x = 0) (hch : ∀ x y, x < n → y < n → S 7 (x * 7 + y) = 0) (h8 : S 8 0 = 0) : TI n S := by
  have no : ∀ x y, x < n → y < n → ¬ S 7 (x * 7 + y) = 1 := fun x y hx hy => by rw [hch x y hx hy]; decide
  have hcl : cl n S = (n : Int) - 1 := by
    have h1 : cn (fun _ => True) n = n := by
      have : cn (fun _ => True) n = sm (fun _ => 1) n := si_all (fun _ _ => trivial)
      rw [this, sm_one]
    have h2 : cn (fun _ => True) n = cn (fun k => True ∧ k ≠ 0) n + 1 := si_one (by omega) trivial
    have h3 : cl n S = cn (fun k => True ∧ k ≠ 0) n := cn_congr (fun v hv => by
      constructor
      · rintro ⟨x, x1, x2, x3⟩
        rw [h5 x x2] at x3
        exact ⟨trivial, by omega⟩
      · rintro ⟨-, q⟩
        exact ⟨v, by omega, hv, h5 v hv⟩)
    omega
  have hes : ∀ (c : Nat → Nat) (φ : Nat → Int), Tour n c → ES n S c φ = 0 := fun c φ ht => si_none (fun k hk => no _ _ (ht.lt (by omega) (by omega)) (ht.lt (by omega) (by omega)))
  have hsm : sm (S 6) n = 0 := by
    rw [sm_congr (g := fun _ => 0) (fun k hk => h6 k hk), sm_zero]
  refine ⟨⟨fun x y hx hy => ⟨Or.inl (hch x y hx hy), by rw [hch x y hx hy, hch y x hy hx]⟩, fun x hx => hch x x hx hx⟩, ?_, ?_, ?_, ?_, ?_, ?_, ?_, ?_, ?_, ?_⟩
  · intro x hx
    rw [h6 x hx, sm_congr (g := fun _ => 0) (fun y hy => hch x y hx hy), sm_zero]
  · intro x y _ hx _ hy he
    exact absurd he (no x y hx hy)
  · intro P _ x y _ hx _ hy he px
    rw [h5 x hx, h5 y hy] at he
    rw [show y = x by omega]; exact px
  · intro x hx
    exact ⟨x, hx, h5 x hx, fun h => h⟩
  · unfold tF
    rw [hsm, h6 0 (by omega), hcl]; omega
  · intro c ht _
    rw [hes c _ ht]; exact h8
  · intro x y hx hy he
    exact absurd he (no x y hx hy)
  · intro c ht _
    rw [hes c _ ht, hcl]; omega
  · intro c ht _
    rw [hes c _ ht]; exact h6 0 (by omega)
  · unfold tK
    rw [hsm, h8]; omega
end TK
end
section
/-! ===== build: required links, the greedy tree, the two links of city 0 ===== -/
def frF (S0 S : TS) : Prop := ∀ f, f ≠ 5 → f ≠ 6 → f ≠ 7 → f ≠ 8 → S f = S0 f
theorem frF.rf (S : TS) : frF S S := fun _ _ _ _ _ => rfl
theorem frF.tk {S0 S : TS} (h : frF S0 S) (n a b : Nat) : frF S0 (takeS S n a b) := fun f h5 h6 h7 h8 => by rw [takeS_f S n a b h5 h6 h7 h8]; exact h f h5 h6 h7 h8
theorem frF.tr {S0 S S2 : TS} (h : frF S0 S) (h2 : frF S S2) : frF S0 S2 := fun f h5 h6 h7 h8 => by rw [h2 f h5 h6 h7 h8]; exact h f h5 h6 h7 h8
theorem frF.ewt {S0 S : TS} (h : frF S0 S) (x y : Nat) : wt S x y = wt S0 x y := by
  unfold wt; rw [h 1 (by decide) (by decide) (by decide) (by decide), h 4 (by decide) (by decide) (by decide) (by decide)]
theorem frF.e3 {S0 S : TS} (h : frF S0 S) : S 3 = S0 3 := h 3 (by decide) (by decide) (by decide) (by decide)
def BC (n : Nat) (S : TS) : Prop := n ≤ 7 ∧ 3 ≤ n ∧ Sy n (S 1) ∧ Sy n (S 3) ∧ (∀ j, 0 ≤ S 3 j ∧ S 3 j ≤ 2) ∧ ∀ x y, x < n → y < n → -20000 ≤ wt S x y ∧ wt S x y ≤ 20000
theorem BC.fr {n : Nat} {S0 S : TS} (h : BC n S0) (hf : frF S0 S) : BC n S := by
  obtain ⟨h1, h2, h3, h4, h5, h6⟩ := h
  have e1 : S 1 = S0 1 := hf 1 (by decide) (by decide) (by decide) (by decide)
  exact ⟨h1, h2, by rw [e1]; exact h3, by rw [hf.e3]; exact h4, by rw [hf.e3]; exact h5, fun x y hx hy => by rw [hf.ewt]; exact h6 x y hx hy⟩
theorem deg_cn {n : Nat} {S : TS} (hA : tA n S) (hB : tB n S) {x : Nat} (hx : x < n) : S 6 x = cn (fun y => S 7 (x * 7 + y) = 1) n := by
  rw [hB x hx]
  refine sm_congr (fun y hy => ?_)
  rcases (hA.1 x y hx hy).1 with e | e
  · rw [e]; exact (if_neg (fun q : S 7 (x * 7 + y) = 1 => by rw [e] at q; exact absurd q (by decide))).symm
  · rw [e]; exact (if_pos e).symm
theorem deg_rng {n : Nat} {S : TS} (hA : tA n S) (hB : tB n S) {x : Nat} (hx : x < n) : 0 ≤ S 6 x ∧ S 6 x ≤ n := by
  rw [deg_cn hA hB hx]; exact ⟨cn_nonneg _ _, cn_le _⟩
def bef (a b x y : Nat) : Prop := x < a ∨ (x = a ∧ y < b)
def RI (n : Nat) (S0 S : TS) (a b : Nat) : Prop := frF S0 S ∧ TI n S ∧ (∀ x y, x < y → y < n → (S 7 (x * 7 + y) = 1 ↔ (S 3 (x * 7 + y) = 1 ∧ bef a b x y))) ∧ ∀ x, x < n → S 6 x ≤ 2
theorem RI.inT {n : Nat} {S0 S : TS} {a b : Nat} (h : RI n S0 S a b) {c : Nat → Nat} (hf : Fits n (S 3) c) : inT n S c := by
  intro x y hx hy he
  rcases Nat.lt_trichotomy x y with g | g | g
  · exact hf.2 x y g hy ((h.2.2.1 x y g hy).mp he).1
  · subst g; rw [h.2.1.1.2 x hx] at he; exact absurd he (by decide)
  · rw [(h.2.1.1.1 x y hx hy).2] at he
    exact (hf.2 y x g hx ((h.2.2.1 y x g hx).mp he).1).symm
theorem RI_start {n : Nat} {S : TS} (h7 : n ≤ 7) (hn : 3 ≤ n) (h5 : ∀ x, x < n → S 5 x = (x : Int)) (h6 : ∀ x, x < n → S 6 x = 0) (hch : ∀ x y, x < n → y < n → S 7 (x * 7 + y) = 0) (h8 : S 8 0 = 0) : RI n S S 0 1 := by
  refine ⟨frF.rf S, TI_start h7 hn h5 h6 hch h8, fun x y hxy hy => ?_, fun x hx => by rw [h6 x hx]; decide⟩
  constructor
  · intro e; rw [hch x y (by omega) hy] at e; exact absurd e (by decide)
  · rintro ⟨-, q⟩; unfold bef at q; omega
theorem RI_skip {n : Nat} {S0 S : TS} {a b : Nat} (h : RI n S0 S a b) (h3 : S 3 (a * 7 + b) ≠ 1) : RI n S0 S a (b + 1) := by
  refine ⟨h.1, h.2.1, fun x y hxy hy => ?_, h.2.2.2⟩
  rw [h.2.2.1 x y hxy hy]
  constructor
  · rintro ⟨q1, q2⟩; exact ⟨q1, by unfold bef at q2 ⊢; omega⟩
  · rintro ⟨q1, q2⟩
    refine ⟨q1, ?_⟩
    unfold bef at q2 ⊢
    by_cases e : x = a ∧ y = b
    · rw [e.1, e.2] at q1; exact absurd q1 h3
    · omega
theorem RI_row {n : Nat} {S0 S : TS} {a : Nat} (h : RI n S0 S a n) : RI n S0 S (a + 1) (a + 2) := by
  refine ⟨h.1, h.2.1, fun x y hxy hy => ?_, h.2.2.2⟩
  rw [h.2.2.1 x y hxy hy]
  constructor
  · rintro ⟨q1, q2⟩; exact ⟨q1, by unfold bef at q2 ⊢; omega⟩
  · rintro ⟨q1, q2⟩; exact ⟨q1, by unfold bef at q2 ⊢; omega⟩
theorem RI.no {n : Nat} {S0 S : TS} {a b : Nat} (h : RI n S0 S a b) (hab : a < b) (hb : b < n) : S 7 (a * 7 + b) = 0 := by
  rcases (h.2.1.1.1 a b (by omega) hb).1 with e | e
  · exact e
  · have := ((h.2.2.1 a b hab hb).mp e).2
    unfold bef at this; omega
theorem RI_take {n : Nat} {S0 S : TS} {a b : Nat} (hB : BC n S0) (h : RI n S0 S a b) (hab : a < b) (hb : b < n) (h3 : S 3 (a * 7 + b) = 1) (ha2 : S 6 a < 2) (hb2 : S 6 b < 2) (hg : a = 0 ∨ S 5 a ≠ S 5 b) : RI n S0 (takeS S n a b) a (b + 1) := by
  obtain ⟨h7, hn, s1, s3, r3, hw⟩ := hB.fr h.1
  refine ⟨h.1.tk n a b, take_TI h7 hn (by omega) hb (by omega) s1 s3 (hw a b (by omega) hb) (h.no hab hb) (by rw [h3]; decide) (hg.elim Or.inl (fun q => Or.inr (Or.inr q))) h.2.1, fun x y hxy hy => ?_, fun x hx => ?_⟩
  · rw [takeS_f S n a b (f := 3) (by decide) (by decide) (by decide) (by decide), takeS_7]
    by_cases q : x * 7 + y = a * 7 + b ∨ x * 7 + y = b * 7 + a
    · rw [if_pos q]
      have e : x = a ∧ y = b := by
        rcases q with q | q
        · exact (ix7 (by omega) (by omega)).mp q
        · have := (ix7 (by omega) (by omega)).mp q; omega
      rw [e.1, e.2]
      exact ⟨fun _ => ⟨h3, Or.inr ⟨rfl, by omega⟩⟩, fun _ => rfl⟩
    · rw [if_neg q, h.2.2.1 x y hxy hy]
      have ne : ¬ (x = a ∧ y = b) := fun e => q (Or.inl (by rw [e.1, e.2]))
      unfold bef
      constructor
      · rintro ⟨q1, q2⟩; exact ⟨q1, by omega⟩
      · rintro ⟨q1, q2⟩; exact ⟨q1, by omega⟩
  · have := h.2.2.2 x hx
    rw [takeS_6 S n (by omega)]
    by_cases e1 : x = a
    · subst e1; rw [if_pos rfl, if_neg (by omega)]; omega
    · by_cases e2 : x = b
      · subst e2; rw [if_neg e1, if_pos rfl]; omega
      · rw [if_neg e1, if_neg e2]; omega
/-- path links of a tour that lie within one group -/
theorem cross_cnt {n : Nat} {S : TS} (hn : 3 ≤ n) {c : Nat → Nat} (ht : Tour n c) : cl n S ≤ 1 + cn (fun k => pth n k ∧ S 5 (c k) ≠ S 5 (c (k + 1))) n := ht.labs hn (S 5)
theorem ES_pw {n : Nat} {S : TS} {c : Nat → Nat} : ES n S c (pw n) = cn (fun k => pth n k ∧ S 7 (c k * 7 + c (k + 1)) = 1) n := by
  refine sm_congr (fun k hk => ?_)
  by_cases q : S 7 (c k * 7 + c (k + 1)) = 1
  · rw [if_pos q]
    by_cases p : pth n k
    · rw [if_pos ⟨p, q⟩]; exact if_pos p
    · rw [if_neg (fun z => p z.1)]; exact if_neg p
  · rw [if_neg q, if_neg (fun z => q z.2)]
theorem ES_zw {n : Nat} {S : TS} {c : Nat → Nat} : ES n S c (fun k => 1 - pw n k) = cn (fun k => ¬ pth n k ∧ S 7 (c k * 7 + c (k + 1)) = 1) n := by
  refine sm_congr (fun k hk => ?_)
  by_cases q : S 7 (c k * 7 + c (k + 1)) = 1
  · rw [if_pos q]
    by_cases p : pth n k
    · rw [if_neg (fun z => z.1 p)]
      have : pw n k = 1 := if_pos p
      show 1 - pw n k = 0
      rw [this]; rfl
    · rw [if_pos ⟨p, q⟩]
      have : pw n k = 0 := if_neg p
      show 1 - pw n k = 1
      rw [this]; rfl
  · rw [if_neg q, if_neg (fun z => q z.2)]
theorem pth_ne {n : Nat} {c : Nat → Nat} (ht : Tour n c) {k : Nat} (hp : pth n k) : (1 ≤ c k ∧ c k < n) ∧ (1 ≤ c (k + 1) ∧ c (k + 1) < n) := by
  have h1 := hp.1
  have h2 := hp.2
  have a1 := ht.2.2.1 k (by omega)
  have a2 := ht.2.2.1 (k + 1) (by omega)
  have b1 : c k ≠ 0 := fun e => by have := ht.2.2.2 k 0 (by omega) (by omega) (by rw [e, ht.1]); omega
  have b2 : c (k + 1) ≠ 0 := fun e => by have := ht.2.2.2 (k + 1) 0 (by omega) (by omega) (by rw [e, ht.1]); omega
  omega
theorem RI_bad {n : Nat} {S0 S : TS} {a b : Nat} (hB : BC n S0) (h : RI n S0 S a b) (hab : a < b) (hb : b < n) (h3 : S 3 (a * 7 + b) = 1) (hbad : 2 ≤ S 6 a ∨ 2 ≤ S 6 b ∨ (a ≠ 0 ∧ S 5 a = S 5 b)) : ∀ c, Tour n c → ¬ Fits n (S0 3) c := by
  obtain ⟨h7, hn, s1, s3, r3, hw⟩ := hB.fr h.1
  intro c ht hf
  rw [← h.1.e3] at hf
  have hin := h.inT hf
  have hadj := hf.2 a b hab hb h3
  have hno := h.no hab hb
  obtain ⟨hA, hBB, hC, hD, hE, hF, hG, hH, hI, hJ, hK⟩ := h.2.1
  have hno' : S 7 (b * 7 + a) = 0 := by rw [← (hA.1 a b (by omega) hb).2]; exact hno
  rcases hbad with q | q | ⟨a0, q⟩
  · rw [deg_cn hA hBB (by omega : a < n)] at q
    have h1 := cn_lt (P := fun y => S 7 (a * 7 + y) = 1) (Q := fun y => Adj n c a y) (n := n) (k0 := b) (fun y hy e => hin a y (by omega) hy e) hb hadj (by rw [hno]; decide)
    have h2 := ht.deg hn (x := a) (by omega)
    omega
  · rw [deg_cn hA hBB hb] at q
    have h1 := cn_lt (P := fun y => S 7 (b * 7 + y) = 1) (Q := fun y => Adj n c b y) (n := n) (k0 := a) (fun y hy e => hin b y hb hy e) (by omega) hadj.symm (by rw [hno']; decide)
    have h2 := ht.deg hn hb
    omega
  · have h1 := cross_cnt (S := S) hn ht
    have h2 := hI c ht hin
    rw [ES_pw] at h2
    have h3' := pth_cnt hn
    have h4 := cn_split (P := pth n) (fun k => S 5 (c k) ≠ S 5 (c (k + 1))) n
    obtain ⟨k0, hk0, he⟩ := hadj
    have hp : pth n k0 := by
      have c0 : k0 ≠ 0 := fun e => by rw [e, ht.1] at he; omega
      have c1 : k0 + 1 ≠ n := fun e => by rw [e, ht.2.1] at he; omega
      exact ⟨by omega, by omega⟩
    have h5 := cn_lt (P := fun k => pth n k ∧ S 7 (c k * 7 + c (k + 1)) = 1) (Q := fun k => pth n k ∧ ¬ S 5 (c k) ≠ S 5 (c (k + 1))) (n := n) (k0 := k0) (fun k hk e => ⟨e.1, fun z => z (by
      have := pth_ne ht e.1
      exact hC _ _ this.1.1 this.1.2 this.2.1 this.2.2 e.2)⟩) hk0 ⟨hp, fun z => z (by
        rcases he with ⟨e1, e2⟩ | ⟨e1, e2⟩
        · rw [e1, e2]; exact q
        · rw [e1, e2]; exact q.symm)⟩ (fun z => by
          have z2 := z.2
          rcases he with ⟨e1, e2⟩ | ⟨e1, e2⟩
          · rw [e1, e2, hno] at z2; exact absurd z2 (by decide)
          · rw [e1, e2, hno'] at z2; exact absurd z2 (by decide))
    omega
/-- behind takeRequired: the chosen links are the required ones -/
def RQ (n : Nat) (S0 S : TS) : Prop := frF S0 S ∧ TI n S ∧ (∀ x y, x < n → y < n → x ≠ y → (S 7 (x * 7 + y) = 1 ↔ S 3 (x * 7 + y) = 1)) ∧ ∀ x, x < n → S 6 x ≤ 2
theorem RI_end {n : Nat} {S0 S : TS} (hB : BC n S0) (h : RI n S0 S n (n + 1)) : RQ n S0 S := by
  obtain ⟨h7, hn, s1, s3, r3, hw⟩ := hB.fr h.1
  refine ⟨h.1, h.2.1, fun x y hx hy hxy => ?_, h.2.2.2⟩
  rcases Nat.lt_trichotomy x y with g | g | g
  · rw [h.2.2.1 x y g hy]
    exact ⟨fun q => q.1, fun q => ⟨q, Or.inl (by omega)⟩⟩
  · exact absurd g hxy
  · rw [(h.2.1.1.1 x y hx hy).2, s3 x y hx hy, h.2.2.1 y x g hx]
    exact ⟨fun q => q.1, fun q => ⟨q, Or.inl (by omega)⟩⟩
theorem RQ.inT {n : Nat} {S0 S : TS} (hB : BC n S0) (h : RQ n S0 S) {c : Nat → Nat} (hf : Fits n (S0 3) c) : inT n S c := by
  intro x y hx hy he
  rw [← h.1.e3] at hf
  obtain ⟨h7, hn, s1, s3, r3, hw⟩ := hB.fr h.1
  rcases Nat.lt_trichotomy x y with g | g | g
  · exact hf.2 x y g hy ((h.2.2.1 x y hx hy (by omega)).mp he)
  · subst g; rw [h.2.1.1.2 x hx] at he; exact absurd he (by decide)
  · have := (h.2.2.1 x y hx hy (by omega)).mp he
    rw [s3 x y hx hy] at this
    exact (hf.2 y x g hx this).symm
/-- a fitting tour's links that are not required are free -/
theorem fit_free {n : Nat} {S : TS} (hB : BC n S) {c : Nat → Nat} (hf : Fits n (S 3) c) {k : Nat} (hk : k < n) (h1 : S 3 (c k * 7 + c (k + 1)) ≠ 1) : S 3 (c k * 7 + c (k + 1)) = 0 := by
  have a := hf.1 k hk
  have b := hB.2.2.2.2.1 (c k * 7 + c (k + 1))
  omega
/-- growing the tree: m links taken -/
def GI (n : Nat) (S1 S : TS) (m : Nat) : Prop := frF S1 S ∧ TI n S ∧ (∀ x y, x < n → y < n → S1 7 (x * 7 + y) = 1 → S 7 (x * 7 + y) = 1) ∧ (S 6 0 = S1 6 0 ∧ ∀ y, y < n → S 7 (0 * 7 + y) = S1 7 (0 * 7 + y)) ∧ cl n S + m = cl n S1 ∧
  ∃ w : Nat → Int, S 8 0 = S1 8 0 + sm w m ∧ ∀ c, Tour n c → Fits n (S1 3) c → ∀ i, i < m → cl n S1 - 1 - i ≤ cn (fun k => (pth n k ∧ S1 3 (c k * 7 + c (k + 1)) ≠ 1) ∧ w i ≤ wt S1 (c k) (c (k + 1))) n
theorem GI_start {n : Nat} {S0 S : TS} (h : RQ n S0 S) : GI n S S 0 :=
  ⟨frF.rf S, h.2.1, fun _ _ _ _ e => e, ⟨rfl, fun _ _ => rfl⟩, by show cl n S + 0 = _; omega, fun _ => 0, by show S 8 0 = S 8 0 + 0; omega, fun _ _ _ i hi => absurd hi (Nat.not_lt_zero _)⟩
/-- a crossing path link of a fitting tour is open -/
theorem cross_open {n : Nat} {S0 S1 S : TS} {m : Nat} (hB : BC n S0) (hq : RQ n S0 S1) (h : GI n S1 S m) {c : Nat → Nat} (ht : Tour n c) (hf : Fits n (S1 3) c) {k : Nat} (hk : k < n) (hp : pth n k) (hx : S 5 (c k) ≠ S 5 (c (k + 1))) :
    S1 3 (c k * 7 + c (k + 1)) ≠ 1 ∧ ∃ x y, 1 ≤ x ∧ x < y ∧ y < n ∧ opn S x y ∧ wt S x y = wt S1 (c k) (c (k + 1)) := by
  obtain ⟨h7, hn, s1, s3, r3, hw⟩ := hB.fr hq.1
  obtain ⟨hA, hBB, hC, hD, hE, hF, hG, hH, hI, hJ, hK⟩ := h.2.1
  have l := pth_ne ht hp
  have n1 : S1 3 (c k * 7 + c (k + 1)) ≠ 1 := fun e => hx (hC _ _ l.1.1 l.1.2 l.2.1 l.2.2 (h.2.2.1 _ _ l.1.2 l.2.2 ((hq.2.2.1 _ _ l.1.2 l.2.2 (ht.ne hn hk)).mpr e)))
  have n0 := fit_free (hB.fr hq.1) hf hk n1
  refine ⟨n1, ?_⟩
  rcases Nat.lt_trichotomy (c k) (c (k + 1)) with g | g | g
  · exact ⟨c k, c (k + 1), l.1.1, g, l.2.2, ⟨by rw [h.1.e3]; exact n0, hx⟩, h.1.ewt _ _⟩
  · exact absurd g (ht.ne hn hk)
  · refine ⟨c (k + 1), c k, l.2.1, g, l.1.2, ⟨by rw [h.1.e3, s3 _ _ l.2.2 l.1.2]; exact n0, fun e => hx e.symm⟩, ?_⟩
    rw [h.1.ewt]; exact wt_sy s1 l.2.2 l.1.2
theorem GI_step {n : Nat} {S0 S1 S : TS} {m u v : Nat} (hB : BC n S0) (hq : RQ n S0 S1) (h : GI n S1 S m) (hu : 1 ≤ u) (huv : u < v) (hv : v < n) (ho : opn S u v) (hmin : ∀ x y, 1 ≤ x → x < y → y < n → opn S x y → wt S u v ≤ wt S x y) : GI n S1 (takeS S n u v) (m + 1) := by
  obtain ⟨h7, hn, s1, s3, r3, hw⟩ := (hB.fr hq.1).fr h.1
  have hTI := h.2.1
  obtain ⟨hA, hBB, hC, hD, hE, hF, hG, hH, hI, hJ, hK⟩ := h.2.1
  have h0 : S 7 (u * 7 + v) = 0 := by
    rcases (hA.1 u v (by omega) hv).1 with e | e
    · exact e
    · exact absurd (hC u v hu (by omega) (by omega) hv e) ho.2
  obtain ⟨w, hw8, hdom⟩ := h.2.2.2.2.2
  refine ⟨h.1.tk n u v, take_TI h7 hn (by omega) hv (by omega) s1 s3 (hw u v (by omega) hv) h0 (by rw [ho.1]; decide) (Or.inr (Or.inr ho.2)) hTI, fun x y hx hy e => ?_, ⟨?_, fun y hy => ?_⟩, ?_, fun i => if i = m then wt S u v else w i, ?_, fun c ht hf i hi => ?_⟩
  · rw [takeS_7]
    by_cases q : x * 7 + y = u * 7 + v ∨ x * 7 + y = v * 7 + u
    · rw [if_pos q]
    · rw [if_neg q]; exact h.2.2.1 x y hx hy e
  · rw [takeS_6 S n (by omega), if_neg (by omega), if_neg (by omega), ← h.2.2.2.1.1]; omega
  · rw [takeS_7, if_neg (by omega)]; exact h.2.2.2.1.2 y hy
  · rw [take_cl1 (by omega) hv ⟨by omega, by omega⟩ hE ho.2, ← h.2.2.2.2.1]; omega
  · rw [takeS_8, hw8]
    show _ = S1 8 0 + (sm (fun i => if i = m then wt S u v else w i) m + (if m = m then wt S u v else w m))
    rw [if_pos rfl, sm_congr (g := w) (fun k hk => if_neg (by omega))]; omega
  · by_cases e : i = m
    · subst e
      have h1 := cross_cnt (S := S) hn ht
      have h2 : cn (fun k => pth n k ∧ S 5 (c k) ≠ S 5 (c (k + 1))) n ≤ cn (fun k => (pth n k ∧ S1 3 (c k * 7 + c (k + 1)) ≠ 1) ∧ (if i = i then wt S u v else w i) ≤ wt S1 (c k) (c (k + 1))) n := cn_mono (fun k hk z => by
        obtain ⟨n1, x, y, x1, x2, x3, x4, x5⟩ := cross_open hB hq h ht hf hk z.1 z.2
        refine ⟨⟨z.1, n1⟩, ?_⟩
        rw [if_pos rfl, ← x5]
        exact hmin x y x1 x2 x3 x4)
      have h3 := h.2.2.2.2.1
      show _ ≤ cn (fun k => (pth n k ∧ S1 3 (c k * 7 + c (k + 1)) ≠ 1) ∧ (if i = i then wt S u v else w i) ≤ wt S1 (c k) (c (k + 1))) n
      omega
    · have := hdom c ht hf i (by omega)
      show _ ≤ cn (fun k => (pth n k ∧ S1 3 (c k * 7 + c (k + 1)) ≠ 1) ∧ (if i = m then wt S u v else w i) ≤ wt S1 (c k) (c (k + 1))) n
      rw [if_neg e]
      exact this
theorem cl_pos {n : Nat} {S : TS} (hn : 3 ≤ n) (hE : tE n S) : 1 ≤ cl n S := by
  obtain ⟨v, h1, h2, h3⟩ := hE 1 (by omega)
  exact cn_ex h1 ⟨1, by omega, by omega, h2⟩
theorem cl_le {n : Nat} {S : TS} (hn : 3 ≤ n) (hE : tE n S) : cl n S ≤ (n : Int) - 1 := by
  have h1 : cn (fun _ => True) n = n := by
    have : cn (fun _ => True) n = sm (fun _ => 1) n := si_all (fun _ _ => trivial)
    rw [this, sm_one]
  have h2 := cn_lt (P := lab n (S 5)) (Q := fun _ => True) (n := n) (k0 := 0) (fun _ _ _ => trivial) (by omega) trivial (by
    rintro ⟨x, x1, x2, x3⟩
    obtain ⟨v, h1, h2, h3⟩ := hE x x2
    have := h3 x1
    omega)
  show cn (lab n (S 5)) n ≤ _
  omega
theorem cl_one {n : Nat} {S : TS} (hn : 3 ≤ n) (hE : tE n S) (hj : ∀ j, 2 ≤ j → j < n → S 5 j = S 5 1) : cl n S = 1 := by
  have h1 := cl_pos hn hE
  obtain ⟨v, v1, v2, v3⟩ := hE 1 (by omega)
  have h2 : cn (lab n (S 5)) n ≤ cn (fun _ => False) n + 1 := cn_succ (k0 := v) (fun z _ ⟨x, x1, x2, x3⟩ => Or.inr (by
    by_cases e : x = 1
    · subst e; omega
    · rw [hj x (by omega) x2] at x3; omega))
  have h3 : cn (fun _ => False) n = 0 := si_none (fun _ _ q => q)
  show cn (lab n (S 5)) n = 1
  unfold cl at h1
  omega
theorem GI_fail {n : Nat} {S0 S1 S : TS} {m : Nat} (hB : BC n S0) (hq : RQ n S0 S1) (h : GI n S1 S m) (hno : ∀ x y, 1 ≤ x → x < y → y < n → ¬ opn S x y) {j : Nat} (hj2 : 2 ≤ j) (hj : j < n) (hne : S 5 j ≠ S 5 1) : ∀ c, Tour n c → ¬ Fits n (S0 3) c := by
  intro c ht hf
  obtain ⟨h7, hn, s1, s3, r3, hw⟩ := (hB.fr hq.1).fr h.1
  obtain ⟨hA, hBB, hC, hD, hE, hF, hG, hH, hI, hJ, hK⟩ := h.2.1
  obtain ⟨v, v1, v2, v3⟩ := hE 1 (by omega)
  obtain ⟨z, z1, z2, z3⟩ := hE j hj
  have h2 : cl n S = cn (fun x => lab n (S 5) x ∧ x ≠ v) n + 1 := si_one v1 ⟨1, by omega, by omega, v2⟩
  have h3 := cn_ex (P := fun x => lab n (S 5) x ∧ x ≠ v) (n := n) (k0 := z) z1 ⟨⟨j, by omega, hj, z2⟩, fun e => hne (by rw [z2, v2, e])⟩
  have h1 := cross_cnt (S := S) hn ht
  obtain ⟨k, hk, hp, hx⟩ := cn_pos (P := fun k => pth n k ∧ S 5 (c k) ≠ S 5 (c (k + 1))) (n := n) (by omega)
  rw [← hq.1.e3] at hf
  obtain ⟨-, x, y, x1, x2, x3, x4, -⟩ := cross_open hB hq h ht hf hk hp hx
  exact hno x y x1 x2 x3 x4
end
section
/-! ===== build, second half: the links of city 0, and what a built tree says ===== -/
def opz (S : TS) (b : Nat) : Prop := S 3 b = 0 ∧ S 7 b = 0
theorem zero_ne {n : Nat} {c : Nat → Nat} (hn : 3 ≤ n) (ht : Tour n c) {k : Nat} (hk : k < n) (hp : ¬ pth n k) : ∃ y, 1 ≤ y ∧ y < n ∧ ((c k = 0 ∧ c (k + 1) = y) ∨ (c k = y ∧ c (k + 1) = 0)) := by
  have ne := ht.ne hn hk
  have l1 := ht.lt (i := k) (by omega) (by omega)
  have l2 := ht.lt (i := k + 1) (by omega) (by omega)
  by_cases e : k = 0
  · subst e
    rw [ht.1] at ne
    exact ⟨c (0 + 1), by omega, l2, Or.inl ⟨ht.1, rfl⟩⟩
  · have e2 : k + 1 = n := by unfold pth at hp; omega
    have e3 : c (k + 1) = 0 := by rw [e2]; exact ht.2.1
    rw [e3] at ne
    exact ⟨c k, by omega, l1, Or.inr ⟨rfl, e3⟩⟩
def ZF (n : Nat) (S1 : TS) (c : Nat → Nat) (k : Nat) : Prop := ¬ pth n k ∧ S1 3 (c k * 7 + c (k + 1)) ≠ 1
theorem ZF_cnt {n : Nat} {S0 S1 : TS} (hB : BC n S0) (hq : RQ n S0 S1) {c : Nat → Nat} (ht : Tour n c) (hf : Fits n (S0 3) c) : cn (ZF n S1 c) n = 2 - S1 6 0 := by
  obtain ⟨h7, hn, s1, s3, r3, hw⟩ := hB.fr hq.1
  obtain ⟨hA, hBB, hC, hD, hE, hF, hG, hH, hI, hJ, hK⟩ := hq.2.1
  have h1 : cn (fun _ => True) n = n := by
    have : cn (fun _ => True) n = sm (fun _ => 1) n := si_all (fun _ _ => trivial)
    rw [this, sm_one]
  have h2 := cn_split (P := fun _ => True) (pth n) n
  have h3 : cn (fun k => True ∧ pth n k) n = cn (pth n) n := cn_congr (fun _ _ => ⟨fun z => z.2, fun z => ⟨trivial, z⟩⟩)
  have h4 := pth_cnt hn
  have h5 : cn (fun k => True ∧ ¬ pth n k) n = cn (fun k => ¬ pth n k) n := cn_congr (fun _ _ => ⟨fun z => z.2, fun z => ⟨trivial, z⟩⟩)
  have h6 := cn_split (P := fun k => ¬ pth n k) (fun k => S1 7 (c k * 7 + c (k + 1)) = 1) n
  have h7' := hJ c ht (hq.inT hB hf)
  rw [ES_zw] at h7'
  have h8 : cn (fun k => ¬ pth n k ∧ ¬ S1 7 (c k * 7 + c (k + 1)) = 1) n = cn (ZF n S1 c) n := cn_congr (fun k hk => by
    have e := hq.2.2.1 (c k) (c (k + 1)) (ht.lt (by omega) (by omega)) (ht.lt (by omega) (by omega)) (ht.ne hn hk)
    exact ⟨fun z => ⟨z.1, fun q => z.2 (e.mpr q)⟩, fun z => ⟨z.1, fun q => z.2 (e.mp q)⟩⟩)
  omega
def ZI (n : Nat) (S1 S2 S : TS) (m : Nat) : Prop := frF S2 S ∧ TI n S ∧ (∀ x y, x < n → y < n → S2 7 (x * 7 + y) = 1 → S 7 (x * 7 + y) = 1) ∧ S 6 0 = S2 6 0 + m ∧ S 5 = S2 5 ∧
  (∀ c, Tour n c → cn (fun k => ZF n S1 c k ∧ S 7 (c k * 7 + c (k + 1)) = 1) n ≤ m) ∧
  ∃ w : Nat → Int, S 8 0 = S2 8 0 + sm w m ∧ ∀ c, Tour n c → Fits n (S1 3) c → ∀ i, i < m → 2 - S1 6 0 - i ≤ cn (fun k => ZF n S1 c k ∧ w i ≤ wt S1 (c k) (c (k + 1))) n
theorem ZI_start {n m : Nat} {S0 S1 S : TS} (hB : BC n S0) (hq : RQ n S0 S1) (h : GI n S1 S m) : ZI n S1 S S 0 := by
  obtain ⟨h7, hn, s1, s3, r3, hw⟩ := hB.fr hq.1
  refine ⟨frF.rf S, h.2.1, fun _ _ _ _ e => e, by show S 6 0 = S 6 0 + 0; omega, rfl, fun c ht => ?_, fun _ => 0, by show S 8 0 = S 8 0 + 0; omega, fun _ _ _ i hi => absurd hi (Nat.not_lt_zero _)⟩
  have : cn (fun k => ZF n S1 c k ∧ S 7 (c k * 7 + c (k + 1)) = 1) n = 0 := si_none (fun k hk z => by
    obtain ⟨y, y1, y2, e⟩ := zero_ne hn ht hk z.1.1
    have z2 := z.2
    have z1 := z.1.2
    rcases e with ⟨e1, e2⟩ | ⟨e1, e2⟩
    · rw [e1, e2, h.2.2.2.1.2 y y2] at z2
      rw [e1, e2] at z1
      exact z1 ((hq.2.2.1 0 y (by omega) y2 (by omega)).mp z2)
    · rw [e1, e2, (h.2.1.1.1 y 0 y2 (by omega)).2, h.2.2.2.1.2 y y2] at z2
      rw [e1, e2, s3 y 0 y2 (by omega)] at z1
      exact z1 ((hq.2.2.1 0 y (by omega) y2 (by omega)).mp z2))
  rw [this]; exact Int.le_refl _
/-- an unchosen free link of city 0 in a fitting tour is open -/
theorem zero_open {n m m0 : Nat} {S0 S1 S2 S : TS} (hB : BC n S0) (hq : RQ n S0 S1) (hg : GI n S1 S2 m0) (h : ZI n S1 S2 S m) {c : Nat → Nat} (ht : Tour n c) (hf : Fits n (S1 3) c) {k : Nat} (hk : k < n) (hz : ZF n S1 c k) (hx : ¬ S 7 (c k * 7 + c (k + 1)) = 1) :
    ∃ y, 1 ≤ y ∧ y < n ∧ opz S y ∧ wt S 0 y = wt S1 (c k) (c (k + 1)) := by
  obtain ⟨h7, hn, s1, s3, r3, hw⟩ := hB.fr hq.1
  have fr : frF S1 S := hg.1.tr h.1
  have n0 := fit_free (hB.fr hq.1) hf hk hz.2
  obtain ⟨y, y1, y2, e⟩ := zero_ne hn ht hk hz.1
  have hA := h.2.1.1
  have i0 : 0 * 7 + y = y := by omega
  rcases e with ⟨e1, e2⟩ | ⟨e1, e2⟩
  · rw [e1, e2] at hx n0 ⊢
    refine ⟨y, y1, y2, ⟨by rw [fr.e3, ← i0]; exact n0, ?_⟩, fr.ewt _ _⟩
    rw [← i0]
    exact ((hA.1 0 y (by omega) y2).1).resolve_right hx
  · rw [e1, e2] at hx n0 ⊢
    rw [s3 y 0 y2 (by omega)] at n0
    rw [(hA.1 y 0 y2 (by omega)).2] at hx
    refine ⟨y, y1, y2, ⟨by rw [fr.e3, ← i0]; exact n0, ?_⟩, ?_⟩
    · rw [← i0]
      exact ((hA.1 0 y (by omega) y2).1).resolve_right hx
    · rw [fr.ewt]; exact wt_sy s1 (by omega) y2
theorem ZI_step {n m m0 b : Nat} {S0 S1 S2 S : TS} (hB : BC n S0) (hq : RQ n S0 S1) (hg : GI n S1 S2 m0) (h : ZI n S1 S2 S m) (hb1 : 1 ≤ b) (hb : b < n) (ho : opz S b) (hmin : ∀ y, 1 ≤ y → y < n → opz S y → wt S 0 b ≤ wt S 0 y) : ZI n S1 S2 (takeS S n 0 b) (m + 1) := by
  obtain ⟨h7, hn, s1, s3, r3, hw⟩ := ((hB.fr hq.1).fr hg.1).fr h.1
  have i0 : 0 * 7 + b = b := by omega
  have h0 : S 7 (0 * 7 + b) = 0 := by rw [i0]; exact ho.2
  obtain ⟨w, hw8, hdom⟩ := h.2.2.2.2.2.2
  refine ⟨h.1.tk n 0 b, take_TI h7 hn (by omega) hb (by omega) s1 s3 (hw 0 b (by omega) hb) h0 (by rw [i0, ho.1]; decide) (Or.inl rfl) h.2.1, fun x y hx hy e => ?_, ?_, ?_, fun c ht => ?_, fun i => if i = m then wt S 0 b else w i, ?_, fun c ht hf i hi => ?_⟩
  · rw [takeS_7]
    by_cases q : x * 7 + y = 0 * 7 + b ∨ x * 7 + y = b * 7 + 0
    · rw [if_pos q]
    · rw [if_neg q]; exact h.2.2.1 x y hx hy e
  · rw [takeS_6 S n (by omega), if_pos rfl, if_neg (by omega), h.2.2.2.1]; omega
  · funext j
    rw [takeS_5, if_neg (fun z => by omega), h.2.2.2.2.1]
  · have a := h.2.2.2.2.2.1 c ht
    by_cases q : Adj n c 0 b
    · obtain ⟨k0, hk0, he⟩ := q
      have b2 : cn (fun k => ZF n S1 c k ∧ takeS S n 0 b 7 (c k * 7 + c (k + 1)) = 1) n ≤ cn (fun k => ZF n S1 c k ∧ S 7 (c k * 7 + c (k + 1)) = 1) n + 1 := cn_succ (k0 := k0) (fun k hk z => by
        have z2 := z.2
        rw [takeS_7] at z2
        by_cases q : c k * 7 + c (k + 1) = 0 * 7 + b ∨ c k * 7 + c (k + 1) = b * 7 + 0
        · right
          have l1 := ht.lt (i := k) (by omega) (by omega)
          have l2 := ht.lt (i := k + 1) (by omega) (by omega)
          refine ht.one hn hk hk0 ?_
          rcases q with q | q
          · have e := (ix7 (by omega) (by omega)).mp q; omega
          · have e := (ix7 (by omega) (by omega)).mp q; omega
        · rw [if_neg q] at z2
          exact Or.inl ⟨z.1, z2⟩)
      omega
    · have b2 : cn (fun k => ZF n S1 c k ∧ takeS S n 0 b 7 (c k * 7 + c (k + 1)) = 1) n ≤ cn (fun k => ZF n S1 c k ∧ S 7 (c k * 7 + c (k + 1)) = 1) n := cn_mono (fun k hk z => by
        have z2 := z.2
        rw [takeS_7] at z2
        by_cases q2 : c k * 7 + c (k + 1) = 0 * 7 + b ∨ c k * 7 + c (k + 1) = b * 7 + 0
        · exfalso
          have l1 := ht.lt (i := k) (by omega) (by omega)
          have l2 := ht.lt (i := k + 1) (by omega) (by omega)
          refine q ⟨k, hk, ?_⟩
          rcases q2 with q2 | q2
          · have e := (ix7 (by omega) (by omega)).mp q2; omega
          · have e := (ix7 (by omega) (by omega)).mp q2; omega
        · rw [if_neg q2] at z2
          exact ⟨z.1, z2⟩)
      omega
  · rw [takeS_8, hw8]
    show _ = S2 8 0 + (sm (fun i => if i = m then wt S 0 b else w i) m + (if m = m then wt S 0 b else w m))
    rw [if_pos rfl, sm_congr (g := w) (fun k hk => if_neg (by omega))]; omega
  · by_cases e : i = m
    · subst e
      have h1 := ZF_cnt hB hq ht (by rw [← hq.1.e3]; exact hf)
      have h2 := cn_split (P := ZF n S1 c) (fun k => S 7 (c k * 7 + c (k + 1)) = 1) n
      have h3 := h.2.2.2.2.2.1 c ht
      have h4 : cn (fun k => ZF n S1 c k ∧ ¬ S 7 (c k * 7 + c (k + 1)) = 1) n ≤ cn (fun k => ZF n S1 c k ∧ (if i = i then wt S 0 b else w i) ≤ wt S1 (c k) (c (k + 1))) n := cn_mono (fun k hk z => by
        obtain ⟨y, y1, y2, y3, y4⟩ := zero_open hB hq hg h ht hf hk z.1 z.2
        refine ⟨z.1, ?_⟩
        rw [if_pos rfl, ← y4]
        exact hmin y y1 y2 y3)
      show _ ≤ cn (fun k => ZF n S1 c k ∧ (if i = i then wt S 0 b else w i) ≤ wt S1 (c k) (c (k + 1))) n
      omega
    · have := hdom c ht hf i (by omega)
      show _ ≤ cn (fun k => ZF n S1 c k ∧ (if i = m then wt S 0 b else w i) ≤ wt S1 (c k) (c (k + 1))) n
      rw [if_neg e]
      exact this
theorem ZI_fail {n m m0 : Nat} {S0 S1 S2 S : TS} (hB : BC n S0) (hq : RQ n S0 S1) (hg : GI n S1 S2 m0) (h : ZI n S1 S2 S m) (hd : S 6 0 < 2) (hno : ∀ y, 1 ≤ y → y < n → ¬ opz S y) : ∀ c, Tour n c → ¬ Fits n (S0 3) c := by
  intro c ht hf
  have h1 := ZF_cnt hB hq ht hf
  rw [← hq.1.e3] at hf
  have h2 := cn_split (P := ZF n S1 c) (fun k => S 7 (c k * 7 + c (k + 1)) = 1) n
  have h3 := h.2.2.2.2.2.1 c ht
  have h4 := h.2.2.2.1
  have h5 := hg.2.2.2.1.1
  obtain ⟨k, hk, z1, z2⟩ := cn_pos (P := fun k => ZF n S1 c k ∧ ¬ S 7 (c k * 7 + c (k + 1)) = 1) (n := n) (by omega)
  obtain ⟨y, y1, y2, y3, y4⟩ := zero_open hB hq hg h ht hf hk z1 z2
  exact hno y y1 y2 y3
/-! what a built tree says -/
def wsum (n : Nat) (S : TS) (c : Nat → Nat) : Int := sm (fun k => wt S (c k) (c (k + 1))) n
def GOOD (n : Nat) (S : TS) : Prop := (∀ x, x < n → 0 ≤ S 6 x ∧ S 6 x ≤ n) ∧ (∀ x y, x < n → y < n → S 7 (x * 7 + y) = 0 ∨ S 7 (x * 7 + y) = 1) ∧ (-1000000 ≤ S 8 0 ∧ S 8 0 ≤ 1000000) ∧ (∀ x, x < n → S 7 (x * 7 + x) = 0) ∧
  (∀ c, Tour n c → Fits n (S 3) c → S 8 0 ≤ wsum n S c) ∧
  ((∀ x, x < n → S 6 x = 2) → ∃ c, Tour n c ∧ Fits n (S 3) c ∧ S 8 0 = wsum n S c) ∧
  ((∃ x, x < n ∧ S 6 x ≠ 2) → ∃ x y, x < n ∧ y < n ∧ lbP S x y)
theorem good_of {n m m0 : Nat} {S0 S1 S2 S : TS} (hB : BC n S0) (hq : RQ n S0 S1) (hg : GI n S1 S2 m0) (hcl : cl n S2 = 1) (hj : ∀ j, 2 ≤ j → j < n → S2 5 j = S2 5 1) (h : ZI n S1 S2 S m) (hd : S 6 0 = 2) : GOOD n S := by
  obtain ⟨h7, hn, s1, s3, r3, hw⟩ := ((hB.fr hq.1).fr hg.1).fr h.1
  have hTI := h.2.1
  obtain ⟨hA, hBB, hC, hD, hE, hF, hG, hH, hI, hJ, hK⟩ := h.2.1
  have fr1 : frF S1 S := hg.1.tr h.1
  have hcS : cl n S = 1 := by unfold cl at hcl ⊢; rw [h.2.2.2.2.1]; exact hcl
  have hreq : ∀ x y, x < n → y < n → x ≠ y → S 3 (x * 7 + y) = 1 → S 7 (x * 7 + y) = 1 := fun x y hx hy hxy e => h.2.2.1 x y hx hy (hg.2.2.1 x y hx hy ((hq.2.2.1 x y hx hy hxy).mpr (by rw [← fr1.e3]; exact e)))
  have hsum : sm (S 6) n = 2 * (n : Int) := by
    unfold tF at hF
    rw [hcS, hd] at hF
    omega
  refine ⟨fun x hx => deg_rng hA hBB hx, fun x y hx hy => (hA.1 x y hx hy).1, ?_, hA.2, fun c ht hf => ?_, fun hall => ?_, fun hex => ?_⟩
  · unfold tK at hK
    rw [hsum] at hK
    omega
  · have hf1 : Fits n (S1 3) c := by rw [← fr1.e3]; exact hf
    have hf0 : Fits n (S0 3) c := by rw [← hq.1.e3]; exact hf1
    obtain ⟨w, hw8, hdom⟩ := hg.2.2.2.2.2
    obtain ⟨z, hz8, hzom⟩ := h.2.2.2.2.2.2
    have hin := hq.inT hB hf0
    have g1 := hq.2.1.2.2.2.2.2.2.1 c ht hin
    have i1 := hq.2.1.2.2.2.2.2.2.2.2.1 c ht hin
    rw [ES_pw] at i1
    have eq7 : ∀ k, k < n → (S1 7 (c k * 7 + c (k + 1)) = 1 ↔ S1 3 (c k * 7 + c (k + 1)) = 1) := fun k hk => hq.2.2.1 _ _ (ht.lt (by omega) (by omega)) (ht.lt (by omega) (by omega)) (ht.ne hn hk)
    have c1 : cn (fun k => pth n k ∧ S1 3 (c k * 7 + c (k + 1)) ≠ 1) n = m0 := by
      have a1 := cn_split (P := pth n) (fun k => S1 7 (c k * 7 + c (k + 1)) = 1) n
      have a2 := pth_cnt hn
      have a3 : cn (fun k => pth n k ∧ ¬ S1 7 (c k * 7 + c (k + 1)) = 1) n = cn (fun k => pth n k ∧ S1 3 (c k * 7 + c (k + 1)) ≠ 1) n := cn_congr (fun k hk => ⟨fun q => ⟨q.1, fun e => q.2 ((eq7 k hk).mpr e)⟩, fun q => ⟨q.1, fun e => q.2 ((eq7 k hk).mp e)⟩⟩)
      have a4 := hg.2.2.2.2.1
      omega
    have c2 : cn (ZF n S1 c) n = m := by
      have a1 := ZF_cnt hB hq ht hf0
      have a2 := h.2.2.2.1
      have a3 := hg.2.2.2.1.1
      omega
    have d1 : sm w m0 ≤ si (fun k => pth n k ∧ S1 3 (c k * 7 + c (k + 1)) ≠ 1) (fun k => wt S1 (c k) (c (k + 1))) n := dom_le m0 _ c1 (fun i hi => by
      have a1 := hdom c ht hf1 i hi
      have a4 := hg.2.2.2.2.1
      omega)
    have d2 : sm z m ≤ si (ZF n S1 c) (fun k => wt S1 (c k) (c (k + 1))) n := dom_le m _ c2 (fun i hi => by
      have a1 := hzom c ht hf1 i hi
      have a2 := h.2.2.2.1
      have a3 := hg.2.2.2.1.1
      omega)
    have e1 : ES n S1 c (fun k => wt S1 (c k) (c (k + 1))) = si (fun k => True ∧ S1 3 (c k * 7 + c (k + 1)) = 1) (fun k => wt S1 (c k) (c (k + 1))) n := si_congr (fun k hk => ⟨fun q => ⟨trivial, (eq7 k hk).mp q⟩, fun q => (eq7 k hk).mpr q.2⟩) (fun _ _ _ => rfl)
    have e2 := si_split (P := fun _ => True) (fun k => S1 3 (c k * 7 + c (k + 1)) = 1) (fun k => wt S1 (c k) (c (k + 1))) n
    have e3 := si_split (P := fun k => True ∧ ¬ S1 3 (c k * 7 + c (k + 1)) = 1) (fun k => pth n k) (fun k => wt S1 (c k) (c (k + 1))) n
    have e4 : si (fun k => (True ∧ ¬ S1 3 (c k * 7 + c (k + 1)) = 1) ∧ pth n k) (fun k => wt S1 (c k) (c (k + 1))) n = si (fun k => pth n k ∧ S1 3 (c k * 7 + c (k + 1)) ≠ 1) (fun k => wt S1 (c k) (c (k + 1))) n := si_congr (fun k hk => ⟨fun q => ⟨q.2, q.1.2⟩, fun q => ⟨⟨trivial, q.2⟩, q.1⟩⟩) (fun _ _ _ => rfl)
    have e5 : si (fun k => (True ∧ ¬ S1 3 (c k * 7 + c (k + 1)) = 1) ∧ ¬ pth n k) (fun k => wt S1 (c k) (c (k + 1))) n = si (ZF n S1 c) (fun k => wt S1 (c k) (c (k + 1))) n := si_congr (fun k hk => ⟨fun q => ⟨q.2, q.1.2⟩, fun q => ⟨⟨trivial, q.2⟩, q.1⟩⟩) (fun _ _ _ => rfl)
    have e6 : si (fun _ => True) (fun k => wt S1 (c k) (c (k + 1))) n = wsum n S c := by
      rw [si_all (fun _ _ => trivial)]
      exact sm_congr (fun k hk => (fr1.ewt _ _).symm)
    omega
  · obtain ⟨c, ht, hch⟩ := cyc_of hn (E := fun x y => S 7 (x * 7 + y) = 1) (fun x y hx hy e => by rw [(hA.1 y x hy hx).2]; exact e) (fun x hx e => by rw [hA.2 x hx] at e; exact absurd e (by decide)) (fun x hx => by rw [← deg_cn hA hBB hx]; exact hall x hx) (fun P hP x y x1 hx y1 hy px => hD P hP x y x1 hx y1 hy (by
      have one : ∀ z, 1 ≤ z → z < n → S 5 z = S 5 1 := fun z z1 z2 => by
        rw [h.2.2.2.2.1]
        by_cases e : z = 1
        · rw [e]
        · exact hj z (by omega) z2
      rw [one x x1 hx, one y y1 hy]) px)
    have hin : inT n S c := by
      intro x y hx hy e
      obtain ⟨k, hk, rfl⟩ := ht.sur hx
      obtain ⟨p, hp, hp2, hpk, hne, hall2⟩ := ht.two hn hk
      have l2 := ht.lt (i := k + 1) (by omega) (by omega)
      have dk := hall (c k) hx
      rw [deg_cn hA hBB hx] at dk
      obtain ⟨z, z1, z2, z3, z4⟩ := two_nb (F := fun y => S 7 (c k * 7 + y) = 1) dk l2 (hch k hk)
      have hpn := ht.2.2.1 p hp
      have ep : S 7 (c k * 7 + c p) = 1 := by
        have a := hch p hp
        rw [hp2] at a
        rw [(hA.1 (c k) (c p) hx hpn).2]; exact a
      rcases z4 y hy e with q | q
      · exact ⟨k, hk, Or.inl ⟨rfl, q.symm⟩⟩
      · rcases z4 (c p) hpn ep with r | r
        · exact absurd r hne
        · exact ⟨p, hp, Or.inr ⟨by rw [q, r], hp2⟩⟩
    refine ⟨c, ht, ⟨fun k hk => hH _ _ (ht.lt (by omega) (by omega)) (ht.lt (by omega) (by omega)) (hch k hk), fun a b hab hb e => hin a b (by omega) hb (hreq a b (by omega) hb (by omega) e)⟩, ?_⟩
    rw [hG c ht hin]
    exact si_all (fun k hk => hch k hk)
  · have hbig : ∃ x, x < n ∧ 2 < S 6 x := by
      refine Classical.byContradiction (fun q => ?_)
      have le2 : ∀ x, x < n → S 6 x ≤ 2 := fun x hx => by
        refine Classical.byContradiction (fun r => q ⟨x, hx, by omega⟩)
      have z : sm (fun x => 2 - S 6 x) n = 0 := by
        have a := sm_add (fun x => 2 - S 6 x) (S 6) n
        have b : sm (fun k => (fun x => 2 - S 6 x) k + S 6 k) n = sm (fun _ => 1 + 1) n := sm_congr (fun k _ => by show 2 - S 6 k + S 6 k = 1 + 1; omega)
        rw [b, sm_add, sm_one, hsum] at a
        omega
      obtain ⟨x, hx, hne⟩ := hex
      have := sm_all_zero (fun k hk => by have := le2 k hk; show 0 ≤ 2 - S 6 k; omega) z x hx
      have h9 : 2 - S 6 x = 0 := this
      omega
    obtain ⟨x, hx, hx2⟩ := hbig
    have d := deg_cn hA hBB hx
    have d1 := deg_cn hq.2.1.1 hq.2.1.2.1 hx
    have d2 := hq.2.2.2 x hx
    have sp := cn_split (P := fun y => S 7 (x * 7 + y) = 1) (fun y => S 3 (x * 7 + y) = 1) n
    have le : cn (fun y => S 7 (x * 7 + y) = 1 ∧ S 3 (x * 7 + y) = 1) n ≤ cn (fun y => S1 7 (x * 7 + y) = 1) n := cn_mono (fun y hy q => (hq.2.2.1 x y hx hy (fun e => by
      have q1 := q.1
      rw [← e, hA.2 x hx] at q1
      exact absurd q1 (by decide))).mpr (by rw [← fr1.e3]; exact q.2))
    obtain ⟨y, hy, y1, y2⟩ := cn_pos (P := fun y => S 7 (x * 7 + y) = 1 ∧ ¬ S 3 (x * 7 + y) = 1) (n := n) (by omega)
    refine ⟨x, y, hx, hy, hx2, by rw [y1]; decide, ?_⟩
    have a := r3 (x * 7 + y)
    have b := hH x y hx hy y1
    omega
theorem wsum_cost {n : Nat} {S : TS} {c : Nat → Nat} (hn : 0 < n) (ht : Tour n c) : wsum n S c = Cost n (S 1) c + 2 * sm (S 4) n := by
  unfold wsum Cost
  rw [← ht.pen hn (S 4), ← sm_add]
  exact sm_congr (fun k hk => by unfold wt; omega)
end
section
/-! ===== branching on links: the plain part ===== -/
def mir (l : Nat) : Nat := (l % 7) * 7 + l / 7
def dec1 (R : Nat → Int) (l : Nat) (v : Int) : Nat → Int := fun j => if j = mir l then v else if j = l then v else R j
theorem mir_xy {x y : Nat} (hy : y < 7) : mir (x * 7 + y) = y * 7 + x := by
  unfold mir
  rw [show (x * 7 + y) % 7 = y by omega, show (x * 7 + y) / 7 = x by omega]
theorem dec1_at (R : Nat → Int) {x y : Nat} (hy : y < 7) (v : Int) (j : Nat) : dec1 R (x * 7 + y) v j = if j = y * 7 + x ∨ j = x * 7 + y then v else R j := by
  unfold dec1
  rw [mir_xy hy]
  by_cases h1 : j = y * 7 + x
  · rw [if_pos h1, if_pos (Or.inl h1)]
  · by_cases h2 : j = x * 7 + y
    · rw [if_neg h1, if_pos h2, if_pos (Or.inr h2)]
    · rw [if_neg h1, if_neg h2, if_neg (fun q => q.elim h1 h2)]
/-- a link: two cities, apart -/
def isL (n l : Nat) : Prop := ∃ x y, x < n ∧ y < n ∧ x ≠ y ∧ l = x * 7 + y
section DEC
variable {n : Nat} {R : Nat → Int} {l : Nat} {c : Nat → Nat}
theorem fits_branch (h7 : n ≤ 7) (hl : isL n l) (ht : Tour n c) (h : Fits n R c) : Fits n (dec1 R l 1) c ∨ Fits n (dec1 R l 2) c := by
  obtain ⟨x, y, hx, hy, hxy, rfl⟩ := hl
  by_cases q : Adj n c x y
  · refine Or.inl ⟨fun k hk => ?_, fun a b hab hb e => ?_⟩
    · rw [dec1_at R (by omega)]
      by_cases z : c k * 7 + c (k + 1) = y * 7 + x ∨ c k * 7 + c (k + 1) = x * 7 + y
      · rw [if_pos z]; decide
      · rw [if_neg z]; exact h.1 k hk
    · rw [dec1_at R (by omega)] at e
      by_cases z : a * 7 + b = y * 7 + x ∨ a * 7 + b = x * 7 + y
      · rcases z with z | z
        · have := (ix7 (by omega) (by omega)).mp z
          rw [this.1, this.2]; exact q.symm
        · have := (ix7 (by omega) (by omega)).mp z
          rw [this.1, this.2]; exact q
      · rw [if_neg z] at e; exact h.2 a b hab hb e
  · refine Or.inr ⟨fun k hk => ?_, fun a b hab hb e => ?_⟩
    · rw [dec1_at R (by omega)]
      have l1 := ht.lt (i := k) (by omega) (by omega)
      have l2 := ht.lt (i := k + 1) (by omega) (by omega)
      by_cases z : c k * 7 + c (k + 1) = y * 7 + x ∨ c k * 7 + c (k + 1) = x * 7 + y
      · exfalso
        rcases z with z | z
        · have := (ix7 (by omega) (by omega)).mp z
          exact q ⟨k, hk, Or.inr this⟩
        · have := (ix7 (by omega) (by omega)).mp z
          exact q ⟨k, hk, Or.inl this⟩
      · rw [if_neg z]; exact h.1 k hk
    · rw [dec1_at R (by omega)] at e
      by_cases z : a * 7 + b = y * 7 + x ∨ a * 7 + b = x * 7 + y
      · rw [if_pos z] at e; exact absurd e (by decide)
      · rw [if_neg z] at e; exact h.2 a b hab hb e
theorem fits_up (hl : isL n l) (h7 : n ≤ 7) {v : Int} (h0 : R l = 0) (h1 : R (mir l) = 0) (h : Fits n (dec1 R l v) c) : Fits n R c := by
  obtain ⟨x, y, hx, hy, hxy, rfl⟩ := hl
  rw [mir_xy (by omega)] at h1
  have key : ∀ j, R j ≠ 0 → dec1 R (x * 7 + y) v j = R j := fun j hj => by
    rw [dec1_at R (by omega)]
    rw [if_neg]
    rintro (e | e)
    · rw [e] at hj; exact hj h1
    · rw [e] at hj; exact hj h0
  refine ⟨fun k hk e => h.1 k hk (by rw [key _ (by rw [e]; decide)]; exact e), fun a b hab hb e => h.2 a b hab hb (by rw [key _ (by rw [e]; decide)]; exact e)⟩
/-- required: the tour has the link -/
theorem fits_req (hl : isL n l) (h7 : n ≤ 7) : Fits n (dec1 R l 1) c → (∀ x y, l = x * 7 + y → x < n → y < n → Adj n c x y) := by
  intro h x y e hx hy
  obtain ⟨a, b, ha, hb, hab, rfl⟩ := hl
  have := (ix7 (by omega) (by omega)).mp e
  obtain ⟨rfl, rfl⟩ := this
  rcases Nat.lt_trichotomy a b with g | g | g
  · exact h.2 a b g hb (by rw [dec1_at R (by omega), if_pos (Or.inr rfl)])
  · exact absurd g hab
  · exact (h.2 b a g ha (by rw [dec1_at R (by omega), if_pos (Or.inl rfl)])).symm
theorem dec1_sy (hl : isL n l) (h7 : n ≤ 7) (v : Int) (h : Sy n R) : Sy n (dec1 R l v) := by
  obtain ⟨x, y, hx, hy, hxy, rfl⟩ := hl
  intro a b ha hb
  rw [dec1_at R (by omega), dec1_at R (by omega)]
  by_cases z : a * 7 + b = y * 7 + x ∨ a * 7 + b = x * 7 + y
  · rw [if_pos z, if_pos (by omega)]
  · rw [if_neg z, if_neg (by omega)]; exact h a b ha hb
theorem dec1_rng {v : Int} (hv : 0 ≤ v ∧ v ≤ 2) (h : ∀ j, 0 ≤ R j ∧ R j ≤ 2) : ∀ j, 0 ≤ dec1 R l v j ∧ dec1 R l v j ≤ 2 := by
  intro j
  unfold dec1
  by_cases z : j = mir l
  · rw [if_pos z]; exact hv
  · rw [if_neg z]
    by_cases z2 : j = l
    · rw [if_pos z2]; exact hv
    · rw [if_neg z2]; exact h j
theorem dec1_back {v : Int} (h0 : R l = 0) (h1 : R (mir l) = 0) : dec1 (dec1 R l v) l 0 = R := by
  funext j
  unfold dec1
  by_cases z : j = mir l
  · rw [if_pos z, z, h1]
  · rw [if_neg z, if_neg z]
    by_cases z2 : j = l
    · rw [if_pos z2, z2, h0]
    · rw [if_neg z2, if_neg z2]
end DEC
/-- the rules with the first i branches laid on -/
def ov (R0 : Nat → Int) (bl bb : Nat → Int) : Nat → Nat → Int
  | 0 => R0
  | i + 1 => dec1 (ov R0 bl bb i) (bl i).toNat (if bb i = 0 then 2 else 1)
theorem ov_congr {R0 : Nat → Int} {bl bb bl' bb' : Nat → Int} : ∀ {L : Nat}, (∀ i, i < L → bl i = bl' i ∧ bb i = bb' i) → ov R0 bl bb L = ov R0 bl' bb' L := by
  intro L
  induction L with
  | zero => intro _; rfl
  | succ L ih =>
    intro h
    show dec1 (ov R0 bl bb L) (bl L).toNat (if bb L = 0 then 2 else 1) = dec1 (ov R0 bl' bb' L) (bl' L).toNat (if bb' L = 0 then 2 else 1)
    rw [ih (fun i hi => h i (by omega)), (h L (by omega)).1, (h L (by omega)).2]
/-- every branch was made on a link that was free -/
def brk (n : Nat) (R0 : Nat → Int) (bl bb : Nat → Int) (L : Nat) : Prop := ∀ i, i < L → isL n (bl i).toNat ∧ 0 ≤ bl i ∧ (bb i = 0 ∨ bb i = 1) ∧ ov R0 bl bb i (bl i).toNat = 0 ∧ ov R0 bl bb i (mir (bl i).toNat) = 0
section OV
variable {n : Nat} {R0 bl bb : Nat → Int} {L : Nat}
theorem brk.mono (h : brk n R0 bl bb L) {L' : Nat} (h' : L' ≤ L) : brk n R0 bl bb L' := fun i hi => h i (by omega)
theorem brk.fits {c : Nat → Nat} (h7 : n ≤ 7) : ∀ {L : Nat}, brk n R0 bl bb L → Fits n (ov R0 bl bb L) c → Fits n R0 c := by
  intro L
  induction L with
  | zero => intro _ h; exact h
  | succ L ih =>
    intro hb h
    have a := hb L (by omega)
    exact ih (hb.mono (by omega)) (fits_up a.1 h7 a.2.2.2.1 a.2.2.2.2 h)
theorem brk.sy (h7 : n ≤ 7) (hs : Sy n R0) : ∀ {L : Nat}, brk n R0 bl bb L → Sy n (ov R0 bl bb L) := by
  intro L
  induction L with
  | zero => intro _; exact hs
  | succ L ih => intro hb; exact dec1_sy (hb L (by omega)).1 h7 _ (ih (hb.mono (by omega)))
theorem ov_rng (hs : ∀ j, 0 ≤ R0 j ∧ R0 j ≤ 2) : ∀ L : Nat, ∀ j, 0 ≤ ov R0 bl bb L j ∧ ov R0 bl bb L j ≤ 2 := by
  intro L
  induction L with
  | zero => exact hs
  | succ L ih =>
    refine dec1_rng ?_ ih
    by_cases q : bb L = 0
    · rw [if_pos q]; decide
    · rw [if_neg q]; decide
theorem ov_step (h : ∀ i, i < L → isL n (bl i).toNat) {i : Nat} (hi : i < L) : ov R0 bl bb L (bl i).toNat ≠ 0 ∧ ov R0 bl bb L (mir (bl i).toNat) ≠ 0 := by
  induction L with
  | zero => omega
  | succ L ih =>
    have key : ∀ j, (ov R0 bl bb L j ≠ 0 ∨ j = (bl L).toNat ∨ j = mir (bl L).toNat) → ov R0 bl bb (L + 1) j ≠ 0 := by
      intro j hj
      show dec1 (ov R0 bl bb L) (bl L).toNat (if bb L = 0 then 2 else 1) j ≠ 0
      have hv : (if bb L = 0 then (2 : Int) else 1) ≠ 0 := by
        by_cases q : bb L = 0
        · rw [if_pos q]; decide
        · rw [if_neg q]; decide
      unfold dec1
      by_cases z : j = mir (bl L).toNat
      · rw [if_pos z]; exact hv
      · rw [if_neg z]
        by_cases z2 : j = (bl L).toNat
        · rw [if_pos z2]; exact hv
        · rw [if_neg z2]; exact hj.resolve_right (fun q => q.elim z2 z)
    by_cases e : i = L
    · subst e; exact ⟨key _ (Or.inr (Or.inl rfl)), key _ (Or.inr (Or.inr rfl))⟩
    · have a := ih (fun i hi => h i (by omega)) (by omega)
      exact ⟨key _ (Or.inl a.1), key _ (Or.inl a.2)⟩
def cd (l : Nat) : Nat := if l / 7 < l % 7 then (l % 7) * (l % 7 - 1) / 2 + l / 7 else (l / 7) * (l / 7 - 1) / 2 + l % 7
theorem cd_ok : ∀ l, l < 49 → l / 7 ≠ l % 7 → cd l < 21 := by decide +kernel
theorem cd_inj_b : (List.range 49).all (fun l => (List.range 49).all (fun l' => decide (l / 7 = l % 7) || (decide (l' / 7 = l' % 7) || (!(cd l == cd l') || (decide (l' = l) || decide (l' = mir l)))))) = true := by decide +kernel
theorem cd_inj (l : Nat) (hl : l < 49) (l' : Nat) (hl' : l' < 49) (h1 : l / 7 ≠ l % 7) (h2 : l' / 7 ≠ l' % 7) (h3 : cd l = cd l') : l' = l ∨ l' = mir l := by
  have h := List.all_eq_true.mp (List.all_eq_true.mp cd_inj_b l (List.mem_range.mpr hl)) l' (List.mem_range.mpr hl')
  simpa [h1, h2, h3] using h
theorem isL.facts {l : Nat} (h7 : n ≤ 7) (h : isL n l) : l < 49 ∧ l / 7 ≠ l % 7 ∧ l / 7 < n ∧ l % 7 < n := by
  obtain ⟨x, y, hx, hy, hxy, rfl⟩ := h
  rw [show (x * 7 + y) % 7 = y by omega, show (x * 7 + y) / 7 = x by omega]
  omega
/-- never more than 21 branches -/
theorem brk.le (h7 : n ≤ 7) (h : brk n R0 bl bb L) : L ≤ 21 := by
  have ap : ∀ i j, i < j → j < L → cd (bl i).toNat ≠ cd (bl j).toNat := by
    intro i j hij hj e
    have a := (h i (by omega)).1.facts h7
    have b := (h j hj).1.facts h7
    have s := ov_step (R0 := R0) (bl := bl) (bb := bb) (L := j) (n := n) (fun k hk => (h k (by omega)).1) hij
    have f := (h j hj).2.2.2.1
    rcases cd_inj _ a.1 _ b.1 a.2.1 b.2.1 e with q | q
    · rw [q] at f; exact s.1 f
    · rw [q] at f; exact s.2 f
  refine inj_le (v := fun i => cd (bl i).toNat) (n := 21) (fun i hi => cd_ok _ ((h i hi).1.facts h7).1 ((h i hi).1.facts h7).2.1) (fun i j hi hj e => ?_)
  rcases Nat.lt_trichotomy i j with g | g | g
  · exact absurd e (ap i j g hj)
  · exact g
  · exact absurd e.symm (ap j i g hi)
end OV
/-- the work that waits: a node at level L has less than 2^(22 - L) nodes under it -/
def pend (bb : Nat → Int) (L : Nat) : Int := sm (fun i => if bb i = 0 then ((2 ^ (21 - i) : Nat) : Int) - 1 else 0) L
theorem pend_nonneg (bb : Nat → Int) (L : Nat) : 0 ≤ pend bb L := by
  refine sm_nonneg (fun k hk => ?_)
  by_cases q : bb k = 0
  · rw [if_pos q]
    have : 0 < 2 ^ (21 - k) := Nat.pow_pos (by decide)
    omega
  · rw [if_neg q]; exact Int.le_refl _
theorem pend_congr {bb bb' : Nat → Int} {L : Nat} (h : ∀ i, i < L → bb i = bb' i) : pend bb L = pend bb' L := sm_congr (fun k hk => by rw [h k hk])
theorem pow_half {L : Nat} (h : L ≤ 21) : 2 ^ (22 - L) = 2 * 2 ^ (21 - L) := by
  rw [show 22 - L = (21 - L) + 1 by omega, Nat.pow_succ]; omega
theorem pow_pos2 (k : Nat) : 0 < 2 ^ k := Nat.pow_pos (by decide)
/-- the least cost of a tour under rules R, -1 where there is none -/
def Opt (n : Nat) (M R : Nat → Int) (r : Int) : Prop := (r = -1 ∧ ∀ c, Tour n c → ¬ Fits n R c) ∨ (0 ≤ r ∧ (∃ c, Tour n c ∧ Fits n R c ∧ Cost n M c = r) ∧ ∀ c, Tour n c → Fits n R c → r ≤ Cost n M c)
theorem sm_bnd {f : Nat → Int} {B : Int} : ∀ {n : Nat}, (∀ k, k < n → -B ≤ f k ∧ f k ≤ B) → -(B * n) ≤ sm f n ∧ sm f n ≤ B * n := by
  intro n
  induction n with
  | zero => intro _; show -(B * ((0 : Nat) : Int)) ≤ 0 ∧ 0 ≤ B * ((0 : Nat) : Int); simp
  | succ n ih =>
    intro h
    have a := ih (fun k hk => h k (by omega))
    have b := h n (by omega)
    have e : B * ((n + 1 : Nat) : Int) = B * n + B := by rw [show ((n + 1 : Nat) : Int) = (n : Int) + 1 from rfl, Int.mul_add, Int.mul_one]
    show -(B * ((n + 1 : Nat) : Int)) ≤ sm f n + f n ∧ sm f n + f n ≤ B * ((n + 1 : Nat) : Int)
    rw [e]
    omega
theorem cost_rng {n : Nat} {M : Nat → Int} {c : Nat → Nat} (h7 : n ≤ 7) (h : ∀ j, 0 ≤ M j ∧ M j ≤ 99) : 0 ≤ Cost n M c ∧ Cost n M c ≤ 693 := by
  refine ⟨sm_nonneg (fun k _ => (h _).1), ?_⟩
  have := (sm_bnd (f := fun k => M (c k * 7 + c (k + 1))) (B := 99) (n := n) (fun k _ => by have := h (c k * 7 + c (k + 1)); omega)).2
  show sm (fun k => M (c k * 7 + c (k + 1))) n ≤ 693
  omega
end
section
/-! ===== examine, backUp, solve: what they keep ===== -/
def exF (S0 S : TS) : Prop := ∀ f, f ≠ 4 → f ≠ 5 → f ≠ 6 → f ≠ 7 → f ≠ 8 → f ≠ 11 → S f = S0 f
def EC (n : Nat) (S : TS) : Prop := n ≤ 7 ∧ 3 ≤ n ∧ Sy n (S 1) ∧ Sy n (S 3) ∧ (∀ j, 0 ≤ S 1 j ∧ S 1 j ≤ 99) ∧ ∀ j, 0 ≤ S 3 j ∧ S 3 j ≤ 2
theorem exF.fr {S0 S S2 : TS} (h : exF S0 S) (h2 : frF S S2) : exF S0 S2 := fun f h4 h5 h6 h7 h8 h11 => by rw [h2 f h5 h6 h7 h8]; exact h f h4 h5 h6 h7 h8 h11
theorem EC.bc {n : Nat} {S0 S : TS} (h : EC n S0) (hf : exF S0 S) (hp : ∀ j, j < n → -5000 ≤ S 4 j ∧ S 4 j ≤ 5000) : BC n S := by
  obtain ⟨h1, h2, h3, h4, h5, h6⟩ := h
  have e1 : S 1 = S0 1 := hf 1 (by decide) (by decide) (by decide) (by decide) (by decide) (by decide)
  have e3 : S 3 = S0 3 := hf 3 (by decide) (by decide) (by decide) (by decide) (by decide) (by decide)
  refine ⟨h1, h2, by rw [e1]; exact h3, by rw [e3]; exact h4, by rw [e3]; exact h6, fun x y hx hy => ?_⟩
  unfold wt
  rw [e1]
  have a := h5 (x * 7 + y)
  have b := hp x hx
  have c := hp y hy
  omega
/-- what examine answers -/
def exP (n : Nat) (S0 : TS) (r : Int) (S : TS) : Prop := exF S0 S ∧ ((r = -1 ∧ (∀ c, Tour n c → Fits n (S0 3) c → S 11 0 ≤ Cost n (S0 1) c) ∧ (S 11 0 = S0 11 0 ∨ (S 11 0 < S0 11 0 ∧ ∃ c, Tour n c ∧ Fits n (S0 3) c ∧ Cost n (S0 1) c = S 11 0))) ∨ (S 11 0 = S0 11 0 ∧ ∃ x y, x < n ∧ y < n ∧ x ≠ y ∧ r = ((x * 7 + y : Nat) : Int) ∧ S0 3 (x * 7 + y) = 0))
theorem exP_none {n : Nat} {S0 S : TS} (hf : exF S0 S) (h11 : S 11 0 = S0 11 0) (h : ∀ c, Tour n c → ¬ Fits n (S 3) c) : exP n S0 (-1) S := by
  have e3 : S 3 = S0 3 := hf 3 (by decide) (by decide) (by decide) (by decide) (by decide) (by decide)
  exact ⟨hf, Or.inl ⟨rfl, fun c ht q => absurd (by rw [e3]; exact q) (h c ht), Or.inl h11⟩⟩
theorem exP_bound {n : Nat} {S0 S : TS} (hn : 3 ≤ n) (hf : exF S0 S) (h11 : S 11 0 = S0 11 0) (hg : GOOD n S) (hb : S 11 0 ≤ S 8 0 - 2 * sm (S 4) n) : exP n S0 (-1) S := by
  have e3 : S 3 = S0 3 := hf 3 (by decide) (by decide) (by decide) (by decide) (by decide) (by decide)
  have e1 : S 1 = S0 1 := hf 1 (by decide) (by decide) (by decide) (by decide) (by decide) (by decide)
  refine ⟨hf, Or.inl ⟨rfl, fun c ht q => ?_, Or.inl h11⟩⟩
  have a := hg.2.2.2.2.1 c ht (by rw [e3]; exact q)
  rw [wsum_cost (by omega) ht, e1] at a
  omega
theorem exP_tour {n : Nat} {S0 S : TS} (hn : 3 ≤ n) (hf : exF S0 S) (h11 : S 11 0 = S0 11 0) (hg : GOOD n S) (hb : S 8 0 - 2 * sm (S 4) n < S 11 0) (ht : ∀ j, j < n → S 6 j = 2) : exP n S0 (-1) (up S 11 0 (S 8 0 - 2 * sm (S 4) n)) := by
  have e3 : S 3 = S0 3 := hf 3 (by decide) (by decide) (by decide) (by decide) (by decide) (by decide)
  have e1 : S 1 = S0 1 := hf 1 (by decide) (by decide) (by decide) (by decide) (by decide) (by decide)
  refine ⟨fun f h4 h5 h6 h7 h8 h9 => by rw [up_f _ h9]; exact hf f h4 h5 h6 h7 h8 h9, Or.inl ⟨rfl, fun c ht q => ?_, Or.inr ⟨?_, ?_⟩⟩⟩
  · rw [up_s]
    have a := hg.2.2.2.2.1 c ht (by rw [e3]; exact q)
    rw [wsum_cost (by omega) ht, e1] at a
    omega
  · rw [up_s]; omega
  · rw [up_s]
    obtain ⟨c, c1, c2, c3⟩ := hg.2.2.2.2.2.1 ht
    rw [wsum_cost (by omega) c1, e1] at c3
    exact ⟨c, c1, by rw [← e3]; exact c2, by omega⟩
theorem bnd_xd {x d : Int} (hx : 1 ≤ x ∧ x ≤ 32) (hd : -2 ≤ d ∧ d ≤ 5) : -160 ≤ x * d ∧ x * d ≤ 160 := by
  have : d = -2 ∨ d = -1 ∨ d = 0 ∨ d = 1 ∨ d = 2 ∨ d = 3 ∨ d = 4 ∨ d = 5 := by omega
  rcases this with rfl | rfl | rfl | rfl | rfl | rfl | rfl | rfl <;> omega
theorem sh2 : ∀ x : Nat, x < 33 → iI (x : Int) >>> (iI 2 &&& 31) = iI ((x / 4 : Nat) : Int) := by decide +kernel
theorem sh2i {x : Int} (h : 1 ≤ x ∧ x ≤ 32) : iI x >>> (iI 2 &&& 31) = iI (x / 4) := by
  obtain ⟨k, rfl⟩ : ∃ k : Nat, x = (k : Int) := ⟨x.toNat, by omega⟩
  rw [sh2 k (by omega)]
  rfl
/-! backUp -/
def ovS (S : TS) (R0 : Nat → Int) (t : Nat) : TS := fun f => if f = 3 then ov R0 (S 9) (S 10) t else S f
def buS (S : TS) (R0 : Nat → Int) (t : Nat) : TS := fun f => if f = 3 then dec1 (ov R0 (S 9) (S 10) t) (S 9 t).toNat 1 else if f = 10 then (fun j => if j = t then 1 else S 10 j) else S f
theorem ovS_self {S : TS} {R0 : Nat → Int} {L : Nat} (h : S 3 = ov R0 (S 9) (S 10) L) : S = ovS S R0 L := by
  funext f
  unfold ovS
  by_cases q : f = 3
  · subst q; rw [if_pos rfl]; exact h
  · rw [if_neg q]
theorem decS_eq (S : TS) {l : Nat} (v : Int) : decS S (l / 7) (l % 7) v = fun f => if f = 3 then dec1 (S 3) l v else S f := by
  funext f
  unfold decS
  by_cases q : f = 3
  · subst q
    rw [if_pos rfl]
    funext j
    rw [up_at, up_at]
    unfold dec1 mir
    rw [show l / 7 * 7 + l % 7 = l by omega]
  · rw [if_neg q, up_f _ q, up_f _ q]
theorem dec1_dec1 (R : Nat → Int) (l : Nat) (v u : Int) : dec1 (dec1 R l v) l u = dec1 R l u := by
  funext j
  unfold dec1
  by_cases z : j = mir l
  · rw [if_pos z, if_pos z]
  · rw [if_neg z, if_neg z, if_neg z]
    by_cases z2 : j = l
    · rw [if_pos z2, if_pos z2]
    · rw [if_neg z2, if_neg z2, if_neg z2]
theorem bu_free {n : Nat} {S : TS} {R0 : Nat → Int} {L t : Nat} (hb : brk n R0 (S 9) (S 10) L) (ht : t < L) : decS (ovS S R0 (t + 1)) ((S 9 t).toNat / 7) ((S 9 t).toNat % 7) 0 = ovS S R0 t := by
  rw [decS_eq]
  funext f
  by_cases q : f = 3
  · subst q
    rw [if_pos rfl]
    show dec1 (ov R0 (S 9) (S 10) (t + 1)) (S 9 t).toNat 0 = ov R0 (S 9) (S 10) t
    exact dec1_back (hb t ht).2.2.2.1 (hb t ht).2.2.2.2
  · rw [if_neg q]
    unfold ovS
    rw [if_neg q, if_neg q]
theorem bu_turn {S : TS} {R0 : Nat → Int} {t : Nat} : decS (up (ovS S R0 (t + 1)) 10 t 1) ((S 9 t).toNat / 7) ((S 9 t).toNat % 7) 1 = buS S R0 t := by
  rw [decS_eq]
  funext f
  unfold buS
  by_cases q : f = 3
  · subst q
    rw [if_pos rfl, if_pos rfl]
    show dec1 (ov R0 (S 9) (S 10) (t + 1)) (S 9 t).toNat 1 = _
    exact dec1_dec1 _ _ _ _
  · rw [if_neg q, if_neg q]
    by_cases q2 : f = 10
    · subst q2
      rw [if_pos rfl]
      funext j
      rw [up_at]; rfl
    · rw [if_neg q2, up_f _ q2]
      unfold ovS
      rw [if_neg q]
/-! solve -/
theorem pend_mono (bb : Nat → Int) {a b : Nat} (h : a ≤ b) : pend bb a ≤ pend bb b := by
  induction b with
  | zero => rw [show a = 0 by omega]; exact Int.le_refl _
  | succ b ih =>
    by_cases q : a = b + 1
    · rw [q]; exact Int.le_refl _
    · have h1 := ih (by omega)
      have h2 : pend bb (b + 1) = pend bb b + (if bb b = 0 then ((2 ^ (21 - b) : Nat) : Int) - 1 else 0) := rfl
      have h3 : 0 ≤ (if bb b = 0 then ((2 ^ (21 - b) : Nat) : Int) - 1 else 0) := by
        have := pow_pos2 (21 - b)
        by_cases q : bb b = 0
        · rw [if_pos q]; omega
        · rw [if_neg q]; exact Int.le_refl _
      omega
def slF (S0 S : TS) : Prop := ∀ f, f < 3 ∨ 11 < f → S f = S0 f
def lst (n : Nat) (S0 S : TS) : Prop := S 11 0 = 1000000 ∨ (0 ≤ S 11 0 ∧ S 11 0 ≤ 693 ∧ ∃ c, Tour n c ∧ Fits n (S0 3) c ∧ Cost n (S0 1) c = S 11 0)
def slD (n : Nat) (S0 S : TS) : Prop := slF S0 S ∧ S 3 = S0 3 ∧ lst n S0 S ∧ ∀ c, Tour n c → Fits n (S0 3) c → S 11 0 ≤ Cost n (S0 1) c
def slA (n : Nat) (S0 S : TS) (L rnd : Nat) : Prop := slF S0 S ∧ brk n (S0 3) (S 9) (S 10) L ∧ S 3 = ov (S0 3) (S 9) (S 10) L ∧ lst n S0 S ∧
  (∀ c, Tour n c → Fits n (S0 3) c → S 11 0 ≤ Cost n (S0 1) c ∨ Fits n (ov (S0 3) (S 9) (S 10) L) c ∨ ∃ i, i < L ∧ S 10 i = 0 ∧ Fits n (dec1 (ov (S0 3) (S 9) (S 10) i) (S 9 i).toNat 1) c) ∧
  (rnd : Int) + ((2 ^ (22 - L) : Nat) : Int) - 1 + pend (S 10) L ≤ 4194303
theorem slA_start (n : Nat) (S0 : TS) : slA n S0 (up S0 11 0 1000000) 0 0 := by
  refine ⟨fun f h => up_f _ (by omega), fun i hi => absurd hi (Nat.not_lt_zero _), up_f _ (by decide), Or.inl (up_s _ _ _ _), fun c _ h => Or.inr (Or.inl h), ?_⟩
  show (0 : Int) + ((2 ^ 22 : Nat) : Int) - 1 + 0 ≤ 4194303
  decide
theorem slA.round {n : Nat} {S0 S : TS} {L rnd : Nat} (h7 : n ≤ 7) (h : slA n S0 S L rnd) : rnd + 1 < 4194304 ∧ L ≤ 21 := by
  have h1 := h.2.1.le h7
  have h2 := h.2.2.2.2.2
  have h3 := pend_nonneg (S 10) L
  have h4 := pow_half h1
  have h5 := pow_pos2 (21 - L)
  omega
theorem slA.ec {n : Nat} {S0 S : TS} {L rnd : Nat} (hE : EC n S0) (h : slA n S0 S L rnd) : EC n S := by
  obtain ⟨h1, h2, h3, h4, h5, h6⟩ := hE
  have e1 : S 1 = S0 1 := h.1 1 (by omega)
  exact ⟨h1, h2, by rw [e1]; exact h3, by rw [h.2.2.1]; exact h.2.1.sy h1 h4, by rw [e1]; exact h5, by rw [h.2.2.1]; exact ov_rng h6 L⟩
theorem lst.rng {n : Nat} {S0 S : TS} (h : lst n S0 S) : 0 ≤ S 11 0 ∧ S 11 0 ≤ 1000000 := by
  rcases h with h | h
  · omega
  · omega
theorem slA_down {n : Nat} {S0 S S1 : TS} {L rnd x y : Nat} (hE : EC n S0) (h : slA n S0 S L rnd) (hx : exF S S1) (h11 : S1 11 0 = S 11 0) (hx1 : x < n) (hy1 : y < n) (hxy : x ≠ y) (h0 : S 3 (x * 7 + y) = 0) :
    slA n S0 (decS (up (up S1 9 L ((x * 7 + y : Nat) : Int)) 10 L 0) ((x * 7 + y) / 7) ((x * 7 + y) % 7) 2) (L + 1) (rnd + 1) := by
  have h7 := hE.1
  obtain ⟨hF, hb, h3, hl, hc, hr⟩ := h
  have e9 : S1 9 = S 9 := hx 9 (by decide) (by decide) (by decide) (by decide) (by decide) (by decide)
  have e10 : S1 10 = S 10 := hx 10 (by decide) (by decide) (by decide) (by decide) (by decide) (by decide)
  have e3 : S1 3 = S 3 := hx 3 (by decide) (by decide) (by decide) (by decide) (by decide) (by decide)
  rw [decS_eq]
  generalize hS2 : (fun f => if f = 3 then dec1 (up (up S1 9 L ((x * 7 + y : Nat) : Int)) 10 L 0 3) (x * 7 + y) 2 else up (up S1 9 L ((x * 7 + y : Nat) : Int)) 10 L 0 f) = S2
  have f9 : S2 9 = fun j => if j = L then ((x * 7 + y : Nat) : Int) else S 9 j := by
    rw [← hS2]
    show up (up S1 9 L ((x * 7 + y : Nat) : Int)) 10 L 0 9 = _
    rw [up_f _ (by decide)]
    funext j; rw [up_at, e9]
  have f10 : S2 10 = fun j => if j = L then 0 else S 10 j := by
    rw [← hS2]
    show up (up S1 9 L ((x * 7 + y : Nat) : Int)) 10 L 0 10 = _
    funext j; rw [up_at, up_f _ (by decide), e10]
  have f3 : S2 3 = dec1 (S 3) (x * 7 + y) 2 := by
    rw [← hS2]
    show dec1 (up (up S1 9 L ((x * 7 + y : Nat) : Int)) 10 L 0 3) (x * 7 + y) 2 = _
    rw [up_f _ (by decide), up_f _ (by decide), e3]
  have fo : ∀ f, f ≠ 3 → f ≠ 9 → f ≠ 10 → S2 f = S1 f := by
    intro f q1 q2 q3
    rw [← hS2]
    show (if f = 3 then _ else _) = _
    rw [if_neg q1, up_f _ q3, up_f _ q2]
  have f11 : S2 11 0 = S 11 0 := by rw [fo 11 (by decide) (by decide) (by decide)]; exact h11
  have cg : ∀ i, i ≤ L → ov (S0 3) (S2 9) (S2 10) i = ov (S0 3) (S 9) (S 10) i := fun i hi => ov_congr (fun k hk => by
    rw [f9, f10]
    exact ⟨if_neg (by omega), if_neg (by omega)⟩)
  have a9 : ∀ i, i < L → S2 9 i = S 9 i := fun i hi => by rw [f9]; exact if_neg (by omega)
  have a10 : ∀ i, i < L → S2 10 i = S 10 i := fun i hi => by rw [f10]; exact if_neg (by omega)
  have b9 : S2 9 L = ((x * 7 + y : Nat) : Int) := by rw [f9]; exact if_pos rfl
  have b10 : S2 10 L = 0 := by rw [f10]; exact if_pos rfl
  have t9 : (S2 9 L).toNat = x * 7 + y := by rw [b9]; exact Int.toNat_natCast _
  have isl : isL n (x * 7 + y) := ⟨x, y, hx1, hy1, hxy, rfl⟩
  have sy3 : Sy n (S 3) := by rw [h3]; exact hb.sy h7 hE.2.2.2.1
  have brk2 : brk n (S0 3) (S2 9) (S2 10) (L + 1) := by
    intro i hi
    by_cases q : i = L
    · subst q
      rw [cg i (by omega), t9, b9, b10, ← h3]
      refine ⟨isl, by omega, Or.inl rfl, h0, ?_⟩
      rw [mir_xy (by omega), ← sy3 x y hx1 hy1]; exact h0
    · have := hb i (by omega)
      rw [cg i (by omega), a9 i (by omega), a10 i (by omega)]; exact this
  have ovL : ov (S0 3) (S2 9) (S2 10) (L + 1) = dec1 (S 3) (x * 7 + y) 2 := by
    show dec1 (ov (S0 3) (S2 9) (S2 10) L) (S2 9 L).toNat (if S2 10 L = 0 then 2 else 1) = _
    rw [cg L (by omega), t9, b10, if_pos rfl, ← h3]
  have hL := brk2.le h7
  refine ⟨fun f hf => ?_, brk2, ?_, ?_, fun c ht hfc => ?_, ?_⟩
  · rw [fo f (by omega) (by omega) (by omega), hx f (by omega) (by omega) (by omega) (by omega) (by omega) (by omega)]
    exact hF f hf
  · rw [f3, ovL]
  · unfold lst at hl ⊢; rw [f11]; exact hl
  · rcases hc c ht hfc with q | q | ⟨i, hi, q1, q2⟩
    · left; rw [f11]; exact q
    · rw [← h3] at q
      rcases fits_branch h7 isl ht q with z | z
      · right; right
        refine ⟨L, by omega, b10, ?_⟩
        rw [cg L (by omega), t9, ← h3]; exact z
      · right; left
        rw [ovL]; exact z
    · right; right
      refine ⟨i, by omega, by rw [a10 i hi]; exact q1, ?_⟩
      rw [cg i (by omega), a9 i hi]; exact q2
  · have p1 : pend (S2 10) (L + 1) = pend (S 10) L + (((2 ^ (21 - L) : Nat) : Int) - 1) := by
      show sm (fun i => if S2 10 i = 0 then ((2 ^ (21 - i) : Nat) : Int) - 1 else 0) L + (if S2 10 L = 0 then ((2 ^ (21 - L) : Nat) : Int) - 1 else 0) = _
      rw [if_pos b10]
      congr 1
      exact pend_congr a10
    rw [p1]
    have p2 := pow_half (L := L) (by omega)
    rw [p2] at hr
    rw [show 22 - (L + 1) = 21 - L by omega]
    omega
theorem sl_least {n : Nat} {S0 S S1 : TS} {L rnd : Nat} (hE : EC n S0) (h : slA n S0 S L rnd) (hA : S1 11 0 = S 11 0 ∨ (S1 11 0 < S 11 0 ∧ ∃ c, Tour n c ∧ Fits n (S 3) c ∧ Cost n (S 1) c = S1 11 0)) : lst n S0 S1 ∧ S1 11 0 ≤ S 11 0 := by
  have e1 : S 1 = S0 1 := h.1 1 (by omega)
  rcases hA with q | ⟨q, c, c1, c2, c3⟩
  · refine ⟨?_, by omega⟩
    unfold lst; rw [q]; exact h.2.2.2.1
  · refine ⟨Or.inr ?_, by omega⟩
    rw [e1] at c3
    have a := cost_rng (c := c) hE.1 hE.2.2.2.2.1
    refine ⟨by omega, by omega, c, c1, ?_, c3⟩
    rw [h.2.2.1] at c2
    exact h.2.1.fits hE.1 c2
/-- a node is done: every fitting tour is dealt with or waits at a branch not yet turned -/
theorem sl_cover {n : Nat} {S0 S S1 : TS} {L rnd : Nat} (h : slA n S0 S L rnd) (hle : S1 11 0 ≤ S 11 0) (hall : ∀ c, Tour n c → Fits n (S 3) c → S1 11 0 ≤ Cost n (S 1) c) {c : Nat → Nat} (ht : Tour n c) (hf : Fits n (S0 3) c) :
    S1 11 0 ≤ Cost n (S0 1) c ∨ ∃ i, i < L ∧ S 10 i = 0 ∧ Fits n (dec1 (ov (S0 3) (S 9) (S 10) i) (S 9 i).toNat 1) c := by
  have e1 : S 1 = S0 1 := h.1 1 (by omega)
  rcases h.2.2.2.2.1 c ht hf with q | q | q
  · left; omega
  · left
    rw [← h.2.2.1] at q
    have := hall c ht q
    rw [e1] at this; exact this
  · exact Or.inr q
theorem slA_end {n : Nat} {S0 S S1 : TS} {L rnd : Nat} (hE : EC n S0) (h : slA n S0 S L rnd) (hx : exF S S1) (hall : ∀ c, Tour n c → Fits n (S 3) c → S1 11 0 ≤ Cost n (S 1) c) (hA : S1 11 0 = S 11 0 ∨ (S1 11 0 < S 11 0 ∧ ∃ c, Tour n c ∧ Fits n (S 3) c ∧ Cost n (S 1) c = S1 11 0)) (hno : ∀ i, i < L → S1 10 i ≠ 0) : slD n S0 (ovS S1 (S0 3) 0) := by
  have e10 : S1 10 = S 10 := hx 10 (by decide) (by decide) (by decide) (by decide) (by decide) (by decide)
  obtain ⟨l1, l2⟩ := sl_least hE h hA
  refine ⟨fun f hf => ?_, rfl, l1, fun c ht hfc => ?_⟩
  · show (if f = 3 then _ else S1 f) = _
    rw [if_neg (by omega), hx f (by omega) (by omega) (by omega) (by omega) (by omega) (by omega)]
    exact h.1 f hf
  · rcases sl_cover h l2 hall ht hfc with q | ⟨i, hi, q1, -⟩
    · exact q
    · exact absurd (by rw [e10]; exact q1) (hno i hi)
theorem slA_turn {n : Nat} {S0 S S1 : TS} {L rnd t : Nat} (hE : EC n S0) (h : slA n S0 S L rnd) (hx : exF S S1) (hall : ∀ c, Tour n c → Fits n (S 3) c → S1 11 0 ≤ Cost n (S 1) c) (hA : S1 11 0 = S 11 0 ∨ (S1 11 0 < S 11 0 ∧ ∃ c, Tour n c ∧ Fits n (S 3) c ∧ Cost n (S 1) c = S1 11 0)) (ht : t < L) (h0 : S1 10 t = 0) (hno : ∀ i, t < i → i < L → S1 10 i ≠ 0) : slA n S0 (buS S1 (S0 3) t) (t + 1) (rnd + 1) := by
  have h7 := hE.1
  have e9 : S1 9 = S 9 := hx 9 (by decide) (by decide) (by decide) (by decide) (by decide) (by decide)
  have e10 : S1 10 = S 10 := hx 10 (by decide) (by decide) (by decide) (by decide) (by decide) (by decide)
  obtain ⟨l1, l2⟩ := sl_least hE h hA
  have f9 : buS S1 (S0 3) t 9 = S 9 := by rw [← e9]; rfl
  have f10 : buS S1 (S0 3) t 10 = fun j => if j = t then 1 else S 10 j := by rw [← e10]; rfl
  have f3 : buS S1 (S0 3) t 3 = dec1 (ov (S0 3) (S 9) (S 10) t) (S 9 t).toNat 1 := by rw [← e9, ← e10]; rfl
  have f11 : buS S1 (S0 3) t 11 = S1 11 := rfl
  have fo : ∀ f, f ≠ 3 → f ≠ 10 → buS S1 (S0 3) t f = S1 f := fun f q1 q2 => by
    unfold buS
    rw [if_neg q1, if_neg q2]
  generalize buS S1 (S0 3) t = S2 at f9 f10 f3 f11 fo ⊢
  obtain ⟨hF, hb, h3, hl, hc, hr⟩ := id h
  have a10 : ∀ i, i ≠ t → S2 10 i = S 10 i := fun i hi => by rw [f10]; exact if_neg hi
  have b10 : S2 10 t = 1 := by rw [f10]; exact if_pos rfl
  have cg : ∀ i, i ≤ t → ov (S0 3) (S2 9) (S2 10) i = ov (S0 3) (S 9) (S 10) i := fun i hi => ov_congr (fun k hk => ⟨by rw [f9], a10 k (by omega)⟩)
  have brk2 : brk n (S0 3) (S2 9) (S2 10) (t + 1) := by
    intro i hi
    have := hb i (by omega)
    rw [cg i (by omega), f9]
    by_cases q : i = t
    · subst q; exact ⟨this.1, this.2.1, Or.inr b10, this.2.2.2⟩
    · rw [a10 i q]; exact this
  have ovL : ov (S0 3) (S2 9) (S2 10) (t + 1) = dec1 (ov (S0 3) (S 9) (S 10) t) (S 9 t).toNat 1 := by
    show dec1 (ov (S0 3) (S2 9) (S2 10) t) (S2 9 t).toNat (if S2 10 t = 0 then 2 else 1) = _
    rw [cg t (by omega), f9, b10, if_neg (by decide)]
  refine ⟨fun f hf => ?_, brk2, by rw [f3, ovL], ?_, fun c htc hfc => ?_, ?_⟩
  · rw [fo f (by omega) (by omega), hx f (by omega) (by omega) (by omega) (by omega) (by omega) (by omega)]
    exact hF f hf
  · unfold lst at l1 ⊢; rw [f11]; exact l1
  · rw [f11]
    rcases sl_cover h l2 hall htc hfc with q | ⟨i, hi, q1, q2⟩
    · exact Or.inl q
    · right
      have hit : i ≤ t := by
        refine Classical.byContradiction (fun z => ?_)
        exact hno i (by omega) hi (by rw [e10]; exact q1)
      by_cases q : i = t
      · left
        subst q
        rw [ovL]; exact q2
      · right
        refine ⟨i, by omega, by rw [a10 i q]; exact q1, ?_⟩
        rw [cg i hit, f9]; exact q2
  · have p1 : pend (S2 10) (t + 1) = pend (S 10) t := by
      show sm (fun i => if S2 10 i = 0 then ((2 ^ (21 - i) : Nat) : Int) - 1 else 0) t + (if S2 10 t = 0 then ((2 ^ (21 - t) : Nat) : Int) - 1 else 0) = _
      rw [b10, if_neg (by decide)]
      have : pend (S2 10) t = pend (S 10) t := pend_congr (fun i hi => a10 i (by omega))
      unfold pend at this ⊢
      omega
    have p2 : pend (S 10) (t + 1) = pend (S 10) t + (((2 ^ (21 - t) : Nat) : Int) - 1) := by
      show sm (fun i => if S 10 i = 0 then ((2 ^ (21 - i) : Nat) : Int) - 1 else 0) t + (if S 10 t = 0 then ((2 ^ (21 - t) : Nat) : Int) - 1 else 0) = _
      rw [← e10, if_pos h0]; rfl
    have p3 := pend_mono (S 10) (a := t + 1) (b := L) (by omega)
    have hL := hb.le h7
    have p4 := pow_half (L := L) hL
    have p5 := pow_pos2 (21 - L)
    rw [p1, show 22 - (t + 1) = 21 - t by omega]
    omega
/-- what solve answers: the least cost under the rules of the question, which stay -/
def soP (n : Nat) (S0 : TS) (r : Int) (S : TS) : Prop := (∀ f, f ≤ 3 ∨ 11 < f → S f = S0 f) ∧ Opt n (S0 1) (S0 3) r
theorem slD_huge {n : Nat} {S0 S : TS} (hE : EC n S0) (h : slD n S0 S) (h11 : S 11 0 = 1000000) : soP n S0 (-1) S := by
  refine ⟨fun f hf => ?_, Or.inl ⟨rfl, fun c ht q => ?_⟩⟩
  · by_cases e : f = 3
    · rw [e]; exact h.2.1
    · exact h.1 f (by omega)
  · have a := h.2.2.2 c ht q
    have b := cost_rng (c := c) hE.1 hE.2.2.2.2.1
    omega
theorem slD_some {n : Nat} {S0 S : TS} (h : slD n S0 S) (h11 : S 11 0 ≠ 1000000) : soP n S0 (S 11 0) S := by
  refine ⟨fun f hf => ?_, Or.inr ?_⟩
  · by_cases e : f = 3
    · rw [e]; exact h.2.1
    · exact h.1 f (by omega)
  · rcases h.2.2.1 with q | q
    · exact absurd q h11
    · exact ⟨q.1, q.2.2, h.2.2.2⟩
end
section
/-! ===== questions: with a link, without it, the first best tour ===== -/
def OptP (n : Nat) (M : Nat → Int) (P : (Nat → Nat) → Prop) (r : Int) : Prop := (r = -1 ∧ ∀ c, Tour n c → ¬ P c) ∨ (0 ≤ r ∧ (∃ c, Tour n c ∧ P c ∧ Cost n M c = r) ∧ ∀ c, Tour n c → P c → r ≤ Cost n M c)
theorem OptP.uniq {n : Nat} {M : Nat → Int} {P : (Nat → Nat) → Prop} {r r' : Int} (h : OptP n M P r) (h' : OptP n M P r') : r = r' := by
  rcases h with ⟨h1, h2⟩ | ⟨h1, ⟨c, c1, c2, c3⟩, h3⟩
  · rcases h' with ⟨g1, g2⟩ | ⟨g1, ⟨d, d1, d2, d3⟩, g3⟩
    · omega
    · exact absurd d2 (h2 d d1)
  · rcases h' with ⟨g1, g2⟩ | ⟨g1, ⟨d, d1, d2, d3⟩, g3⟩
    · exact absurd c2 (g2 c c1)
    · have a := h3 d d1 d2
      have b := g3 c c1 c2
      omega
theorem OptP.congr {n : Nat} {M : Nat → Int} {P Q : (Nat → Nat) → Prop} {r : Int} (h : OptP n M P r) (hpq : ∀ c, Tour n c → (P c ↔ Q c)) : OptP n M Q r := by
  rcases h with ⟨h1, h2⟩ | ⟨h1, ⟨c, c1, c2, c3⟩, h3⟩
  · exact Or.inl ⟨h1, fun c ht q => h2 c ht ((hpq c ht).mpr q)⟩
  · exact Or.inr ⟨h1, ⟨c, c1, (hpq c c1).mp c2, c3⟩, fun d d1 d2 => h3 d d1 ((hpq d d1).mpr d2)⟩
theorem OptP.rng {n : Nat} {M : Nat → Int} {P : (Nat → Nat) → Prop} {r : Int} (h7 : n ≤ 7) (hM : ∀ j, 0 ≤ M j ∧ M j ≤ 99) (h : OptP n M P r) : -1 ≤ r ∧ r ≤ 693 := by
  rcases h with ⟨h1, -⟩ | ⟨h1, ⟨c, c1, c2, c3⟩, -⟩
  · omega
  · have := cost_rng (c := c) h7 hM; omega
theorem Opt.p {n : Nat} {M R : Nat → Int} {r : Int} (h : Opt n M R r) : OptP n M (Fits n R) r := h
section WW
variable {n : Nat} {R : Nat → Int} {x y : Nat} {c : Nat → Nat}
theorem fits_with (h7 : n ≤ 7) (hx : x < n) (hy : y < n) (hxy : x ≠ y) (hs : Sy n R) (h2 : R (x * 7 + y) ≠ 2) : Fits n (dec1 R (x * 7 + y) 1) c ↔ Fits n R c ∧ Adj n c x y := by
  have h2' : R (y * 7 + x) ≠ 2 := by rw [← hs x y hx hy]; exact h2
  constructor
  · intro h
    have ad : Adj n c x y := fits_req ⟨x, y, hx, hy, hxy, rfl⟩ h7 h x y rfl hx hy
    refine ⟨⟨fun k hk e => ?_, fun a b hab hb e => ?_⟩, ad⟩
    · refine h.1 k hk ?_
      rw [dec1_at R (by omega), if_neg]
      · exact e
      · rintro (q | q)
        · rw [q] at e; exact h2' e
        · rw [q] at e; exact h2 e
    · by_cases z : a * 7 + b = y * 7 + x ∨ a * 7 + b = x * 7 + y
      · rcases z with z | z
        · have := (ix7 (by omega) (by omega)).mp z
          rw [this.1, this.2]; exact ad.symm
        · have := (ix7 (by omega) (by omega)).mp z
          rw [this.1, this.2]; exact ad
      · refine h.2 a b hab hb ?_
        rw [dec1_at R (by omega), if_neg z]; exact e
  · rintro ⟨h, ad⟩
    refine ⟨fun k hk => ?_, fun a b hab hb e => ?_⟩
    · rw [dec1_at R (by omega)]
      by_cases z : c k * 7 + c (k + 1) = y * 7 + x ∨ c k * 7 + c (k + 1) = x * 7 + y
      · rw [if_pos z]; decide
      · rw [if_neg z]; exact h.1 k hk
    · rw [dec1_at R (by omega)] at e
      by_cases z : a * 7 + b = y * 7 + x ∨ a * 7 + b = x * 7 + y
      · rcases z with z | z
        · have := (ix7 (by omega) (by omega)).mp z
          rw [this.1, this.2]; exact ad.symm
        · have := (ix7 (by omega) (by omega)).mp z
          rw [this.1, this.2]; exact ad
      · rw [if_neg z] at e; exact h.2 a b hab hb e
theorem fits_without (h7 : n ≤ 7) (ht : Tour n c) (hx : x < n) (hy : y < n) (hs : Sy n R) (h1 : R (x * 7 + y) ≠ 1) : Fits n (dec1 R (x * 7 + y) 2) c ↔ Fits n R c ∧ ¬ Adj n c x y := by
  have h1' : R (y * 7 + x) ≠ 1 := by rw [← hs x y hx hy]; exact h1
  constructor
  · intro h
    refine ⟨⟨fun k hk e => ?_, fun a b hab hb e => ?_⟩, ?_⟩
    · refine h.1 k hk ?_
      rw [dec1_at R (by omega)]
      by_cases z : c k * 7 + c (k + 1) = y * 7 + x ∨ c k * 7 + c (k + 1) = x * 7 + y
      · rw [if_pos z]
      · rw [if_neg z]; exact e
    · refine h.2 a b hab hb ?_
      rw [dec1_at R (by omega), if_neg]
      · exact e
      · rintro (q | q)
        · rw [q] at e; exact h1' e
        · rw [q] at e; exact h1 e
    · rintro ⟨k, hk, ⟨e1, e2⟩ | ⟨e1, e2⟩⟩
      · refine h.1 k hk ?_
        rw [e1, e2, dec1_at R (by omega), if_pos (Or.inr rfl)]
      · refine h.1 k hk ?_
        rw [e1, e2, dec1_at R (by omega), if_pos (Or.inl rfl)]
  · rintro ⟨h, na⟩
    refine ⟨fun k hk => ?_, fun a b hab hb e => ?_⟩
    · rw [dec1_at R (by omega)]
      have l1 := ht.lt (i := k) (by omega) (by omega)
      have l2 := ht.lt (i := k + 1) (by omega) (by omega)
      by_cases z : c k * 7 + c (k + 1) = y * 7 + x ∨ c k * 7 + c (k + 1) = x * 7 + y
      · exfalso
        rcases z with z | z
        · have := (ix7 (by omega) (by omega)).mp z
          exact na ⟨k, hk, Or.inr this⟩
        · have := (ix7 (by omega) (by omega)).mp z
          exact na ⟨k, hk, Or.inl this⟩
      · rw [if_neg z]; exact h.1 k hk
    · rw [dec1_at R (by omega)] at e
      by_cases z : a * 7 + b = y * 7 + x ∨ a * 7 + b = x * 7 + y
      · rw [if_pos z] at e; exact absurd e (by decide)
      · rw [if_neg z] at e; exact h.2 a b hab hb e
/-- a required link: every fitting tour has it; a barred one: none -/
theorem fits_has (hx : x < n) (hy : y < n) (hxy : x ≠ y) (hs : Sy n R) (h : Fits n R c) (h1 : R (x * 7 + y) = 1) : Adj n c x y := by
  rcases Nat.lt_trichotomy x y with g | g | g
  · exact h.2 x y g hy h1
  · exact absurd g hxy
  · exact (h.2 y x g hx (by rw [hs y x hy hx]; exact h1)).symm
theorem fits_not (hx : x < n) (hy : y < n) (hs : Sy n R) (h : Fits n R c) (h2 : R (x * 7 + y) = 2) : ¬ Adj n c x y := by
  rintro ⟨k, hk, ⟨e1, e2⟩ | ⟨e1, e2⟩⟩
  · exact h.1 k hk (by rw [e1, e2]; exact h2)
  · exact h.1 k hk (by rw [e1, e2, hs y x hy hx]; exact h2)
end WW
/-! the other way round -/
def rev (n : Nat) (c : Nat → Nat) : Nat → Nat := fun j => c (n - j)
theorem rev_tour {n : Nat} {c : Nat → Nat} (hn : 3 ≤ n) (h : Tour n c) : Tour n (rev n c) := by
  have nz : ∀ i, 1 ≤ i → i < n → c i ≠ 0 := fun i h1 h2 e => by have := h.2.2.2 i 0 h2 (by omega) (by rw [e, h.1]); omega
  refine ⟨?_, ?_, fun k hk => ?_, fun i j hi hj e => ?_⟩
  · show c (n - 0) = 0; exact h.2.1
  · show c (n - n) = 0; rw [Nat.sub_self]; exact h.1
  · exact h.lt (by omega) (by omega)
  · have e : c (n - i) = c (n - j) := e
    by_cases i0 : i = 0
    · by_cases j0 : j = 0
      · omega
      · rw [i0, Nat.sub_zero, h.2.1] at e
        exact absurd e.symm (nz (n - j) (by omega) (by omega))
    · by_cases j0 : j = 0
      · rw [j0, Nat.sub_zero, h.2.1] at e
        exact absurd e (nz (n - i) (by omega) (by omega))
      · have := h.2.2.2 (n - i) (n - j) (by omega) (by omega) e
        omega
theorem rev_adj {n : Nat} {c : Nat → Nat} {a b : Nat} (h : Adj n c a b) : Adj n (rev n c) a b := by
  obtain ⟨k, hk, e⟩ := h
  refine ⟨n - 1 - k, by omega, ?_⟩
  show (c (n - (n - 1 - k)) = a ∧ c (n - (n - 1 - k + 1)) = b) ∨ (c (n - (n - 1 - k)) = b ∧ c (n - (n - 1 - k + 1)) = a)
  rw [show n - (n - 1 - k) = k + 1 by omega, show n - (n - 1 - k + 1) = k by omega]
  omega
theorem rev_adj' {n : Nat} {c : Nat → Nat} {a b : Nat} (h : Adj n (rev n c) a b) : Adj n c a b := by
  obtain ⟨k, hk, e⟩ := h
  refine ⟨n - 1 - k, by omega, ?_⟩
  have e : (c (n - k) = a ∧ c (n - (k + 1)) = b) ∨ (c (n - k) = b ∧ c (n - (k + 1)) = a) := e
  rw [show n - k = n - 1 - k + 1 by omega, show n - (k + 1) = n - 1 - k by omega] at e
  omega
theorem sm_rev (f : Nat → Int) : ∀ n : Nat, sm (fun k => f (n - 1 - k)) n = sm f n := by
  intro n
  have h := inj_sm (v := fun k => n - 1 - k) (n := n) (fun a ha => by show n - 1 - a < n; omega) (fun a b ha hb e => by
    have e : n - 1 - a = n - 1 - b := e
    omega) f
  exact h
theorem rev_cost {n : Nat} {M : Nat → Int} {c : Nat → Nat} (hn : 3 ≤ n) (hs : Sy n M) (h : Tour n c) : Cost n M (rev n c) = Cost n M c := by
  unfold Cost
  rw [← sm_rev (fun k => M (c k * 7 + c (k + 1))) n]
  refine sm_congr (fun k hk => ?_)
  show M (c (n - k) * 7 + c (n - (k + 1))) = M (c (n - 1 - k) * 7 + c (n - 1 - k + 1))
  rw [show n - k = n - 1 - k + 1 by omega, show n - (k + 1) = n - 1 - k by omega]
  exact hs _ _ (h.lt (by omega) (by omega)) (h.lt (by omega) (by omega))
theorem rev_fits {n : Nat} {R : Nat → Int} {c : Nat → Nat} (hn : 3 ≤ n) (hs : Sy n R) (h : Tour n c) (hf : Fits n R c) : Fits n R (rev n c) := by
  refine ⟨fun k hk => ?_, fun a b hab hb e => rev_adj (hf.2 a b hab hb e)⟩
  show R (c (n - k) * 7 + c (n - (k + 1))) ≠ 2
  rw [show n - k = n - 1 - k + 1 by omega, show n - (k + 1) = n - 1 - k by omega, hs _ _ (h.lt (by omega) (by omega)) (h.lt (by omega) (by omega))]
  exact hf.1 (n - 1 - k) (by omega)
/-- a tour that has the links of a path from 0 goes along it, or the other way round does -/
theorem orient1 {n : Nat} {c : Nat → Nat} (hn : 3 ≤ n) (h : Tour n c) {t : Nat → Nat} {k : Nat} (hk : k < n) (t0 : t 0 = 0) (hinj : ∀ i j, i ≤ k → j ≤ k → t i = t j → i = j) (hadj : ∀ i, i < k → Adj n c (t i) (t (i + 1))) (h1 : 1 ≤ k → c 1 = t 1) : ∀ i, i ≤ k → c i = t i := by
  have key : ∀ i, i + 1 ≤ k → c i = t i ∧ c (i + 1) = t (i + 1) := by
    intro i
    induction i with
    | zero => intro hi; exact ⟨by rw [h.1, t0], h1 (by omega)⟩
    | succ i ih =>
      intro hi
      obtain ⟨a, b⟩ := ih (by omega)
      refine ⟨b, ?_⟩
      have ad := hadj (i + 1) (by omega)
      rw [← b] at ad
      obtain ⟨p, hp, hp2, hpk, hne, hall⟩ := h.two hn (k := i + 1) (by omega)
      rcases hall _ ad with q | q
      · exact q.symm
      · exfalso
        have ep : p = i := by
          by_cases e : p + 1 = n
          · rw [e, h.2.1] at hp2
            have := h.2.2.2 0 (i + 1) (by omega) (by omega) (by rw [h.1]; exact hp2)
            omega
          · have := h.2.2.2 (p + 1) (i + 1) (by omega) (by omega) hp2
            omega
        rw [ep, a] at q
        have := hinj _ _ (by omega) (by omega) q
        omega
  intro i hi
  by_cases e : i = 0
  · rw [e, h.1, t0]
  · have := (key (i - 1) (by omega)).2
    rw [show i - 1 + 1 = i by omega] at this
    exact this
theorem orient {n : Nat} {M R : Nat → Int} {c : Nat → Nat} (hn : 3 ≤ n) (hM : Sy n M) (hR : Sy n R) (h : Tour n c) (hf : Fits n R c) {t : Nat → Nat} {k : Nat} (hk : k < n) (t0 : t 0 = 0) (hinj : ∀ i j, i ≤ k → j ≤ k → t i = t j → i = j) (hadj : ∀ i, i < k → Adj n c (t i) (t (i + 1))) :
    ∃ c', Tour n c' ∧ Fits n R c' ∧ Cost n M c' = Cost n M c ∧ ∀ i, i ≤ k → c' i = t i := by
  by_cases k0 : k = 0
  · exact ⟨c, h, hf, rfl, fun i hi => by rw [show i = 0 by omega, h.1, t0]⟩
  · have ad : Adj n c (c 0) (t 1) := by
      have := hadj 0 (by omega)
      rw [t0] at this
      rw [h.1]; exact this
    obtain ⟨p, hp, hp2, hpk, hne, hall⟩ := h.two hn (k := 0) (by omega)
    rcases hall _ ad with q | q
    · exact ⟨c, h, hf, rfl, orient1 hn h hk t0 hinj hadj (fun _ => q.symm)⟩
    · have ep : p = n - 1 := by
        refine Classical.byContradiction (fun e => ?_)
        have := h.2.2.2 (p + 1) 0 (by omega) (by omega) hp2
        omega
      refine ⟨rev n c, rev_tour hn h, rev_fits hn hR h hf, rev_cost hn hM h, orient1 hn (rev_tour hn h) hk t0 hinj (fun i hi => rev_adj (hadj i hi)) (fun _ => ?_)⟩
      show c (n - 1) = t 1
      rw [← ep]; exact q.symm
/-! the first best tour -/
def lexle (n : Nat) (c c' : Nat → Nat) : Prop := (∀ k, k < n → c' k = c k) ∨ ∃ j, j < n ∧ (∀ i, i < j → c' i = c i) ∧ c j < c' j
def LexOpt (n : Nat) (M R : Nat → Int) (c : Nat → Nat) : Prop := Tour n c ∧ Fits n R c ∧ (∀ c', Tour n c' → Fits n R c' → Cost n M c ≤ Cost n M c') ∧ ∀ c', Tour n c' → Fits n R c' → Cost n M c' = Cost n M c → lexle n c c'
theorem LexOpt.uniq {n : Nat} {M R : Nat → Int} {c d : Nat → Nat} (h : LexOpt n M R c) (g : LexOpt n M R d) : ∀ k, k < n → c k = d k := by
  have a := h.2.2.1 d g.1 g.2.1
  have b := g.2.2.1 c h.1 h.2.1
  have e1 := h.2.2.2 d g.1 g.2.1 (by omega)
  have e2 := g.2.2.2 c h.1 h.2.1 (by omega)
  rcases e1 with e1 | ⟨j, j1, j2, j3⟩
  · exact fun k hk => (e1 k hk).symm
  · rcases e2 with e2 | ⟨i, i1, i2, i3⟩
    · exact e2
    · exfalso
      rcases Nat.lt_trichotomy i j with q | q | q
      · have := j2 i q; omega
      · subst q; omega
      · have := i2 j q; omega
end
section
/-! ===== findTour: the plain part ===== -/
def bitN (m b : Nat) : Nat := m / 2 ^ b % 2
theorem sh_r : ∀ m : Nat, m < 128 → ∀ b : Nat, b < 7 → iI (m : Int) >>> (iI (b : Int) &&& 31) = iI ((m / 2 ^ b : Nat) : Int) := by decide +kernel
theorem and_1 : ∀ m : Nat, m < 128 → iI (m : Int) &&& iI 1 = iI ((m % 2 : Nat) : Int) := by decide +kernel
theorem sh_l : ∀ b : Nat, b < 7 → iI 1 <<< (iI (b : Int) &&& 31) = iI ((2 ^ b : Nat) : Int) := by decide +kernel
theorem or_b : ∀ m : Nat, m < 128 → ∀ b : Nat, b < 7 → iI (m : Int) ||| iI ((2 ^ b : Nat) : Int) = iI ((m ||| 2 ^ b : Nat) : Int) := by decide +kernel
theorem bit_or_b : (List.range 128).all (fun m => (List.range 7).all (fun b => decide ((m ||| 2 ^ b) < 128) && (List.range 7).all (fun j => bitN (m ||| 2 ^ b) j == if j = b then 1 else bitN m j))) = true := by decide +kernel
theorem bit_or {m b : Nat} (hm : m < 128) (hb : b < 7) : (m ||| 2 ^ b) < 128 ∧ ∀ j, j < 7 → bitN (m ||| 2 ^ b) j = if j = b then 1 else bitN m j := by
  have h := List.all_eq_true.mp (List.all_eq_true.mp bit_or_b m (List.mem_range.mpr hm)) b (List.mem_range.mpr hb)
  rw [Bool.and_eq_true] at h
  exact ⟨of_decide_eq_true h.1, fun j hj => eq_of_beq (List.all_eq_true.mp h.2 j (List.mem_range.mpr hj))⟩
/-- what stays behind nextCity, solve -/
def ncF (S0 S : TS) : Prop := ∀ f, f ≤ 3 ∨ 11 < f → S f = S0 f
theorem ncF.tr {S0 S S2 : TS} (h : ncF S0 S) (h2 : ncF S S2) : ncF S0 S2 := fun f hf => by rw [h2 f hf]; exact h f hf
theorem EC.nc {n : Nat} {S0 S : TS} (h : EC n S0) (hf : ncF S0 S) : EC n S := by
  obtain ⟨h1, h2, h3, h4, h5, h6⟩ := h
  have e1 : S 1 = S0 1 := hf 1 (by omega)
  have e3 : S 3 = S0 3 := hf 3 (by omega)
  exact ⟨h1, h2, by rw [e1]; exact h3, by rw [e3]; exact h4, by rw [e1]; exact h5, by rw [e3]; exact h6⟩
theorem decS_xy (S : TS) {x y : Nat} (hy : y < 7) (v : Int) : decS S x y v = fun f => if f = 3 then dec1 (S 3) (x * 7 + y) v else S f := by
  have h := decS_eq S (l := x * 7 + y) v
  rw [show (x * 7 + y) / 7 = x by omega, show (x * 7 + y) % 7 = y by omega] at h
  exact h
theorem EC.dec {n : Nat} {S : TS} (h : EC n S) {x y : Nat} (hx : x < n) (hy : y < n) (hxy : x ≠ y) {v : Int} (hv : 0 ≤ v ∧ v ≤ 2) : EC n (decS S x y v) := by
  obtain ⟨h1, h2, h3, h4, h5, h6⟩ := h
  rw [decS_xy S (by omega) v]
  exact ⟨h1, h2, h3, dec1_sy ⟨x, y, hx, hy, hxy, rfl⟩ h1 v h4, h5, dec1_rng hv h6⟩
theorem dec1_same {n : Nat} {R : Nat → Int} (h7 : n ≤ 7) {x y : Nat} (hx : x < n) (hy : y < n) (hs : Sy n R) (v : Int) : dec1 (dec1 R (x * 7 + y) v) (x * 7 + y) (R (x * 7 + y)) = R := by
  rw [dec1_dec1]
  funext j
  rw [dec1_at R (by omega)]
  by_cases z : j = y * 7 + x ∨ j = x * 7 + y
  · rw [if_pos z]
    rcases z with rfl | rfl
    · exact hs x y hx hy
    · rfl
  · rw [if_neg z]
/-- nextCity: a try, and all laid back -/
theorem nc_back {n : Nat} {S S1 : TS} (h7 : n ≤ 7) {x y : Nat} (hx : x < n) (hy : y < n) (hs : Sy n (S 3)) (h : ncF (decS S x y 1) S1) : ncF S (decS S1 x y (S 3 (x * 7 + y))) := by
  intro f hf
  rw [decS_xy S1 (by omega)]
  have a := h f hf
  rw [decS_xy S (by omega) 1] at a
  by_cases q : f = 3
  · subst q
    show dec1 (S1 3) (x * 7 + y) (S 3 (x * 7 + y)) = S 3
    rw [a]
    exact dec1_same h7 hx hy hs 1
  · show (if f = 3 then _ else S1 f) = S f
    rw [if_neg q, a]
    show (if f = 3 then _ else S f) = S f
    rw [if_neg q]
def tryP (n : Nat) (S : TS) (sn x b : Nat) : Prop := bitN sn b = 0 ∧ S 3 (x * 7 + b) ≠ 2 ∧ Opt n (S 1) (dec1 (S 3) (x * 7 + b) 1) (S 13 0)
def nxP (n : Nat) (S : TS) (sn x : Nat) (r : Int) : Prop := (∃ b : Nat, b < n ∧ r = (b : Int) ∧ tryP n S sn x b ∧ ∀ b', b' < b → ¬ tryP n S sn x b') ∨ (r = 0 ∧ ∀ b', b' < n → ¬ tryP n S sn x b')
/-- findTour, k cities laid -/
def ftI (n : Nat) (Sb S : TS) (t : Nat → Nat) (k sn : Nat) : Prop :=
  (∀ f, f < 3 ∨ f = 12 ∨ f = 13 → S f = Sb f) ∧ EC n S ∧ (∀ i, i < k → t i < n ∧ S 14 i = (t i : Int)) ∧ t 0 = 0 ∧ (∀ i j, i < k → j < k → t i = t j → i = j) ∧
  (sn < 128 ∧ ∀ b, b < 7 → (bitN sn b = 0 ↔ ∀ i, i < k → t i ≠ b)) ∧
  (∀ c, Tour n c → (Fits n (S 3) c ↔ Fits n (S 2) c ∧ ∀ i, i + 1 < k → Adj n c (t i) (t (i + 1)))) ∧
  (∃ c, Tour n c ∧ Fits n (S 2) c ∧ Cost n (S 1) c = S 13 0 ∧ ∀ i, i < k → c i = t i) ∧
  (∀ c, Tour n c → Fits n (S 2) c → S 13 0 ≤ Cost n (S 1) c) ∧
  (∀ c, Tour n c → Fits n (S 2) c → Cost n (S 1) c = S 13 0 → (∀ i, i < k → c i = t i) ∨ ∃ j, j < k ∧ (∀ i, i < j → c i = t i) ∧ t j < c j)
/-- a best tour along the laid path: its next city is a good try -/
theorem ft_try {n : Nat} {Sb S : TS} {t : Nat → Nat} {k sn : Nat} (hk : 1 ≤ k) (hkn : k < n) (hR : Sy n (S 2)) (h : ftI n Sb S t k sn) {c : Nat → Nat} (ht : Tour n c) (hf : Fits n (S 2) c) (hc : Cost n (S 1) c = S 13 0) (hp : ∀ i, i < k → c i = t i) : c k < n ∧ tryP n S sn (t (k - 1)) (c k) := by
  obtain ⟨h1, hE, h3, h4, h5, h6, h7, h8, h9, h10⟩ := h
  have hck := ht.2.2.1 k hkn
  have ad : Adj n c (t (k - 1)) (c k) := ⟨k - 1, by omega, Or.inl ⟨hp (k - 1) (by omega), by rw [show k - 1 + 1 = k by omega]⟩⟩
  have hne : t (k - 1) ≠ c k := by
    rw [← hp (k - 1) (by omega)]
    intro e
    have := ht.2.2.2 (k - 1) k (by omega) hkn e
    omega
  have f3 : Fits n (S 3) c := (h7 c ht).mpr ⟨hf, fun i hi => ⟨i, by omega, Or.inl ⟨hp i (by omega), hp (i + 1) hi⟩⟩⟩
  have htk := (h3 (k - 1) (by omega)).1
  have n2 : S 3 (t (k - 1) * 7 + c k) ≠ 2 := fun e => fits_not htk hck hE.2.2.2.1 f3 e ad
  refine ⟨hck, (h6.2 (c k) (by have := hE.1; omega)).mpr (fun i hi e => ?_), n2, ?_⟩
  · rw [← hp i hi] at e
    have := ht.2.2.2 i k (by omega) hkn e
    omega
  · refine Or.inr ⟨?_, ⟨c, ht, ?_, hc⟩, fun d hd hdf => ?_⟩
    · rw [← hc]; exact (cost_rng hE.1 hE.2.2.2.2.1).1
    · exact (fits_with hE.1 htk hck hne hE.2.2.2.1 n2).mpr ⟨f3, ad⟩
    · have := (fits_with hE.1 htk hck hne hE.2.2.2.1 n2).mp hdf
      exact h9 d hd ((h7 d hd).mp this.1).1
theorem ft_step {n : Nat} {Sb S S1 : TS} {t : Nat → Nat} {k sn : Nat} {r : Int} (hk : 1 ≤ k) (hkn : k < n) (hR : Sy n (S 2)) (h : ftI n Sb S t k sn) (hx : nxP n S sn (t (k - 1)) r) (hnc : ncF S S1) :
    ∃ b : Nat, b < n ∧ r = (b : Int) ∧ t (k - 1) ≠ b ∧ ftI n Sb (decS (up S1 14 k (b : Int)) (t (k - 1)) b 1) (fun i => if i = k then b else t i) (k + 1) (sn ||| 2 ^ b) := by
  have h0 := h
  obtain ⟨h1, hE, h3, h4, h5, h6, h7, ⟨c0, c1, c2, c3, c4⟩, h9, h10⟩ := h
  have hn7 := hE.1
  have hn3 := hE.2.1
  obtain ⟨b, hb, rfl, htry, hmin⟩ : ∃ b : Nat, b < n ∧ r = (b : Int) ∧ tryP n S sn (t (k - 1)) b ∧ ∀ b', b' < b → ¬ tryP n S sn (t (k - 1)) b' := by
    rcases hx with q | ⟨-, hno⟩
    · exact q
    · have := ft_try hk hkn hR h0 c1 c2 c3 c4
      exact absurd this.2 (hno _ this.1)
  have htk := (h3 (k - 1) (by omega)).1
  have hfree := (h6.2 b (by omega)).mp htry.1
  have hne : t (k - 1) ≠ b := hfree (k - 1) (by omega)
  refine ⟨b, hb, rfl, hne, ?_⟩
  generalize hS2 : decS (up S1 14 k (b : Int)) (t (k - 1)) b 1 = S2
  have e0 : ∀ i, i < k → (fun i => if i = k then b else t i) i = t i := fun i hi => if_neg (by omega)
  have ek : (fun i => if i = k then b else t i) k = b := if_pos rfl
  generalize hq : (fun i => if i = k then b else t i) = q at e0 ek ⊢
  have q3 : S2 3 = dec1 (S 3) (t (k - 1) * 7 + b) 1 := by
    rw [← hS2, decS_xy _ (by omega)]
    show dec1 (up S1 14 k (b : Int) 3) (t (k - 1) * 7 + b) 1 = _
    rw [up_f _ (by decide), hnc 3 (by omega)]
  have qf : ∀ f, f ≠ 3 → f ≠ 14 → f ≤ 3 ∨ 11 < f → S2 f = S f := by
    intro f g1 g2 g3
    rw [← hS2, decS_xy _ (by omega)]
    show (if f = 3 then _ else up S1 14 k (b : Int) f) = _
    rw [if_neg g1, up_f _ g2, hnc f g3]
  have q14 : ∀ i, S2 14 i = if i = k then (b : Int) else S 14 i := by
    intro i
    rw [← hS2, decS_xy _ (by omega)]
    show up S1 14 k (b : Int) 14 i = _
    rw [up_at, hnc 14 (by omega)]
  have q1 : S2 1 = S 1 := qf 1 (by decide) (by decide) (by omega)
  have q2 : S2 2 = S 2 := qf 2 (by decide) (by decide) (by omega)
  have q13 : S2 13 = S 13 := qf 13 (by decide) (by decide) (by omega)
  have isl : isL n (t (k - 1) * 7 + b) := ⟨t (k - 1), b, htk, hb, hne, rfl⟩
  have fw : ∀ c, Fits n (S2 3) c ↔ Fits n (S 3) c ∧ Adj n c (t (k - 1)) b := fun c => by rw [q3]; exact fits_with hn7 htk hb hne hE.2.2.2.1 htry.2.1
  have qinj : ∀ i j, i < k + 1 → j < k + 1 → q i = q j → i = j := by
    intro i j hi hj e
    by_cases i1 : i = k
    · by_cases j1 : j = k
      · omega
      · rw [i1, ek, e0 j (by omega)] at e
        exact absurd e.symm (hfree j (by omega))
    · by_cases j1 : j = k
      · rw [j1, ek, e0 i (by omega)] at e
        exact absurd e (hfree i (by omega))
      · rw [e0 i (by omega), e0 j (by omega)] at e
        exact h5 i j (by omega) (by omega) e
  have qk1 : q (k - 1) = t (k - 1) := e0 (k - 1) (by omega)
  have q0 : q 0 = 0 := by rw [e0 0 (by omega)]; exact h4
  have fit2 : ∀ c, Tour n c → (Fits n (S2 3) c ↔ Fits n (S2 2) c ∧ ∀ i, i + 1 < k + 1 → Adj n c (q i) (q (i + 1))) := by
    intro c ht
    rw [fw c, h7 c ht, q2]
    constructor
    · rintro ⟨⟨a1, a2⟩, a3⟩
      refine ⟨a1, fun i hi => ?_⟩
      by_cases ei : i + 1 = k
      · rw [ei, ek, show i = k - 1 by omega, qk1]; exact a3
      · rw [e0 i (by omega), e0 (i + 1) (by omega)]; exact a2 i (by omega)
    · rintro ⟨a1, a2⟩
      refine ⟨⟨a1, fun i hi => ?_⟩, ?_⟩
      · have := a2 i (by omega)
        rw [e0 i (by omega), e0 (i + 1) (by omega)] at this; exact this
      · have := a2 (k - 1) (by omega)
        rw [show k - 1 + 1 = k by omega, ek, qk1] at this; exact this
  refine ⟨fun f hf => ?_, ?_, fun i hi => ?_, q0, qinj, ⟨(bit_or h6.1 (by omega)).1, fun z hz => ?_⟩, fit2, ?_, ?_, ?_⟩
  · rw [qf f (by omega) (by omega) (by omega)]; exact h1 f hf
  · refine ⟨hn7, hn3, by rw [q1]; exact hE.2.2.1, by rw [q3]; exact dec1_sy isl hn7 1 hE.2.2.2.1, by rw [q1]; exact hE.2.2.2.2.1, by rw [q3]; exact dec1_rng (by decide) hE.2.2.2.2.2⟩
  · rw [q14]
    by_cases ei : i = k
    · rw [if_pos ei, ei, ek]; exact ⟨hb, rfl⟩
    · rw [if_neg ei, e0 i (by omega)]; exact h3 i (by omega)
  · rw [(bit_or h6.1 (by omega)).2 z hz]
    by_cases ez : z = b
    · rw [if_pos ez]
      constructor
      · intro w; exact absurd w (by decide)
      · intro w; exact absurd (by rw [ek, ez]) (w k (by omega))
    · rw [if_neg ez, h6.2 z hz]
      constructor
      · intro w i hi
        by_cases ei : i = k
        · rw [ei, ek]; exact fun e => ez e.symm
        · rw [e0 i (by omega)]; exact w i (by omega)
      · intro w i hi
        have := w i (by omega)
        rw [e0 i hi] at this; exact this
  · rcases htry.2.2 with ⟨w, -⟩ | ⟨w, ⟨c, d1, d2, d3⟩, -⟩
    · exfalso
      have := (cost_rng (n := n) (M := S 1) (c := c0) hn7 hE.2.2.2.2.1).1
      omega
    · rw [← q3] at d2
      have d4 := (fit2 c d1).mp d2
      obtain ⟨c', g1, g2, g3, g4⟩ := orient (M := S 1) hn3 hE.2.2.1 (by rw [q2]; exact hR) d1 d4.1 (t := q) (k := k) hkn q0 (fun i j hi hj e => qinj i j (by omega) (by omega) e) (fun i hi => d4.2 i (by omega))
      exact ⟨c', g1, g2, by rw [q1, q13, g3]; exact d3, fun i hi => g4 i (by omega)⟩
  · intro c ht hf
    rw [q1, q13]
    rw [q2] at hf
    exact h9 c ht hf
  · intro c ht hf hc
    rw [q2] at hf
    rw [q1, q13] at hc
    rcases h10 c ht hf hc with w | ⟨j, j1, j2, j3⟩
    · have tr := ft_try hk hkn hR h0 ht hf hc w
      have le : b ≤ c k := by
        refine Classical.byContradiction (fun z => ?_)
        exact hmin (c k) (by omega) tr.2
      by_cases eb : c k = b
      · left
        intro i hi
        by_cases ei : i = k
        · rw [ei, ek]; exact eb
        · rw [e0 i (by omega)]; exact w i (by omega)
      · right
        refine ⟨k, by omega, fun i hi => by rw [e0 i hi]; exact w i hi, ?_⟩
        rw [ek]; omega
    · right
      refine ⟨j, by omega, fun i hi => by rw [e0 i (by omega)]; exact j2 i hi, ?_⟩
      rw [e0 j j1]; exact j3
/-- what a desk knows of its first best tour -/
def KN (n : Nat) (S : TS) : Prop := Opt n (S 1) (S 2) (S 13 0) ∧ (0 ≤ S 13 0 → ∃ c, LexOpt n (S 1) (S 2) c ∧ Cost n (S 1) c = S 13 0 ∧ ∀ k, k < n → S 14 k = (c k : Int))
theorem ft_end {n : Nat} {Sb S : TS} {t : Nat → Nat} {sn : Nat} (h : ftI n Sb S t n sn) : KN n S := by
  obtain ⟨h1, hE, h3, h4, h5, h6, h7, ⟨c, c1, c2, c3, c4⟩, h9, h10⟩ := h
  have h0 := (cost_rng (n := n) (M := S 1) (c := c) hE.1 hE.2.2.2.2.1).1
  refine ⟨Or.inr ⟨by omega, ⟨c, c1, c2, c3⟩, h9⟩, fun _ => ⟨c, ⟨c1, c2, fun d d1 d2 => by rw [c3]; exact h9 d d1 d2, fun d d1 d2 d3 => ?_⟩, c3, fun k hk => by rw [c4 k hk]; exact (h3 k hk).2⟩⟩
  rcases h10 d d1 d2 (by rw [d3]; exact c3) with w | ⟨j, j1, j2, j3⟩
  · left; intro k hk; rw [w k hk, c4 k hk]
  · right
    exact ⟨j, j1, fun i hi => by rw [j2 i hi, c4 i (by omega)], by rw [c4 j j1]; exact j3⟩
theorem fits_eq {n : Nat} {R R' : Nat → Int} {c : Nat → Nat} (h7 : n ≤ 7) (ht : Tour n c) (h : ∀ j, j < 49 → R j = R' j) (hf : Fits n R c) : Fits n R' c := by
  refine ⟨fun k hk => ?_, fun a b hab hb e => hf.2 a b hab hb (by rw [h _ (by omega)]; exact e)⟩
  have l1 := ht.lt (i := k) (by omega) (by omega)
  have l2 := ht.lt (i := k + 1) (by omega) (by omega)
  rw [← h _ (by omega)]; exact hf.1 k hk
/-- the desk at rest -/
def TD0 (n : Nat) (S : TS) : Prop := S 0 0 = (n : Int) ∧ (3 ≤ n ∧ n ≤ 7) ∧ (∀ j, 0 ≤ S 1 j ∧ S 1 j ≤ 99) ∧ (∀ j, 0 ≤ S 2 j ∧ S 2 j ≤ 2) ∧ Sy n (S 1) ∧ Sy n (S 2) ∧ ∀ j, 0 ≤ S 3 j ∧ S 3 j ≤ 2
def TDI (n : Nat) (S : TS) : Prop := TD0 n S ∧ (S 12 0 = 0 ∨ (S 12 0 = 1 ∧ KN n S))
theorem cpS_f (S : TS) (c : Nat) {f : Nat} (h : f ≠ 3) : cpS S c f = S f := by funext j; simp [cpS, h]
/-- askPlainly behind it: the rules of the question are the desk's (beyond place 48 nothing is asked) -/
def aqS (S : TS) : TS := cpS S 49
theorem aq_3 (S : TS) {j : Nat} (hj : j < 49) : aqS S 3 j = S 2 j := by simp [aqS, cpS, hj]
theorem KN.keep {n : Nat} {S S' : TS} (hf : ∀ f, f < 3 ∨ 11 < f → S' f = S f) (h : KN n S) : KN n S' := by
  unfold KN at h ⊢
  rw [hf 1 (by omega), hf 2 (by omega), hf 13 (by omega), hf 14 (by omega)]
  exact h
theorem TD0.keep {n : Nat} {S S' : TS} (h : TD0 n S) (hf : ∀ f, f < 3 → S' f = S f) (h3 : ∀ j, 0 ≤ S' 3 j ∧ S' 3 j ≤ 2) : TD0 n S' := by
  obtain ⟨a0, a1, a2, a3, a4, a5, a6⟩ := h
  exact ⟨by rw [hf 0 (by omega)]; exact a0, a1, by rw [hf 1 (by omega)]; exact a2, by rw [hf 2 (by omega)]; exact a3, by rw [hf 1 (by omega)]; exact a4, by rw [hf 2 (by omega)]; exact a5, h3⟩
theorem TDI.keep {n : Nat} {S S' : TS} (h : TDI n S) (hf : ∀ f, f < 3 ∨ 11 < f → S' f = S f) (h3 : ∀ j, 0 ≤ S' 3 j ∧ S' 3 j ≤ 2) : TDI n S' := by
  refine ⟨h.1.keep (fun f hf2 => hf f (by omega)) h3, ?_⟩
  rw [hf 12 (by omega)]
  exact h.2.imp id (fun q => ⟨q.1, q.2.keep hf⟩)
theorem aq_ec {n : Nat} {S : TS} (h : TD0 n S) : EC n (aqS S) := by
  obtain ⟨a0, a1, a2, a3, a4, a5, a6⟩ := h
  have e1 : aqS S 1 = S 1 := cpS_f S 49 (by decide)
  refine ⟨a1.2, a1.1, by rw [e1]; exact a4, fun x y hx hy => ?_, by rw [e1]; exact a2, fun j => ?_⟩
  · rw [aq_3 S (by omega), aq_3 S (by omega)]; exact a5 x y hx hy
  · by_cases q : j < 49
    · rw [aq_3 S q]; exact a3 j
    · have : aqS S 3 j = S 3 j := by simp [aqS, cpS, q]
      rw [this]; exact a6 j
theorem aq_fits {n : Nat} {S : TS} (h7 : n ≤ 7) {c : Nat → Nat} (ht : Tour n c) : Fits n (aqS S 3) c ↔ Fits n (S 2) c :=
  ⟨fits_eq h7 ht (fun j hj => aq_3 S hj), fits_eq h7 ht (fun j hj => (aq_3 S hj).symm)⟩
theorem bit_1 : ∀ b, b < 7 → (bitN 1 b = 0 ↔ (0 : Nat) ≠ b) := by decide +kernel
theorem ft_start {n : Nat} {S : TS} (hE : EC n S) (hq : ∀ c, Tour n c → (Fits n (S 3) c ↔ Fits n (S 2) c)) (hc : Opt n (S 1) (S 2) (S 13 0)) (h0 : 0 ≤ S 13 0) (h14 : S 14 0 = 0) : ftI n S S (fun _ => 0) 1 1 := by
  obtain ⟨c, c1, c2, c3⟩ : ∃ c, Tour n c ∧ Fits n (S 2) c ∧ Cost n (S 1) c = S 13 0 := by
    rcases hc with q | q
    · omega
    · exact q.2.1
  have hall : ∀ c, Tour n c → Fits n (S 2) c → S 13 0 ≤ Cost n (S 1) c := by
    rcases hc with q | q
    · omega
    · exact q.2.2
  have hn := hE.2.1
  refine ⟨fun _ _ => rfl, hE, fun i hi => ⟨by show 0 < n; omega, by rw [show i = 0 by omega]; exact h14⟩, rfl, fun i j hi hj _ => by omega, ⟨by decide, fun b hb => ?_⟩, fun c ht => ?_, ⟨c, c1, c2, c3, fun i hi => by rw [show i = 0 by omega]; exact c1.1⟩, hall, fun c ht _ _ => Or.inl (fun i hi => by rw [show i = 0 by omega]; exact ht.1)⟩
  · rw [bit_1 b hb]
    exact ⟨fun q i _ => q, fun q => q 0 (by decide)⟩
  · rw [hq c ht]
    exact ⟨fun q => ⟨q, fun i hi => by omega⟩, fun q => q.1⟩
end
section
/-! takeRequired, growTree -/
theorem TI.g5 {n : Nat} {S : TS} (h : TI n S) (h7 : n ≤ 7) : ∀ j, j < n → 0 ≤ S 5 j ∧ S 5 j ≤ 6 := fun j hj => by
  obtain ⟨v, h1, h2, h3⟩ := h.2.2.2.2.1 j hj
  omega
theorem TI.g6 {n : Nat} {S : TS} (h : TI n S) (h7 : n ≤ 7) : ∀ j, j < n → 0 ≤ S 6 j ∧ S 6 j ≤ 100 := fun j hj => by
  have := deg_rng h.1 h.2.1 hj
  omega
theorem frF.e0 {S0 S : TS} (h : frF S0 S) : S 0 = S0 0 := h 0 (by decide) (by decide) (by decide) (by decide)
set_option maxRecDepth 20000 in
theorem c_d_takeRequired {q : Nat → Nat} {kz : ClassId × ClassId × ClassId} {S0 : TS} {n : Nat} (hn : S0 0 0 = (n : Int)) (hB : BC n S0) (hI0 : RI n S0 S0 0 1) : ∀ l : Launch, MI l y_d_takeRequired b_d_takeRequired 3 .boolean ({ frames := 3, cells := 0, slots := 0, locals := 68 }) (td_ws q kz) (ty_k kz) [.ref (q 0)] S0 (fun r S' => (r = 0 ∧ frF S0 S' ∧ ∀ c, Tour n c → ¬ Fits n (S0 3) c) ∨ (r = 1 ∧ RQ n S0 S')) := by
  refine mi_of (td_ok q kz) (by decide) (Nat.le_of_ble_eq_true rfl) (by simp [Value.category]) (Nat.le_of_ble_eq_true rfl) ?_
  intro X C hR
  show TW X (td_ws q kz) S0 0 [some (.ref (q 0)), none, none] []
  refine tw_iconst C d_d_takeRequired_0 ?_
  refine tw_istore1 C d_d_takeRequired_1 ?_
  have h7 := hB.1
  have h3n := hB.2.1
  suffices hl2 : ∀ (f2 : Nat) (a : Nat) (S : TS), n < a + f2 → a ≤ n → RI n S0 S a (a + 1) → TW X (td_ws q kz) (S) 2 [some (.ref (q 0)), some (.int (iI a)), none] [] from hl2 (n + 1) 0 S0 (by omega) (by omega) hI0
  intro f2
  induction f2 with
  | zero => intro a S h1 h2 hI; exfalso; omega
  | succ f2 ih2 =>
    intro a S h1 h2 hI
    refine tw_iload1 C d_d_takeRequired_2 ?_
    refine tw_aload0 C d_d_takeRequired_3 ?_
    refine g_d0 C d_d_takeRequired_4 (show _ = (n : Int) by rw [hI.1.e0]; exact hn) ?_
    refine tw_icmp_ge C d_d_takeRequired_7 (by omega) (by omega) (fun u7 => ?_) (fun u7 => ?_)
    · refine tw_iconst C d_d_takeRequired_60 ?_
      exact hR _ _ _ _ _ d_d_takeRequired_61 rfl (Or.inr ⟨rfl, RI_end hB (by rw [show n = a by omega] at hI ⊢; exact hI)⟩)
    · refine tw_iload1 C d_d_takeRequired_10 ?_
      refine tw_iconst C d_d_takeRequired_11 ?_
      refine tw_iadd C d_d_takeRequired_12 ?_
      refine tw_istore2 C d_d_takeRequired_13 ?_
      suffices hl14 : ∀ (f14 : Nat) (b : Nat) (S2 : TS), n < b + f14 → b ≤ n → a < b → RI n S0 S2 a b → TW X (td_ws q kz) (S2) 14 [some (.ref (q 0)), some (.int (iI a)), some (.int (iI b))] [] from hl14 (n + 1) (a + 1) S (by omega) (by omega) (by omega) hI
      intro f14
      induction f14 with
      | zero => intro b S2 g1 g2 g3 hJ; exfalso; omega
      | succ f14 ih14 =>
        intro b S2 g1 g2 g3 hJ
        have hB2 := hB.fr hJ.1
        have hB3 := hB2.2.2.2.2.1
        refine tw_iload2 C d_d_takeRequired_14 ?_
        refine tw_aload0 C d_d_takeRequired_15 ?_
        refine g_d0 C d_d_takeRequired_16 (show _ = (n : Int) by rw [hJ.1.e0]; exact hn) ?_
        refine tw_icmp_ge C d_d_takeRequired_19 (by omega) (by omega) (fun u19 => ?_) (fun u19 => ?_)
        · refine tw_iinc1 C d_d_takeRequired_54 ?_
          refine tw_goto C d_d_takeRequired_57 ?_
          exact tw_drop 2 (ih2 (a + 1) S2 (by omega) (by omega) (RI_row (by rw [show n = b by omega] at hJ ⊢; exact hJ)))
        · refine tw_aload0 C d_d_takeRequired_22 ?_
          refine g_d3 C d_d_takeRequired_23 ?_
          refine tw_iload1 C d_d_takeRequired_26 ?_
          refine tw_bipush C d_d_takeRequired_27 rfl ?_
          refine tw_imul C d_d_takeRequired_29 ?_
          refine tw_iload2 C d_d_takeRequired_30 ?_
          refine tw_iadd C d_d_takeRequired_31 ?_
          refine al_d3 C (((a * 7) + b)) d_d_takeRequired_32 (by omega) (by omega) rfl ?_
          have r32 := hB3 (((a * 7) + b))
          refine tw_iconst C d_d_takeRequired_33 ?_
          refine tw_icmp_ne C d_d_takeRequired_34 (by omega) (by omega) (fun u34 => ?_) (fun u34 => ?_)
          · refine tw_iinc2 C d_d_takeRequired_48 ?_
            refine tw_goto C d_d_takeRequired_51 ?_
            exact ih14 (b + 1) S2 (by omega) (by omega) (by omega) (RI_skip hJ u34)
          · refine tw_aload0 C d_d_takeRequired_37 ?_
            refine tw_iload1 C d_d_takeRequired_38 ?_
            refine tw_iload2 C d_d_takeRequired_39 ?_
            refine tw_calli C (td_ok q kz) (c_d_takeOne (S := S2) (n := n) (a := a) (b := b) (by rw [hJ.1.e0]; exact hn) h7 (by omega) (by omega) (by omega) (hJ.2.1.g5 h7) (hJ.2.1.g6 h7)) cs_d_d_takeOne ⟨⟨rfl, rfl⟩, by decide, by decide⟩ rfl rfl rfl rfl rfl (Nat.le_of_ble_eq_true rfl) d_d_takeRequired_40 (fun r40 z40 hp40 => ?_)
            rcases hp40 with ⟨rfl, rfl, q3⟩ | ⟨rfl, rfl, q3, q4, q5⟩
            · refine tw_if_ne C d_d_takeRequired_43 (by decide) (fun h => absurd rfl h) (fun _ => ?_)
              refine tw_iconst C d_d_takeRequired_46 ?_
              exact hR _ _ _ _ _ d_d_takeRequired_47 rfl (Or.inl ⟨rfl, hJ.1, RI_bad hB hJ g3 (by omega) u34 q3⟩)
            · refine tw_if_ne C d_d_takeRequired_43 (by decide) (fun _ => ?_) (fun h => absurd h (by decide))
              refine tw_iinc2 C d_d_takeRequired_48 ?_
              refine tw_goto C d_d_takeRequired_51 ?_
              exact ih14 (b + 1) _ (by omega) (by omega) (by omega) (RI_take hB hJ g3 (by omega) u34 q3 q4 q5)
set_option maxRecDepth 20000 in
theorem c_d_growTree {q : Nat → Nat} {kz : ClassId × ClassId × ClassId} {S1 : TS} {S0 : TS} {n : Nat} (hn : S0 0 0 = (n : Int)) (hB : BC n S0) (hq : RQ n S0 S1) : ∀ l : Launch, MI l y_d_growTree b_d_growTree 3 .boolean ({ frames := 2, cells := 0, slots := 0, locals := 48 }) (td_ws q kz) (ty_k kz) [.ref (q 0)] S1 (fun r S' => (r = 0 ∧ frF S1 S' ∧ ∀ c, Tour n c → ¬ Fits n (S0 3) c) ∨ (r = 1 ∧ ∃ m, GI n S1 S' m ∧ cl n S' = 1 ∧ ∀ j, 2 ≤ j → j < n → S' 5 j = S' 5 1)) := by
  refine mi_of (td_ok q kz) (by decide) (Nat.le_of_ble_eq_true rfl) (by simp [Value.category]) (Nat.le_of_ble_eq_true rfl) ?_
  intro X C hR
  show TW X (td_ws q kz) S1 0 [some (.ref (q 0)), none, none] []
  refine tw_iconst C d_d_growTree_0 ?_
  refine tw_istore1 C d_d_growTree_1 ?_
  have hB1 := hB.fr hq.1
  have h7 := hB.1
  have h3n := hB.2.1
  have hn1 : S1 0 0 = (n : Int) := by rw [hq.1.e0]; exact hn
  suffices hl2 : ∀ (f2 : Nat) (m : Nat) (S : TS), n < m + 1 + f2 → m + 1 ≤ n → GI n S1 S m → TW X (td_ws q kz) (S) 2 [some (.ref (q 0)), some (.int (iI (m + 1))), none] [] from hl2 n 0 S1 (by omega) (by omega) (GI_start hq)
  intro f2
  induction f2 with
  | zero => intro m S h1 h2 hI; exfalso; omega
  | succ f2 ih2 =>
    intro m S h1 h2 hI
    have hB2 := hB1.fr hI.1
    have hnS : S 0 0 = (n : Int) := by rw [hI.1.e0]; exact hn1
    have hw2 : ∀ a b, a < n → b < n → inR (wt S a b) := fun a b ha hb => by have := hB2.2.2.2.2.2 a b ha hb; omega
    have h52 : ∀ j, j < n → inR (S 5 j) := fun j hj => by have := hI.2.1.g5 h7 j hj; omega
    have h32 : ∀ j, inR (S 3 j) := fun j => by have := hB2.2.2.2.2.1 j; omega
    refine tw_iload1 C d_d_growTree_2 ?_
    refine tw_aload0 C d_d_growTree_3 ?_
    refine g_d0 C d_d_growTree_4 (show _ = (n : Int) by rw [hI.1.e0]; exact hn1) ?_
    refine tw_icmp_ge C d_d_growTree_7 (by omega) (by omega) (fun u7 => ?_) (fun u7 => ?_)
    · refine tw_aload0 C d_d_growTree_42 ?_
      refine tw_calli C (td_ok q kz) (c_d_joined (S := S) (n := n) hnS h7 h3n (hI.2.1.g5 h7)) cs_d_d_joined ⟨⟨rfl, rfl⟩, by decide, by decide⟩ rfl rfl rfl rfl rfl (Nat.le_of_ble_eq_true rfl) d_d_growTree_43 (fun r43 z43 hp43 => ?_)
      exfalso
      have e1 := cl_pos h3n hI.2.1.2.2.2.2.1
      have e2 := cl_le h3n hq.2.1.2.2.2.2.1
      have e3 := hI.2.2.2.2.1
      omega
    · refine tw_aload0 C d_d_growTree_10 ?_
      refine tw_calli C (td_ok q kz) (c_d_cheapestJoin (S := S) (n := n) hnS h7 h3n hw2 h52 h32) cs_d_d_cheapestJoin ⟨⟨rfl, rfl⟩, by decide, by decide⟩ rfl rfl rfl rfl rfl (Nat.le_of_ble_eq_true rfl) d_d_growTree_11 (fun r11 z11 hp11 => ?_)
      obtain ⟨hz, hp11⟩ := hp11
      replace hz := hz.symm
      subst hz
      have hr11 : -1 ≤ r11 ∧ r11 ≤ 48 := by rcases hp11 with ⟨e, -⟩ | ⟨u, v, e1, e2, e3, e4, -⟩ <;> omega
      refine tw_istore2 C d_d_growTree_14 ?_
      refine tw_iload2 C d_d_growTree_15 ?_
      refine tw_if_ge C d_d_growTree_16 (by omega) (fun u16 => ?_) (fun u16 => ?_)
      · rcases hp11 with ⟨e, -⟩ | ⟨u, v, y1, y2, y3, y4, y5, y6⟩
        · exfalso; omega
        have eq1 : r11 = ((u * 7 + v : Nat) : Int) := by omega
        subst eq1
        refine tw_aload0 C d_d_growTree_24 ?_
        refine tw_iload2 C d_d_growTree_25 ?_
        refine tw_bipush C d_d_growTree_26 rfl ?_
        refine tw_idiv C (u * 7 + v) 7 d_d_growTree_28 (by omega) (by omega) (by omega) (by omega) (by omega) ?_
        refine tw_iload2 C d_d_growTree_29 ?_
        refine tw_bipush C d_d_growTree_30 rfl ?_
        refine tw_irem C (u * 7 + v) 7 d_d_growTree_32 (by omega) (by omega) (by omega) (by omega) (by omega) ?_
        rw [show (u * 7 + v) / 7 = u by omega, show (u * 7 + v) % 7 = v by omega]
        refine tw_callv C (td_ok q kz) (c_d_take (S := S) (n := n) (a := u) (b := v) hnS h7 (by omega) (by omega) (by omega) (hI.2.1.g5 h7) (hI.2.1.g6 h7)) cs_d_d_take ⟨⟨rfl, rfl⟩, by decide, by decide⟩ rfl rfl rfl rfl rfl (Nat.le_of_ble_eq_true rfl) d_d_growTree_33 (fun z33 hp33 => ?_)
        subst hp33
        refine tw_iinc1 C d_d_growTree_36 ?_
        refine tw_goto C d_d_growTree_39 ?_
        exact tw_drop 2 (ih2 (m + 1) _ (by omega) (by omega) (GI_step hB hq hI y1 y2 y3 y5 y6))
      · refine tw_aload0 C d_d_growTree_19 ?_
        refine tw_calli C (td_ok q kz) (c_d_joined (S := S) (n := n) hnS h7 h3n (hI.2.1.g5 h7)) cs_d_d_joined ⟨⟨rfl, rfl⟩, by decide, by decide⟩ rfl rfl rfl rfl rfl (Nat.le_of_ble_eq_true rfl) d_d_growTree_20 (fun r20 z20 hp20 => ?_)
        obtain ⟨hz, hp20⟩ := hp20
        replace hz := hz.symm
        subst hz
        rcases hp11 with ⟨-, hno⟩ | ⟨u, v, y1, y2, y3, y4, -⟩
        · rcases hp20 with ⟨rfl, hj⟩ | ⟨rfl, j, j1, j2, j3⟩
          · exact hR _ _ _ _ _ d_d_growTree_23 rfl (Or.inr ⟨rfl, m, hI, cl_one h3n hI.2.1.2.2.2.2.1 hj, hj⟩)
          · exact hR _ _ _ _ _ d_d_growTree_23 rfl (Or.inl ⟨rfl, hI.1, GI_fail hB hq hI hno j1 j2 j3⟩)
        · exfalso; omega
end
section
/-! closeAtZero, build -/
def czI (S : TS) (n b : Nat) (best cost : Int) : Prop :=
  (best = -1 ∧ ∀ y, 1 ≤ y → y < b → ¬ opz S y) ∨
  ∃ u : Nat, 1 ≤ u ∧ u < n ∧ opz S u ∧ best = u ∧ cost = wt S 0 u ∧ ∀ y, 1 ≤ y → y < b → opz S y → wt S 0 u ≤ wt S 0 y
theorem czI_skip {S : TS} {n b : Nat} {best cost : Int} (h : czI S n b best cost) (hs : ¬ opz S b) : czI S n (b + 1) best cost := by
  rcases h with ⟨h1, h2⟩ | ⟨u, h1, h3, h4, h5, h6, h7⟩
  · refine Or.inl ⟨h1, fun y p1 p2 => ?_⟩
    by_cases g : y = b
    · rw [g]; exact hs
    · exact h2 y p1 (by omega)
  · refine Or.inr ⟨u, h1, h3, h4, h5, h6, fun y p1 p2 p5 => ?_⟩
    by_cases g : y = b
    · rw [g] at p5; exact absurd p5 hs
    · exact h7 y p1 (by omega) p5
theorem czI_keep {S : TS} {n b : Nat} {best cost : Int} (h : czI S n b best cost) (h0 : 0 ≤ best) (hs : cost ≤ wt S 0 b) : czI S n (b + 1) best cost := by
  rcases h with ⟨h1, h2⟩ | ⟨u, h1, h3, h4, h5, h6, h7⟩
  · omega
  · refine Or.inr ⟨u, h1, h3, h4, h5, h6, fun y p1 p2 p5 => ?_⟩
    by_cases g : y = b
    · rw [g]; omega
    · exact h7 y p1 (by omega) p5
theorem czI_take {S : TS} {n b : Nat} {best cost : Int} (h : czI S n b best cost) (hb1 : 1 ≤ b) (hb : b < n) (ho : opz S b) (hs : best < 0 ∨ wt S 0 b < cost) : czI S n (b + 1) (b : Int) (wt S 0 b) := by
  refine Or.inr ⟨b, hb1, hb, ho, rfl, rfl, fun y p1 p2 p5 => ?_⟩
  by_cases g : y = b
  · rw [g]; omega
  · rcases h with ⟨h1, h2⟩ | ⟨u, h1, h3, h4, h5, h6, h7⟩
    · exact absurd p5 (h2 y p1 (by omega))
    · have := h7 y p1 (by omega) p5
      omega
theorem czI_rng {S : TS} {n b : Nat} {best cost : Int} (h : czI S n b best cost) (h7 : n ≤ 7) : -1 ≤ best ∧ best ≤ 48 := by
  rcases h with ⟨h1, -⟩ | ⟨u, h1, h3, h4, h5, -⟩ <;> omega
set_option maxRecDepth 20000 in
theorem c_d_closeAtZero {q : Nat → Nat} {kz : ClassId × ClassId × ClassId} {S1 S2 : TS} {m0 : Nat} {S0 : TS} {n : Nat} (hn : S0 0 0 = (n : Int)) (hB : BC n S0) (hq : RQ n S0 S1) (hg : GI n S1 S2 m0) (hcl : cl n S2 = 1) (hj : ∀ j, 2 ≤ j → j < n → S2 5 j = S2 5 1) : ∀ l : Launch, MI l y_d_closeAtZero b_d_closeAtZero 7 .boolean ({ frames := 2, cells := 0, slots := 0, locals := 46 }) (td_ws q kz) (ty_k kz) [.ref (q 0)] S2 (fun r S' => (r = 0 ∧ frF S2 S' ∧ ∀ c, Tour n c → ¬ Fits n (S0 3) c) ∨ (r = 1 ∧ frF S2 S' ∧ GOOD n S')) := by
  refine mi_of (td_ok q kz) (by decide) (Nat.le_of_ble_eq_true rfl) (by simp [Value.category]) (Nat.le_of_ble_eq_true rfl) ?_
  intro X C hR
  show TW X (td_ws q kz) S2 0 [some (.ref (q 0)), none, none, none, none, none, none] []
  refine tw_iconst C d_d_closeAtZero_0 ?_
  refine tw_istore1 C d_d_closeAtZero_1 ?_
  have hB1 := hB.fr hq.1
  have hB2 := hB1.fr hg.1
  have h7 := hB.1
  have h3n := hB.2.1
  have hn2 : S2 0 0 = (n : Int) := by rw [hg.1.e0, hq.1.e0]; exact hn
  have hd2 := deg_rng hg.2.1.1 hg.2.1.2.1 (x := 0) (by omega)
  have hd2b : S2 6 0 ≤ 2 := by rw [hg.2.2.2.1.1]; exact hq.2.2.2 0 (by omega)
  suffices hl2 : ∀ (f2 : Nat) (m : Nat) (S : TS), 2 < m + f2 → m ≤ 2 → ZI n S1 S2 S m → S 6 0 ≤ 2 → TW X (td_ws q kz) (S) 2 [some (.ref (q 0)), some (.int (iI m)), none, none, none, none, none] [] from hl2 3 0 S2 (by omega) (by omega) (ZI_start hB hq hg) hd2b
  intro f2
  induction f2 with
  | zero => intro m S h1 h2 hI hdI; exfalso; omega
  | succ f2 ih2 =>
    intro m S h1 h2 hI hdI
    have hBS := hB2.fr hI.1
    have hnS : S 0 0 = (n : Int) := by rw [hI.1.e0]; exact hn2
    have hw2 : ∀ a b, a < n → b < n → inR (wt S a b) := fun a b ha hb => by have := hBS.2.2.2.2.2 a b ha hb; omega
    have h32 : ∀ j, inR (S 3 j) := fun j => by have := hBS.2.2.2.2.1 j; omega
    have hm0 := hI.2.2.2.1
    refine tw_iload1 C d_d_closeAtZero_2 ?_
    refine tw_iconst C d_d_closeAtZero_3 ?_
    refine tw_icmp_ge C d_d_closeAtZero_4 (by omega) (by omega) (fun u4 => ?_) (fun u4 => ?_)
    · refine tw_aload0 C d_d_closeAtZero_114 ?_
      refine g_d6 C d_d_closeAtZero_115 ?_
      refine tw_iconst C d_d_closeAtZero_118 ?_
      refine al_d6 C 0 d_d_closeAtZero_119 (by omega) (by omega) rfl ?_
      refine tw_iconst C d_d_closeAtZero_120 ?_
      have r6b := deg_rng hI.2.1.1 hI.2.1.2.1 (x := 0) (by omega)
      refine tw_icmp_ne C d_d_closeAtZero_121 (by omega) (by omega) (fun u121 => ?_) (fun u121 => ?_)
      · refine tw_iconst C d_d_closeAtZero_128 ?_
        exact hR _ _ _ _ _ d_d_closeAtZero_129 rfl (by exfalso; omega)
      · refine tw_iconst C d_d_closeAtZero_124 ?_
        refine tw_goto C d_d_closeAtZero_125 ?_
        exact hR _ _ _ _ _ d_d_closeAtZero_129 rfl (Or.inr ⟨rfl, hI.1, good_of hB hq hg hcl hj hI (by omega)⟩)
    · refine tw_aload0 C d_d_closeAtZero_7 ?_
      refine g_d6 C d_d_closeAtZero_8 ?_
      refine tw_iconst C d_d_closeAtZero_11 ?_
      refine al_d6 C 0 d_d_closeAtZero_12 (by omega) (by omega) rfl ?_
      refine tw_iconst C d_d_closeAtZero_13 ?_
      have r6 := deg_rng hI.2.1.1 hI.2.1.2.1 (x := 0) (by omega)
      refine tw_icmp_ge C d_d_closeAtZero_14 (by omega) (by omega) (fun u14 => ?_) (fun u14 => ?_)
      · refine tw_aload0 C d_d_closeAtZero_114 ?_
        refine g_d6 C d_d_closeAtZero_115 ?_
        refine tw_iconst C d_d_closeAtZero_118 ?_
        refine al_d6 C 0 d_d_closeAtZero_119 (by omega) (by omega) rfl ?_
        refine tw_iconst C d_d_closeAtZero_120 ?_
        have r6b := deg_rng hI.2.1.1 hI.2.1.2.1 (x := 0) (by omega)
        refine tw_icmp_ne C d_d_closeAtZero_121 (by omega) (by omega) (fun u121 => ?_) (fun u121 => ?_)
        · refine tw_iconst C d_d_closeAtZero_128 ?_
          exact hR _ _ _ _ _ d_d_closeAtZero_129 rfl (by exfalso; omega)
        · refine tw_iconst C d_d_closeAtZero_124 ?_
          refine tw_goto C d_d_closeAtZero_125 ?_
          exact hR _ _ _ _ _ d_d_closeAtZero_129 rfl (Or.inr ⟨rfl, hI.1, good_of hB hq hg hcl hj hI (by omega)⟩)
      · refine tw_iconst C d_d_closeAtZero_17 ?_
        refine tw_istore2 C d_d_closeAtZero_18 ?_
        refine tw_iconst C d_d_closeAtZero_19 ?_
        refine tw_istore3 C d_d_closeAtZero_20 ?_
        refine tw_iconst C d_d_closeAtZero_21 ?_
        refine tw_istore4 C d_d_closeAtZero_22 ?_
        suffices hl24 : ∀ (f24 : Nat) (b : Nat) (best cost : Int), n < b + f24 → b ≤ n → 1 ≤ b → czI S n b best cost → inR cost → TW X (td_ws q kz) (S) 24 [some (.ref (q 0)), some (.int (iI m)), some (.int (iI best)), some (.int (iI cost)), some (.int (iI b)), none, none] [] from hl24 (n + 1) 1 (-1) 0 (by omega) (by omega) (by omega) (Or.inl ⟨rfl, fun y p1 p2 => by omega⟩) (by decide)
        intro f24
        induction f24 with
        | zero => intro b best cost g1 g2 g3 hJ hc; exfalso; omega
        | succ f24 ih24 =>
          intro b best cost g1 g2 g3 hJ hc
          have hrb := czI_rng hJ h7
          refine tw_iload4 C d_d_closeAtZero_24 ?_
          refine tw_aload0 C d_d_closeAtZero_26 ?_
          refine g_d0 C d_d_closeAtZero_27 (show _ = (n : Int) by rw [hI.1.e0]; exact hn2) ?_
          refine tw_icmp_ge C d_d_closeAtZero_30 (by omega) (by omega) (fun u30 => ?_) (fun u30 => ?_)
          · refine tw_iload2 C d_d_closeAtZero_96 ?_
            refine tw_if_ge C d_d_closeAtZero_97 (by omega) (fun u97 => ?_) (fun u97 => ?_)
            · rcases hJ with ⟨e, -⟩ | ⟨v, y1, y3, y4, y5, y6, y7⟩
              · exfalso; omega
              subst y5
              have hZ := ZI_step hB hq hg hI y1 y3 y4 (fun y p1 p2 p3 => y7 y p1 (by omega) p3)
              refine tw_aload0 C d_d_closeAtZero_102 ?_
              refine tw_iconst C d_d_closeAtZero_103 ?_
              refine tw_iload2 C d_d_closeAtZero_104 ?_
              refine tw_callv C (td_ok q kz) (c_d_take (S := S) (n := n) (a := 0) (b := v) hnS h7 (by omega) (by omega) (by omega) (hI.2.1.g5 h7) (hI.2.1.g6 h7)) cs_d_d_take ⟨⟨rfl, rfl⟩, by decide, by decide⟩ rfl rfl rfl rfl rfl (Nat.le_of_ble_eq_true rfl) d_d_closeAtZero_105 (fun z105 hp105 => ?_)
              subst hp105
              refine tw_iinc1 C d_d_closeAtZero_108 ?_
              refine tw_goto C d_d_closeAtZero_111 ?_
              exact tw_drop 2 (tw_drop 3 (tw_drop 4 (tw_drop 5 (tw_drop 6 (ih2 (m + 1) _ (by omega) (by omega) hZ (by have := hZ.2.2.2.1; have := hI.2.2.2.1; omega))))))
            · refine tw_iconst C d_d_closeAtZero_100 ?_
              exact hR _ _ _ _ _ d_d_closeAtZero_101 rfl (Or.inl ⟨rfl, hI.1, ZI_fail hB hq hg hI (by omega) (fun y p1 p2 => by rcases hJ with ⟨-, hno⟩ | ⟨v, y1, y3, y4, y5, -⟩; exact hno y p1 (by omega); exfalso; omega)⟩)
          · refine tw_aload0 C d_d_closeAtZero_33 ?_
            refine tw_iconst C d_d_closeAtZero_34 ?_
            refine tw_iload4 C d_d_closeAtZero_35 ?_
            refine tw_calli C (td_ok q kz) (c_d_weight (S := S) (a := 0) (b := b) (by omega) (by omega)) cs_d_d_weight ⟨⟨rfl, rfl⟩, by decide, by decide⟩ rfl rfl rfl rfl rfl (Nat.le_of_ble_eq_true rfl) d_d_closeAtZero_37 (fun r37 z37 hp37 => ?_)
            obtain ⟨hr37, hz⟩ := hp37
            replace hz := hz.symm
            subst hz
            replace hr37 : r37 = wt S 0 b := hr37
            subst hr37
            have hwr : inR (wt S 0 b) := hw2 0 b (by omega) (by omega)
            refine tw_istore5 C d_d_closeAtZero_40 ?_
            refine tw_aload0 C d_d_closeAtZero_42 ?_
            refine g_d3 C d_d_closeAtZero_43 ?_
            refine tw_iload4 C d_d_closeAtZero_46 ?_
            refine al_d3 C b d_d_closeAtZero_48 (by omega) (by omega) rfl ?_
            have r48 := h32 b
            refine tw_if_ne C d_d_closeAtZero_49 (by omega) (fun u49 => ?_) (fun u49 => ?_)
            · refine tw_iconst C d_d_closeAtZero_66 ?_
              refine tw_istore6 C d_d_closeAtZero_67 ?_
              refine tw_iload6 C d_d_closeAtZero_69 ?_
              refine tw_if_eq C d_d_closeAtZero_71 (by decide) (fun _ => ?_) (fun h => absurd h (by decide))
              refine tw_iinc4 C d_d_closeAtZero_90 ?_
              refine tw_goto C d_d_closeAtZero_93 ?_
              exact tw_drop 5 (tw_drop 6 (ih24 (b + 1) best cost (by omega) (by omega) (by omega) (czI_skip hJ (fun h => u49 h.1)) hc))
            · refine tw_aload0 C d_d_closeAtZero_52 ?_
              refine g_d7 C d_d_closeAtZero_53 ?_
              refine tw_iload4 C d_d_closeAtZero_56 ?_
              refine al_d7 C b d_d_closeAtZero_58 (by omega) (by omega) rfl ?_
              have r7 : S 7 b = 0 ∨ S 7 b = 1 := by have := (hI.2.1.1.1 0 b (by omega) (by omega)).1; rwa [show 0 * 7 + b = b by omega] at this
              refine tw_if_ne C d_d_closeAtZero_59 (by omega) (fun u59 => ?_) (fun u59 => ?_)
              · refine tw_iconst C d_d_closeAtZero_66 ?_
                refine tw_istore6 C d_d_closeAtZero_67 ?_
                refine tw_iload6 C d_d_closeAtZero_69 ?_
                refine tw_if_eq C d_d_closeAtZero_71 (by decide) (fun _ => ?_) (fun h => absurd h (by decide))
                refine tw_iinc4 C d_d_closeAtZero_90 ?_
                refine tw_goto C d_d_closeAtZero_93 ?_
                exact tw_drop 5 (tw_drop 6 (ih24 (b + 1) best cost (by omega) (by omega) (by omega) (czI_skip hJ (fun h => u59 h.2)) hc))
              · refine tw_iconst C d_d_closeAtZero_62 ?_
                refine tw_goto C d_d_closeAtZero_63 ?_
                refine tw_istore6 C d_d_closeAtZero_67 ?_
                refine tw_iload6 C d_d_closeAtZero_69 ?_
                refine tw_if_eq C d_d_closeAtZero_71 (by decide) (fun h => absurd h (by decide)) (fun _ => ?_)
                refine tw_iload2 C d_d_closeAtZero_74 ?_
                refine tw_if_lt C d_d_closeAtZero_75 (by omega) (fun u75 => ?_) (fun u75 => ?_)
                · refine tw_iload4 C d_d_closeAtZero_84 ?_
                  refine tw_istore2 C d_d_closeAtZero_86 ?_
                  refine tw_iload5 C d_d_closeAtZero_87 ?_
                  refine tw_istore3 C d_d_closeAtZero_89 ?_
                  refine tw_iinc4 C d_d_closeAtZero_90 ?_
                  refine tw_goto C d_d_closeAtZero_93 ?_
                  exact tw_drop 5 (tw_drop 6 (ih24 (b + 1) _ _ (by omega) (by omega) (by omega) (czI_take hJ (by omega) (by omega) ⟨u49, u59⟩ (Or.inl u75)) hwr))
                · refine tw_iload5 C d_d_closeAtZero_78 ?_
                  refine tw_iload3 C d_d_closeAtZero_80 ?_
                  refine tw_icmp_ge C d_d_closeAtZero_81 hwr hc (fun u81 => ?_) (fun u81 => ?_)
                  · refine tw_iinc4 C d_d_closeAtZero_90 ?_
                    refine tw_goto C d_d_closeAtZero_93 ?_
                    exact tw_drop 5 (tw_drop 6 (ih24 (b + 1) best cost (by omega) (by omega) (by omega) (czI_keep hJ (by omega) u81) hc))
                  · refine tw_iload4 C d_d_closeAtZero_84 ?_
                    refine tw_istore2 C d_d_closeAtZero_86 ?_
                    refine tw_iload5 C d_d_closeAtZero_87 ?_
                    refine tw_istore3 C d_d_closeAtZero_89 ?_
                    refine tw_iinc4 C d_d_closeAtZero_90 ?_
                    refine tw_goto C d_d_closeAtZero_93 ?_
                    exact tw_drop 5 (tw_drop 6 (ih24 (b + 1) _ _ (by omega) (by omega) (by omega) (czI_take hJ (by omega) (by omega) ⟨u49, u59⟩ (Or.inr u81)) hwr))
def bdS (S : TS) (c : Nat) : TS := fun f j => if f = 5 ∧ j < c then (j : Int) else if f = 6 ∧ j < c then 0 else S f j
theorem bdS_0 (S : TS) : bdS S 0 = S := by funext f j; simp [bdS]
theorem bdS_put (S : TS) (c : Nat) : bdS S (c + 1) = up (up (bdS S c) 5 c (c : Int)) 6 c 0 := by
  funext f j
  unfold bdS up
  by_cases hf : f = 5
  · subst hf
    by_cases hj : j = c
    · subst hj; simp
    · have e : (j < c + 1) = (j < c) := by apply propext; omega
      simp [hj, e]
  · by_cases hf6 : f = 6
    · subst hf6
      by_cases hj : j = c
      · subst hj; simp
      · have e : (j < c + 1) = (j < c) := by apply propext; omega
        simp [hj, e]
    · simp [hf, hf6]
def clS (S : TS) (c : Nat) : TS := fun f j => if f = 7 ∧ j < c then 0 else S f j
theorem clS_0 (S : TS) : clS S 0 = S := by funext f j; simp [clS]
theorem clS_put (S : TS) (c : Nat) : clS S (c + 1) = up (clS S c) 7 c 0 := by
  funext f j
  unfold clS up
  by_cases hf : f = 7
  · subst hf
    by_cases hj : j = c
    · subst hj; simp
    · have e : (j < c + 1) = (j < c) := by apply propext; omega
      simp [hj, e]
  · simp [hf]
def bld0 (S : TS) (n : Nat) : TS := clS (bdS (up S 8 0 0) n) 49
theorem bld0_fr (S : TS) (n : Nat) : frF S (bld0 S n) := by
  intro f h5 h6 h7 h8
  funext j
  simp [bld0, clS, bdS, up, h5, h6, h7, h8]
theorem bld0_RI {S : TS} {n : Nat} (h7 : n ≤ 7) (h3 : 3 ≤ n) : RI n (bld0 S n) (bld0 S n) 0 1 := by
  refine RI_start h7 h3 (fun x hx => ?_) (fun x hx => ?_) (fun x y hx hy => ?_) ?_
  · simp [bld0, clS, bdS, hx]
  · simp [bld0, clS, bdS, hx]
  · have : x * 7 + y < 49 := by omega
    simp [bld0, clS, this]
  · simp [bld0, clS, bdS, up]
set_option maxRecDepth 20000 in
theorem c_d_build {q : Nat → Nat} {kz : ClassId × ClassId × ClassId} {S0 : TS} {n : Nat} (hn : S0 0 0 = (n : Int)) (hB : BC n S0)  : ∀ l : Launch, MI l y_d_build b_d_build 2 .boolean ({ frames := 4, cells := 0, slots := 0, locals := 90 }) (td_ws q kz) (ty_k kz) [.ref (q 0)] S0 (fun r S' => (r = 0 ∧ frF S0 S' ∧ ∀ c, Tour n c → ¬ Fits n (S0 3) c) ∨ (r = 1 ∧ frF S0 S' ∧ GOOD n S')) := by
  refine mi_of (td_ok q kz) (by decide) (Nat.le_of_ble_eq_true rfl) (by simp [Value.category]) (Nat.le_of_ble_eq_true rfl) ?_
  intro X C hR
  show TW X (td_ws q kz) S0 0 [some (.ref (q 0)), none] []
  refine tw_aload0 C d_d_build_0 ?_
  refine tw_iconst C d_d_build_1 ?_
  refine pt_d8 C d_d_build_2 ?_
  refine tw_iconst C d_d_build_5 ?_
  refine tw_istore1 C d_d_build_6 ?_
  have h7 := hB.1
  have h3n := hB.2.1
  have hBb := hB.fr (bld0_fr S0 n)
  have hnb : bld0 S0 n 0 0 = (n : Int) := hn
  suffices hl7 : ∀ (f7 : Nat) (c : Nat), n < c + f7 → c ≤ n → TW X (td_ws q kz) (bdS (up S0 8 0 0) c) 7 [some (.ref (q 0)), some (.int (iI c))] [] from tw_S (bdS_0 (up S0 8 0 0)).symm (hl7 (n + 1) 0 (by omega) (by omega))
  intro f7
  induction f7 with
  | zero => intro c h1 h2; exfalso; omega
  | succ f7 ih7 =>
    intro c h1 h2
    refine tw_iload1 C d_d_build_7 ?_
    refine tw_aload0 C d_d_build_8 ?_
    refine g_d0 C d_d_build_9 (show _ = (n : Int) from hn) ?_
    refine tw_icmp_ge C d_d_build_12 (by omega) (by omega) (fun u12 => ?_) (fun u12 => ?_)
    · refine tw_iconst C d_d_build_36 ?_
      refine tw_istore1 C d_d_build_37 ?_
      suffices hl38 : ∀ (f38 : Nat) (c : Nat), 49 < c + f38 → c ≤ 49 → TW X (td_ws q kz) (clS (bdS (up S0 8 0 0) n) c) 38 [some (.ref (q 0)), some (.int (iI c))] [] from tw_S (by rw [show c = n by omega, clS_0]) (hl38 50 0 (by omega) (by omega))
      intro f38
      induction f38 with
      | zero => intro c h1 h2; exfalso; omega
      | succ f38 ih38 =>
        intro c h1 h2
        refine tw_iload1 C d_d_build_38 ?_
        refine tw_bipush C d_d_build_39 rfl ?_
        refine tw_icmp_ge C d_d_build_41 (by omega) (by omega) (fun u41 => ?_) (fun u41 => ?_)
        · refine tw_S (show _ = bld0 S0 n by rw [show c = 49 by omega]; rfl) ?_
          refine tw_aload0 C d_d_build_57 ?_
          refine tw_calli C (td_ok q kz) (c_d_takeRequired (S0 := bld0 S0 n) (n := n) hnb hBb (bld0_RI h7 h3n)) cs_d_d_takeRequired ⟨⟨rfl, rfl⟩, by decide, by decide⟩ rfl rfl rfl rfl rfl (Nat.le_of_ble_eq_true rfl) d_d_build_58 (fun r58 z58 hp58 => ?_)
          have hr58 : r58 = 0 ∨ r58 = 1 := hp58.elim (fun q => Or.inl q.1) (fun q => Or.inr q.1)
          refine tw_if_ne C d_d_build_61 (by omega) (fun u61 => ?_) (fun u61 => ?_)
          · refine tw_aload0 C d_d_build_66 ?_
            have hq : RQ n (bld0 S0 n) z58 := by rcases hp58 with q | q; exact absurd q.1 u61; exact q.2
            refine tw_calli C (td_ok q kz) (c_d_growTree (S0 := bld0 S0 n) (S1 := z58) (n := n) hnb hBb hq) cs_d_d_growTree ⟨⟨rfl, rfl⟩, by decide, by decide⟩ rfl rfl rfl rfl rfl (Nat.le_of_ble_eq_true rfl) d_d_build_67 (fun r67 z67 hp67 => ?_)
            have hr67 : r67 = 0 ∨ r67 = 1 := hp67.elim (fun q => Or.inl q.1) (fun q => Or.inr q.1)
            refine tw_if_eq C d_d_build_70 (by omega) (fun u70 => ?_) (fun u70 => ?_)
            · refine tw_iconst C d_d_build_84 ?_
              exact hR _ _ _ _ _ d_d_build_85 rfl (Or.inl ⟨rfl, by rcases hp67 with q | q; exact ⟨(bld0_fr S0 n).tr (hq.1.tr q.2.1), q.2.2⟩; exact absurd (u70.symm.trans q.1) (by decide)⟩)
            · refine tw_aload0 C d_d_build_73 ?_
              obtain ⟨m0, hg, hcl, hj⟩ : ∃ m, GI n z58 z67 m ∧ cl n z67 = 1 ∧ ∀ j, 2 ≤ j → j < n → z67 5 j = z67 5 1 := by rcases hp67 with q | q; exact absurd q.1 u70; exact q.2
              refine tw_calli C (td_ok q kz) (c_d_closeAtZero (S0 := bld0 S0 n) (S1 := z58) (S2 := z67) (m0 := m0) (n := n) hnb hBb hq hg hcl hj) cs_d_d_closeAtZero ⟨⟨rfl, rfl⟩, by decide, by decide⟩ rfl rfl rfl rfl rfl (Nat.le_of_ble_eq_true rfl) d_d_build_74 (fun r74 z74 hp74 => ?_)
              have hr74 : r74 = 0 ∨ r74 = 1 := hp74.elim (fun q => Or.inl q.1) (fun q => Or.inr q.1)
              refine tw_if_eq C d_d_build_77 (by omega) (fun u77 => ?_) (fun u77 => ?_)
              · refine tw_iconst C d_d_build_84 ?_
                exact hR _ _ _ _ _ d_d_build_85 rfl (Or.inl ⟨rfl, by rcases hp74 with q | q; exact ⟨(bld0_fr S0 n).tr (hq.1.tr (hg.1.tr q.2.1)), q.2.2⟩; exact absurd (u77.symm.trans q.1) (by decide)⟩)
              · refine tw_iconst C d_d_build_80 ?_
                refine tw_goto C d_d_build_81 ?_
                exact hR _ _ _ _ _ d_d_build_85 rfl (Or.inr ⟨rfl, by rcases hp74 with q | q; exact absurd q.1 u77; exact ⟨(bld0_fr S0 n).tr (hq.1.tr (hg.1.tr q.2.1)), q.2.2⟩⟩)
          · refine tw_iconst C d_d_build_64 ?_
            exact hR _ _ _ _ _ d_d_build_65 rfl (Or.inl ⟨rfl, by rcases hp58 with q | q; exact ⟨(bld0_fr S0 n).tr q.2.1, q.2.2⟩; exact absurd (u61.symm.trans q.1) (by decide)⟩)
        · refine tw_aload0 C d_d_build_44 ?_
          refine g_d7 C d_d_build_45 ?_
          refine tw_iload1 C d_d_build_48 ?_
          refine tw_iconst C d_d_build_49 ?_
          refine as_d7 C c d_d_build_50 (by omega) (by omega) (by first | exact Or.inl rfl | exact Or.inr rfl) ?_
          refine tw_iinc1 C d_d_build_51 ?_
          refine tw_goto C d_d_build_54 ?_
          exact tw_S (clS_put (bdS (up S0 8 0 0) n) c).symm (ih38 (c + 1) (by omega) (by omega))
    · refine tw_aload0 C d_d_build_15 ?_
      refine g_d5 C d_d_build_16 ?_
      refine tw_iload1 C d_d_build_19 ?_
      refine tw_iload1 C d_d_build_20 ?_
      refine tw_i2b C d_d_build_21 (by omega) ?_
      refine as_d5 C c d_d_build_22 (by omega) (by omega) (by omega) ?_
      refine tw_aload0 C d_d_build_23 ?_
      refine g_d6 C d_d_build_24 ?_
      refine tw_iload1 C d_d_build_27 ?_
      refine tw_iconst C d_d_build_28 ?_
      refine as_d6 C c d_d_build_29 (by omega) (by omega) (by omega) ?_
      refine tw_iinc1 C d_d_build_30 ?_
      refine tw_goto C d_d_build_33 ?_
      exact tw_S (bdS_put (up S0 8 0 0) c).symm (ih7 (c + 1) (by omega) (by omega))
end
section
/-! examine, backUp -/
def pzS (S : TS) (c : Nat) : TS := fun f j => if f = 4 ∧ j < c then 0 else S f j
theorem pzS_0 (S : TS) : pzS S 0 = S := by funext f j; simp [pzS]
theorem pzS_put (S : TS) (c : Nat) : pzS S (c + 1) = up (pzS S c) 4 c 0 := by
  funext f j
  unfold pzS up
  by_cases hf : f = 4
  · subst hf
    by_cases hj : j = c
    · subst hj; simp
    · have e : (j < c + 1) = (j < c) := by apply propext; omega
      simp [hj, e]
  · simp [hf]
theorem pzS_fr (S : TS) (n : Nat) : exF S (pzS S n) := by
  intro f h4 h5 h6 h7 h8 h11
  funext j
  simp [pzS, h4]
theorem bnS_f (S : TS) (n : Nat) (x : Int) {f : Nat} (h : f ≠ 4) : bnS S n x f = S f := by
  funext j; simp [bnS, h]
set_option maxRecDepth 20000 in
theorem c_d_examine {q : Nat → Nat} {kz : ClassId × ClassId × ClassId} {S0 : TS} {n : Nat} (hn : S0 0 0 = (n : Int)) (hE : EC n S0) (h11r : -1000000 ≤ S0 11 0 ∧ S0 11 0 ≤ 1000000) : ∀ l : Launch, MI l y_d_examine b_d_examine 4 .int ({ frames := 5, cells := 0, slots := 0, locals := 111 }) (td_ws q kz) (ty_k kz) [.ref (q 0)] S0 (fun r S' => exP n S0 r S') := by
  refine mi_of (td_ok q kz) (by decide) (Nat.le_of_ble_eq_true rfl) (by simp [Value.category]) (Nat.le_of_ble_eq_true rfl) ?_
  intro X C hR
  show TW X (td_ws q kz) S0 0 [some (.ref (q 0)), none, none, none] []
  refine tw_iconst C d_d_examine_0 ?_
  refine tw_istore1 C d_d_examine_1 ?_
  have h7 := hE.1
  have h3n := hE.2.1
  suffices hl2 : ∀ (f2 : Nat) (c : Nat), n < c + f2 → c ≤ n → TW X (td_ws q kz) (pzS S0 c) 2 [some (.ref (q 0)), some (.int (iI c)), none, none] [] from tw_S (pzS_0 S0).symm (hl2 (n + 1) 0 (by omega) (by omega))
  intro f2
  induction f2 with
  | zero => intro c h1 h2; exfalso; omega
  | succ f2 ih2 =>
    intro c h1 h2
    refine tw_iload1 C d_d_examine_2 ?_
    refine tw_aload0 C d_d_examine_3 ?_
    refine g_d0 C d_d_examine_4 (show _ = (n : Int) from hn) ?_
    refine tw_icmp_ge C d_d_examine_7 (by omega) (by omega) (fun u7 => ?_) (fun u7 => ?_)
    · refine tw_bipush C d_d_examine_23 rfl ?_
      refine tw_istore1 C d_d_examine_25 ?_
      refine tw_iconst C d_d_examine_26 ?_
      refine tw_istore2 C d_d_examine_27 ?_
      rw [show c = n by omega]
      suffices hl28 : ∀ (f28 : Nat) (r : Nat) (x : Int) (S : TS), 24 < r + f28 → r ≤ 24 → (1 ≤ x ∧ x ≤ 32) → exF S0 S → S 11 0 = S0 11 0 → (∀ j, j < n → -(160 * (r : Int)) ≤ S 4 j ∧ S 4 j ≤ 160 * (r : Int)) → (r = 24 → GOOD n S ∧ ∃ j, j < n ∧ S 6 j ≠ 2) → TW X (td_ws q kz) (S) 28 [some (.ref (q 0)), some (.int (iI x)), some (.int (iI r)), none] [] from hl28 25 0 32 (pzS S0 n) (by omega) (by omega) (by decide) (pzS_fr S0 n) rfl (fun j hj => by simp [pzS, hj]) (fun h => absurd h (by decide))
      intro f28
      induction f28 with
      | zero => intro r x S g1 g2 hx hF h11 hp hg24; exfalso; omega
      | succ f28 ih28 =>
        intro r x S g1 g2 hx hF h11 hp hg24
        have hBS : BC n S := hE.bc hF (fun j hj => by have := hp j hj; omega)
        have hnS : S 0 0 = (n : Int) := by rw [hF 0 (by decide) (by decide) (by decide) (by decide) (by decide) (by decide)]; exact hn
        refine tw_iload2 C d_d_examine_28 ?_
        refine tw_bipush C d_d_examine_29 rfl ?_
        refine tw_icmp_ge C d_d_examine_31 (by omega) (by omega) (fun u31 => ?_) (fun u31 => ?_)
        · refine tw_aload0 C d_d_examine_109 ?_
          refine tw_calli C (td_ok q kz) (c_d_linkToBranch (S := S) (n := n) hnS h7 (fun j hj => by have := (hg24 (by omega)).1.1 j hj; omega) (fun a b ha hb => by have := (hg24 (by omega)).1.2.1 a b ha hb; omega) (fun j => by have := hBS.2.2.2.2.1 j; omega)) cs_d_d_linkToBranch ⟨⟨rfl, rfl⟩, by decide, by decide⟩ rfl rfl rfl rfl rfl (Nat.le_of_ble_eq_true rfl) d_d_examine_110 (fun r110 z110 hp110 => ?_)
          obtain ⟨hz, hp110⟩ := hp110
          replace hz := hz.symm
          subst hz
          obtain ⟨hG, hne⟩ := hg24 (by omega)
          have e3 : S 3 = S0 3 := hF 3 (by decide) (by decide) (by decide) (by decide) (by decide) (by decide)
          rcases hp110 with ⟨-, hno⟩ | ⟨a, b, ha, hb, hr, hl⟩
          · obtain ⟨a, b, ha, hb, hl⟩ := hG.2.2.2.2.2.2 hne
            exact absurd hl (hno a b ha hb)
          · refine hR _ _ _ _ _ d_d_examine_113 rfl ⟨hF, Or.inr ⟨h11, a, b, ha, hb, fun e => ?_, by omega, by rw [← e3]; exact hl.2.2⟩⟩
            subst e
            exact hl.2.1 (hG.2.2.2.1 a ha)
        · refine tw_aload0 C d_d_examine_34 ?_
          refine tw_calli C (td_ok q kz) (c_d_build (S0 := S) (n := n) hnS hBS) cs_d_d_build ⟨⟨rfl, rfl⟩, by decide, by decide⟩ rfl rfl rfl rfl rfl (Nat.le_of_ble_eq_true rfl) d_d_examine_35 (fun r35 z35 hp35 => ?_)
          have hr35 : r35 = 0 ∨ r35 = 1 := hp35.elim (fun q => Or.inl q.1) (fun q => Or.inr q.1)
          refine tw_if_ne C d_d_examine_38 (by omega) (fun u38 => ?_) (fun u38 => ?_)
          · obtain ⟨hfr, hG⟩ : frF S z35 ∧ GOOD n z35 := by rcases hp35 with q | q; exact absurd q.1 u38; exact q.2
            have hFz : exF S0 z35 := hF.fr hfr
            have hnz : z35 0 0 = (n : Int) := by rw [hfr.e0]; exact hnS
            have h11z : z35 11 0 = S0 11 0 := by rw [hfr 11 (by decide) (by decide) (by decide) (by decide)]; exact h11
            have e4 : z35 4 = S 4 := hfr 4 (by decide) (by decide) (by decide) (by decide)
            have hsm := sm_bnd (f := z35 4) (B := 3840) (n := n) (fun j hj => by rw [e4]; have := hp j hj; omega)
            have hG3 := hG.2.2.1
            refine tw_aload0 C d_d_examine_43 ?_
            refine g_d8 C d_d_examine_44 (show _ = z35 8 0 from rfl) ?_
            refine tw_aload0 C d_d_examine_47 ?_
            refine tw_calli C (td_ok q kz) (c_d_twicePenalties (S := z35) (n := n) hnz h7) cs_d_d_twicePenalties ⟨⟨rfl, rfl⟩, by decide, by decide⟩ rfl rfl rfl rfl rfl (Nat.le_of_ble_eq_true rfl) d_d_examine_48 (fun r48 z48 hp48 => ?_)
            obtain ⟨rfl, hz⟩ := hp48
            replace hz := hz.symm
            subst hz
            refine tw_isub C d_d_examine_51 ?_
            refine tw_istore3 C d_d_examine_52 ?_
            refine tw_iload3 C d_d_examine_53 ?_
            refine tw_aload0 C d_d_examine_54 ?_
            refine g_d11 C d_d_examine_55 (show _ = z35 11 0 from rfl) ?_
            refine tw_icmp_lt C d_d_examine_58 (by omega) (by omega) (fun u58 => ?_) (fun u58 => ?_)
            · refine tw_aload0 C d_d_examine_63 ?_
              refine tw_calli C (td_ok q kz) (c_d_isTour (S := z35) (n := n) hnz h7 (fun j hj => by have := hG.1 j hj; omega)) cs_d_d_isTour ⟨⟨rfl, rfl⟩, by decide, by decide⟩ rfl rfl rfl rfl rfl (Nat.le_of_ble_eq_true rfl) d_d_examine_64 (fun r64 z64 hp64 => ?_)
              obtain ⟨hz, hp64⟩ := hp64
              replace hz := hz.symm
              subst hz
              have hr64 : r64 = 0 ∨ r64 = 1 := hp64.elim (fun q => Or.inr q.1) (fun q => Or.inl q.1)
              refine tw_if_eq C d_d_examine_67 (by omega) (fun u67 => ?_) (fun u67 => ?_)
              · have htr : ∃ j, j < n ∧ z35 6 j ≠ 2 := by rcases hp64 with q | q; exact absurd (u67.symm.trans q.1) (by decide); exact q.2
                refine tw_iload2 C d_d_examine_77 ?_
                refine tw_bipush C d_d_examine_78 rfl ?_
                refine tw_icmp_ge C d_d_examine_80 (by omega) (by omega) (fun u80 => ?_) (fun u80 => ?_)
                · refine tw_iinc2 C d_d_examine_103 ?_
                  refine tw_goto C d_d_examine_106 ?_
                  exact tw_drop 3 (ih28 (r + 1) x z35 (by omega) (by omega) hx hFz h11z (fun j hj => by rw [e4]; have := hp j hj; omega) (fun _ => ⟨hG, htr⟩))
                · refine tw_aload0 C d_d_examine_83 ?_
                  refine tw_iload1 C d_d_examine_84 ?_
                  refine tw_callv C (td_ok q kz) (c_d_bend (S := z35) (n := n) (x := x) hnz h7) cs_d_d_bend ⟨⟨rfl, rfl⟩, by decide, by decide⟩ rfl rfl rfl rfl rfl (Nat.le_of_ble_eq_true rfl) d_d_examine_85 (fun z85 hp85 => ?_)
                  subst hp85
                  have hFb : exF S0 (bnS z35 n x) := fun f h4 h5 h6 h7 h8 h9 => by rw [bnS_f _ _ _ h4]; exact hFz f h4 h5 h6 h7 h8 h9
                  have hpb : ∀ j, j < n → -(160 * ((r + 1 : Nat) : Int)) ≤ bnS z35 n x 4 j ∧ bnS z35 n x 4 j ≤ 160 * ((r + 1 : Nat) : Int) := fun j hj => by
                    have e : bnS z35 n x 4 j = z35 4 j + x * (z35 6 j - 2) := by simp [bnS, hj]
                    have a := hG.1 j hj
                    have b := bnd_xd hx (d := z35 6 j - 2) (by omega)
                    have c := hp j hj
                    rw [e, e4]
                    omega
                  refine tw_iload1 C d_d_examine_88 ?_
                  refine tw_iconst C d_d_examine_89 ?_
                  refine tw_icmp_le C d_d_examine_90 (by omega) (by omega) (fun u90 => ?_) (fun u90 => ?_)
                  · refine tw_iconst C d_d_examine_101 ?_
                    refine tw_istore1 C d_d_examine_102 ?_
                    refine tw_iinc2 C d_d_examine_103 ?_
                    refine tw_goto C d_d_examine_106 ?_
                    exact tw_drop 3 (ih28 (r + 1) _ _ (by omega) (by omega) (by omega) hFb h11z hpb (fun e => by omega))
                  · refine tw_iload1 C d_d_examine_93 ?_
                    refine tw_iload1 C d_d_examine_94 ?_
                    refine tw_iconst C d_d_examine_95 ?_
                    refine tw_ishr C d_d_examine_96 (sh2i hx) ?_
                    refine tw_isub C d_d_examine_97 ?_
                    refine tw_goto C d_d_examine_98 ?_
                    refine tw_istore1 C d_d_examine_102 ?_
                    refine tw_iinc2 C d_d_examine_103 ?_
                    refine tw_goto C d_d_examine_106 ?_
                    exact tw_drop 3 (ih28 (r + 1) _ _ (by omega) (by omega) (by omega) hFb h11z hpb (fun e => by omega))
              · refine tw_aload0 C d_d_examine_70 ?_
                refine tw_iload3 C d_d_examine_71 ?_
                refine pt_d11 C d_d_examine_72 ?_
                refine tw_iconst C d_d_examine_75 ?_
                exact hR _ _ _ _ _ d_d_examine_76 rfl (exP_tour h3n hFz h11z hG u58 (by rcases hp64 with q | q; exact q.2; exact absurd q.1 u67))
            · refine tw_iconst C d_d_examine_61 ?_
              exact hR _ _ _ _ _ d_d_examine_62 rfl (exP_bound h3n hFz h11z hG u58)
          · refine tw_iconst C d_d_examine_41 ?_
            exact hR _ _ _ _ _ d_d_examine_42 rfl (exP_none (hF.fr (hp35.elim (fun q => q.2.1) (fun q => q.2.1))) (by have := hp35.elim (fun q => q.2.1) (fun q => q.2.1); rw [this 11 (by decide) (by decide) (by decide) (by decide)]; exact h11) (by rcases hp35 with q | q; have e3 : z35 3 = S 3 := q.2.1.e3; rw [e3]; exact q.2.2; exact absurd (u38.symm.trans q.1) (by decide)))
    · refine tw_aload0 C d_d_examine_10 ?_
      refine g_d4 C d_d_examine_11 ?_
      refine tw_iload1 C d_d_examine_14 ?_
      refine tw_iconst C d_d_examine_15 ?_
      refine as_d4 C c d_d_examine_16 (by omega) (by omega) ?_
      refine tw_iinc1 C d_d_examine_17 ?_
      refine tw_goto C d_d_examine_20 ?_
      exact tw_S (pzS_put S0 c).symm (ih2 (c + 1) (by omega) (by omega))
set_option maxRecDepth 20000 in
theorem c_d_backUp {q : Nat → Nat} {kz : ClassId × ClassId × ClassId} {S : TS} {n L : Nat} {R0 : Nat → Int} (h7 : n ≤ 7) (hb : brk n R0 (S 9) (S 10) L) (h3 : S 3 = ov R0 (S 9) (S 10) L) : ∀ l : Launch, MI l y_d_backUp b_d_backUp 3 .int ({ frames := 1, cells := 0, slots := 0, locals := 23 }) (td_ws q kz) (ty_k kz) [.ref (q 0), .int (iI L)] S (fun r S' => (r = -1 ∧ (∀ i, i < L → S 10 i ≠ 0) ∧ S' = ovS S R0 0) ∨ ∃ t : Nat, t < L ∧ r = (t : Int) + 1 ∧ S 10 t = 0 ∧ (∀ i, t < i → i < L → S 10 i ≠ 0) ∧ S' = buS S R0 t) := by
  refine mi_of (td_ok q kz) (by decide) (Nat.le_of_ble_eq_true rfl) (by simp [Value.category]) (Nat.le_of_ble_eq_true rfl) ?_
  intro X C hR
  show TW X (td_ws q kz) S 0 [some (.ref (q 0)), some (.int (iI L)), none] []
  refine tw_iload1 C d_d_backUp_0 ?_
  refine tw_iconst C d_d_backUp_1 ?_
  refine tw_isub C d_d_backUp_2 ?_
  refine tw_istore2 C d_d_backUp_3 ?_
  have hL := hb.le h7
  suffices hl4 : ∀ (f4 : Nat) (t : Nat), t < f4 → t ≤ L → (∀ i, t ≤ i → i < L → S 10 i ≠ 0) → TW X (td_ws q kz) (ovS S R0 t) 4 [some (.ref (q 0)), some (.int (iI L)), some (.int (iI ((t : Int) - 1)))] [] from tw_S (ovS_self h3) (hl4 (L + 1) L (by omega) (by omega) (fun i a b => by omega))
  intro f4
  induction f4 with
  | zero => intro t h1 h2 hI; exfalso; omega
  | succ f4 ih4 =>
    intro t h1 h2 hI
    refine tw_iload2 C d_d_backUp_4 ?_
    refine tw_if_lt C d_d_backUp_5 (by omega) (fun u5 => ?_) (fun u5 => ?_)
    · refine tw_iload2 C d_d_backUp_46 ?_
      refine tw_if_ge C d_d_backUp_47 (by omega) (fun u47 => ?_) (fun u47 => ?_)
      · exfalso; omega
      · refine tw_iconst C d_d_backUp_50 ?_
        exact hR _ _ _ _ _ d_d_backUp_51 rfl (Or.inl ⟨rfl, fun i hi => hI i (by omega) hi, by rw [show t = 0 by omega]⟩)
    · obtain ⟨t, rfl⟩ : ∃ t1, t = t1 + 1 := ⟨t - 1, by omega⟩
      have hbt := hb t (by omega)
      have hlf := hbt.1.facts h7
      refine tw_aload0 C d_d_backUp_8 ?_
      refine g_d10 C d_d_backUp_9 ?_
      refine tw_iload2 C d_d_backUp_12 ?_
      refine al_d10 C t d_d_backUp_13 (by omega) (by omega) (show _ = S 10 t from rfl) ?_
      refine tw_if_eq C d_d_backUp_14 (by omega) (fun u14 => ?_) (fun u14 => ?_)
      · refine tw_iload2 C d_d_backUp_46 ?_
        refine tw_if_ge C d_d_backUp_47 (by omega) (fun u47 => ?_) (fun u47 => ?_)
        · refine tw_aload0 C d_d_backUp_52 ?_
          refine g_d10 C d_d_backUp_53 ?_
          refine tw_iload2 C d_d_backUp_56 ?_
          refine tw_iconst C d_d_backUp_57 ?_
          refine as_d10 C t d_d_backUp_58 (by omega) (by omega) (by first | exact Or.inl rfl | exact Or.inr rfl) ?_
          refine tw_aload0 C d_d_backUp_59 ?_
          refine tw_aload0 C d_d_backUp_60 ?_
          refine g_d9 C d_d_backUp_61 ?_
          refine tw_iload2 C d_d_backUp_64 ?_
          refine al_d9 C t d_d_backUp_65 (by omega) (by omega) (show _ = S 9 t from rfl) ?_
          refine tw_bipush C d_d_backUp_66 rfl ?_
          refine tw_idiv C ((S 9 t).toNat) 7 d_d_backUp_68 (by omega) (by omega) (by omega) (by omega) (by omega) ?_
          refine tw_aload0 C d_d_backUp_69 ?_
          refine g_d9 C d_d_backUp_70 ?_
          refine tw_iload2 C d_d_backUp_73 ?_
          refine al_d9 C t d_d_backUp_74 (by omega) (by omega) (show _ = S 9 t from rfl) ?_
          refine tw_bipush C d_d_backUp_75 rfl ?_
          refine tw_irem C ((S 9 t).toNat) 7 d_d_backUp_77 (by omega) (by omega) (by omega) (by omega) (by omega) ?_
          refine tw_iconst C d_d_backUp_78 ?_
          refine tw_callv C (td_ok q kz) (c_d_decide (S := up (ovS S R0 (t + 1)) 10 t 1) (a := (S 9 t).toNat / 7) (b := (S 9 t).toNat % 7) (v := 1) (by omega) (by omega) (by decide)) cs_d_d_decide ⟨⟨rfl, rfl⟩, by decide, by decide⟩ rfl rfl rfl rfl rfl (Nat.le_of_ble_eq_true rfl) d_d_backUp_79 (fun z79 hp79 => ?_)
          subst hp79
          refine tw_iload2 C d_d_backUp_82 ?_
          refine tw_iconst C d_d_backUp_83 ?_
          refine tw_iadd C d_d_backUp_84 ?_
          exact hR _ _ _ _ _ d_d_backUp_85 rfl (Or.inr ⟨t, by omega, by omega, u14, fun i a b => hI i (by omega) b, bu_turn⟩)
        · refine tw_iconst C d_d_backUp_50 ?_
          exact hR _ _ _ _ _ d_d_backUp_51 rfl (by exfalso; omega)
      · refine tw_aload0 C d_d_backUp_17 ?_
        refine tw_aload0 C d_d_backUp_18 ?_
        refine g_d9 C d_d_backUp_19 ?_
        refine tw_iload2 C d_d_backUp_22 ?_
        refine al_d9 C t d_d_backUp_23 (by omega) (by omega) (show _ = S 9 t from rfl) ?_
        refine tw_bipush C d_d_backUp_24 rfl ?_
        refine tw_idiv C ((S 9 t).toNat) 7 d_d_backUp_26 (by omega) (by omega) (by omega) (by omega) (by omega) ?_
        refine tw_aload0 C d_d_backUp_27 ?_
        refine g_d9 C d_d_backUp_28 ?_
        refine tw_iload2 C d_d_backUp_31 ?_
        refine al_d9 C t d_d_backUp_32 (by omega) (by omega) (show _ = S 9 t from rfl) ?_
        refine tw_bipush C d_d_backUp_33 rfl ?_
        refine tw_irem C ((S 9 t).toNat) 7 d_d_backUp_35 (by omega) (by omega) (by omega) (by omega) (by omega) ?_
        refine tw_iconst C d_d_backUp_36 ?_
        refine tw_callv C (td_ok q kz) (c_d_decide (S := ovS S R0 (t + 1)) (a := (S 9 t).toNat / 7) (b := (S 9 t).toNat % 7) (v := 0) (by omega) (by omega) (by decide)) cs_d_d_decide ⟨⟨rfl, rfl⟩, by decide, by decide⟩ rfl rfl rfl rfl rfl (Nat.le_of_ble_eq_true rfl) d_d_backUp_37 (fun z37 hp37 => ?_)
        subst hp37
        refine tw_iinc2 C d_d_backUp_40 ?_
        refine tw_goto C d_d_backUp_43 ?_
        exact tw_S (bu_free hb (by omega)) (tw_L (by rw [show (((t + 1 : Nat) : Int) - 1 + (-1)) = (t : Int) - 1 by omega]) (ih4 t (by omega) (by omega) (fun i a b => by by_cases e : i = t; exact e ▸ u14; exact hI i (by omega) b)))
end
section
/-! solve -/
def slI (n : Nat) (S0 S : TS) (lev dn : Int) (rnd : Nat) : Prop := (lev = -1 ∧ dn = 0 ∧ slD n S0 S) ∨ ∃ L : Nat, lev = (L : Int) ∧ dn = 1 ∧ slA n S0 S L rnd
theorem slI.rng {n : Nat} {S0 S : TS} {lev dn : Int} {rnd : Nat} (h7 : n ≤ 7) (h : slI n S0 S lev dn rnd) : -1 ≤ lev ∧ lev ≤ 21 := by
  rcases h with ⟨rfl, -⟩ | ⟨L, rfl, -, h⟩
  · decide
  · have := h.round h7; omega
theorem slI.lst {n : Nat} {S0 S : TS} {lev dn : Int} {rnd : Nat} (h : slI n S0 S lev dn rnd) : lst n S0 S := by
  rcases h with ⟨-, -, h⟩ | ⟨L, -, -, h⟩
  · exact h.2.2.1
  · exact h.2.2.2.1
set_option maxRecDepth 20000 in
theorem c_d_solve {q : Nat → Nat} {kz : ClassId × ClassId × ClassId} {S0 : TS} {n : Nat} (hn : S0 0 0 = (n : Int)) (hE : EC n S0) : ∀ l : Launch, MI l y_d_solve b_d_solve 5 .int ({ frames := 6, cells := 0, slots := 0, locals := 134 }) (td_ws q kz) (ty_k kz) [.ref (q 0)] S0 (fun r S' => soP n S0 r S') := by
  refine mi_of (td_ok q kz) (by decide) (Nat.le_of_ble_eq_true rfl) (by simp [Value.category]) (Nat.le_of_ble_eq_true rfl) ?_
  intro X C hR
  show TW X (td_ws q kz) S0 0 [some (.ref (q 0)), none, none, none, none] []
  refine tw_aload0 C d_d_solve_0 ?_
  refine tw_ldc (v := 1000000) C d_d_solve_1 (by decide +kernel) ?_
  refine pt_d11 C d_d_solve_3 ?_
  refine tw_iconst C d_d_solve_6 ?_
  refine tw_istore1 C d_d_solve_7 ?_
  refine tw_iconst C d_d_solve_8 ?_
  refine tw_istore2 C d_d_solve_9 ?_
  refine tw_iconst C d_d_solve_10 ?_
  refine tw_istore3 C d_d_solve_11 ?_
  have h7 := hE.1
  suffices hl12 : ∀ (f12 : Nat) (rnd : Nat) (lev dn : Int) (S : TS), 4194304 < rnd + f12 → rnd ≤ 4194304 → slI n S0 S lev dn rnd → TW X (td_ws q kz) (S) 12 [some (.ref (q 0)), some (.int (iI lev)), some (.int (iI dn)), some (.int (iI rnd)), none] [] from hl12 4194305 0 0 1 _ (by omega) (by omega) (Or.inr ⟨0, rfl, rfl, slA_start n S0⟩)
  intro f12
  induction f12 with
  | zero => intro rnd lev dn S h1 h2 hI; exfalso; omega
  | succ f12 ih12 =>
    intro rnd lev dn S h1 h2 hI
    have hlr := hI.rng h7
    have hl1 := hI.lst.rng
    refine tw_iload3 C d_d_solve_12 ?_
    refine tw_ldc (v := 4194304) C d_d_solve_13 (by decide +kernel) ?_
    refine tw_icmp_ge C d_d_solve_15 (by omega) (by omega) (fun u15 => ?_) (fun u15 => ?_)
    · have hD : slD n S0 S := by rcases hI with ⟨-, -, q⟩ | ⟨L, q1, -, q⟩; exact q; exfalso; have := q.round h7; omega
      refine tw_aload0 C d_d_solve_100 ?_
      refine g_d11 C d_d_solve_101 rfl ?_
      refine tw_ldc (v := 1000000) C d_d_solve_104 (by decide +kernel) ?_
      refine tw_icmp_ne C d_d_solve_106 (by omega) (by omega) (fun u106 => ?_) (fun u106 => ?_)
      · refine tw_aload0 C d_d_solve_113 ?_
        refine g_d11 C d_d_solve_114 rfl ?_
        exact hR _ _ _ _ _ d_d_solve_117 rfl (slD_some hD u106)
      · refine tw_iconst C d_d_solve_109 ?_
        refine tw_goto C d_d_solve_110 ?_
        exact hR _ _ _ _ _ d_d_solve_117 rfl (slD_huge hE hD u106)
    · refine tw_iload1 C d_d_solve_18 ?_
      refine tw_if_lt C d_d_solve_19 (by omega) (fun u19 => ?_) (fun u19 => ?_)
      · have hD : slD n S0 S := by rcases hI with ⟨-, -, q⟩ | ⟨L, q1, -, q⟩; exact q; exfalso; have := q.round h7; omega
        refine tw_aload0 C d_d_solve_100 ?_
        refine g_d11 C d_d_solve_101 rfl ?_
        refine tw_ldc (v := 1000000) C d_d_solve_104 (by decide +kernel) ?_
        refine tw_icmp_ne C d_d_solve_106 (by omega) (by omega) (fun u106 => ?_) (fun u106 => ?_)
        · refine tw_aload0 C d_d_solve_113 ?_
          refine g_d11 C d_d_solve_114 rfl ?_
          exact hR _ _ _ _ _ d_d_solve_117 rfl (slD_some hD u106)
        · refine tw_iconst C d_d_solve_109 ?_
          refine tw_goto C d_d_solve_110 ?_
          exact hR _ _ _ _ _ d_d_solve_117 rfl (slD_huge hE hD u106)
      · rcases hI with ⟨rfl, -, -⟩ | ⟨L, rfl, rfl, hA⟩
        · exfalso; omega
        have hrn := hA.round h7
        have hnS : S 0 0 = (n : Int) := by rw [hA.1 0 (by omega)]; exact hn
        refine tw_iload2 C d_d_solve_22 ?_
        refine tw_if_eq C d_d_solve_23 (by decide) (fun h => absurd h (by decide)) (fun _ => ?_)
        refine tw_aload0 C d_d_solve_26 ?_
        refine tw_calli C (td_ok q kz) (c_d_examine (S0 := S) (n := n) hnS (hA.ec hE) (by omega)) cs_d_d_examine ⟨⟨rfl, rfl⟩, by decide, by decide⟩ rfl rfl rfl rfl rfl (Nat.le_of_ble_eq_true rfl) d_d_solve_27 (fun r27 z27 hp27 => ?_)
        obtain ⟨hx, hp27⟩ := hp27
        have hr27 : -1 ≤ r27 ∧ r27 ≤ 48 := by rcases hp27 with q | ⟨-, x, y, q1, q2, -, q3, -⟩ <;> omega
        refine tw_goto C d_d_solve_30 ?_
        refine tw_istore4 C d_d_solve_34 ?_
        refine tw_iload4 C d_d_solve_36 ?_
        refine tw_if_lt C d_d_solve_38 (by omega) (fun u38 => ?_) (fun u38 => ?_)
        · obtain ⟨hall, hle⟩ : (∀ c, Tour n c → Fits n (S 3) c → z27 11 0 ≤ Cost n (S 1) c) ∧ (z27 11 0 = S 11 0 ∨ (z27 11 0 < S 11 0 ∧ ∃ c, Tour n c ∧ Fits n (S 3) c ∧ Cost n (S 1) c = z27 11 0)) := by rcases hp27 with q | ⟨-, x, y, -, -, -, q, -⟩; exact q.2; exfalso; omega
          have e9 : z27 9 = S 9 := hx 9 (by decide) (by decide) (by decide) (by decide) (by decide) (by decide)
          have e10 : z27 10 = S 10 := hx 10 (by decide) (by decide) (by decide) (by decide) (by decide) (by decide)
          have e3 : z27 3 = S 3 := hx 3 (by decide) (by decide) (by decide) (by decide) (by decide) (by decide)
          refine tw_aload0 C d_d_solve_78 ?_
          refine tw_iload1 C d_d_solve_79 ?_
          refine tw_calli C (td_ok q kz) (c_d_backUp (S := z27) (n := n) (L := L) (R0 := S0 3) h7 (by rw [e9, e10]; exact hA.2.1) (by rw [e3, e9, e10]; exact hA.2.2.1)) cs_d_d_backUp ⟨⟨rfl, rfl⟩, by decide, by decide⟩ rfl rfl rfl rfl rfl (Nat.le_of_ble_eq_true rfl) d_d_solve_80 (fun r80 z80 hp80 => ?_)
          rcases hp80 with ⟨rfl, q2, q3⟩ | ⟨t, q1, rfl, q2, q3, q4⟩
          · refine tw_istore1 C d_d_solve_83 ?_
            refine tw_iload1 C d_d_solve_84 ?_
            refine tw_if_lt C d_d_solve_85 (by decide) (fun _ => ?_) (fun h => absurd h (by decide))
            refine tw_iconst C d_d_solve_92 ?_
            refine tw_istore2 C d_d_solve_93 ?_
            refine tw_iinc3 C d_d_solve_94 ?_
            refine tw_goto C d_d_solve_97 ?_
            exact tw_drop 4 (ih12 (rnd + 1) (-1) 0 _ (by omega) (by omega) (Or.inl ⟨rfl, rfl, q3 ▸ slA_end hE hA hx hall hle q2⟩))
          · refine tw_istore1 C d_d_solve_83 ?_
            refine tw_iload1 C d_d_solve_84 ?_
            refine tw_if_lt C d_d_solve_85 (by omega) (fun h => by exfalso; omega) (fun _ => ?_)
            refine tw_iconst C d_d_solve_88 ?_
            refine tw_goto C d_d_solve_89 ?_
            refine tw_istore2 C d_d_solve_93 ?_
            refine tw_iinc3 C d_d_solve_94 ?_
            refine tw_goto C d_d_solve_97 ?_
            exact tw_drop 4 (ih12 (rnd + 1) _ 1 _ (by omega) (by omega) (Or.inr ⟨t + 1, rfl, rfl, q4 ▸ slA_turn hE hA hx hall hle q1 q2 q3⟩))
        · obtain ⟨h11, x, y, hx1, hy1, hxy, hr, h0⟩ : z27 11 0 = S 11 0 ∧ ∃ x y, x < n ∧ y < n ∧ x ≠ y ∧ r27 = ((x * 7 + y : Nat) : Int) ∧ S 3 (x * 7 + y) = 0 := by rcases hp27 with q | q; exfalso; omega; exact q
          subst hr
          have hL1 := (slA_down hE hA hx h11 hx1 hy1 hxy h0).round h7
          refine tw_aload0 C d_d_solve_41 ?_
          refine g_d9 C d_d_solve_42 ?_
          refine tw_iload1 C d_d_solve_45 ?_
          refine tw_iload4 C d_d_solve_46 ?_
          refine tw_i2b C d_d_solve_48 (by omega) ?_
          refine as_d9 C L d_d_solve_49 (by omega) (by omega) (by omega) ?_
          refine tw_aload0 C d_d_solve_50 ?_
          refine g_d10 C d_d_solve_51 ?_
          refine tw_iload1 C d_d_solve_54 ?_
          refine tw_iconst C d_d_solve_55 ?_
          refine as_d10 C L d_d_solve_56 (by omega) (by omega) (by first | exact Or.inl rfl | exact Or.inr rfl) ?_
          refine tw_aload0 C d_d_solve_57 ?_
          refine tw_iload4 C d_d_solve_58 ?_
          refine tw_bipush C d_d_solve_60 rfl ?_
          refine tw_idiv C (x * 7 + y) 7 d_d_solve_62 (by omega) (by omega) (by omega) (by omega) (by omega) ?_
          refine tw_iload4 C d_d_solve_63 ?_
          refine tw_bipush C d_d_solve_65 rfl ?_
          refine tw_irem C (x * 7 + y) 7 d_d_solve_67 (by omega) (by omega) (by omega) (by omega) (by omega) ?_
          refine tw_iconst C d_d_solve_68 ?_
          refine tw_callv C (td_ok q kz) (c_d_decide (a := (x * 7 + y) / 7) (b := (x * 7 + y) % 7) (v := 2) (by omega) (by omega) (by decide)) cs_d_d_decide ⟨⟨rfl, rfl⟩, by decide, by decide⟩ rfl rfl rfl rfl rfl (Nat.le_of_ble_eq_true rfl) d_d_solve_69 (fun z69 hp69 => ?_)
          subst hp69
          refine tw_iinc1 C d_d_solve_72 ?_
          refine tw_goto C d_d_solve_75 ?_
          refine tw_iinc3 C d_d_solve_94 ?_
          refine tw_goto C d_d_solve_97 ?_
          exact tw_drop 4 (ih12 (rnd + 1) _ 1 _ (by omega) (by omega) (Or.inr ⟨L + 1, rfl, rfl, slA_down hE hA hx h11 hx1 hy1 hxy h0⟩))
end
section
/-! nextCity -/
set_option maxRecDepth 20000 in
theorem c_d_nextCity {q : Nat → Nat} {kz : ClassId × ClassId × ClassId} {S : TS} {n x sn : Nat} (hn : S 0 0 = (n : Int)) (hE : EC n S) (hx : x < n) (hsn : sn < 128) (hbx : bitN sn x ≠ 0) (h13 : -1 ≤ S 13 0 ∧ S 13 0 ≤ 693) : ∀ l : Launch, MI l y_d_nextCity b_d_nextCity 6 .int ({ frames := 7, cells := 0, slots := 0, locals := 158 }) (td_ws q kz) (ty_k kz) [.ref (q 0), .int (iI x), .int (iI sn)] S (fun r S' => ncF S S' ∧ nxP n S sn x r) := by
  refine mi_of (td_ok q kz) (by decide) (Nat.le_of_ble_eq_true rfl) (by simp [Value.category]) (Nat.le_of_ble_eq_true rfl) ?_
  intro X C hR
  show TW X (td_ws q kz) S 0 [some (.ref (q 0)), some (.int (iI x)), some (.int (iI sn)), none, none, none] []
  refine tw_iconst C d_d_nextCity_0 ?_
  refine tw_istore3 C d_d_nextCity_1 ?_
  have h7 := hE.1
  have h3n := hE.2.1
  suffices hl2 : ∀ (f2 : Nat) (b : Nat) (S1 : TS), n < b + f2 → b ≤ n → ncF S S1 → (∀ b', b' < b → ¬ tryP n S sn x b') → TW X (td_ws q kz) (S1) 2 [some (.ref (q 0)), some (.int (iI x)), some (.int (iI sn)), some (.int (iI b)), none, none] [] from hl2 (n + 1) 0 S (by omega) (by omega) (fun _ _ => rfl) (fun _ h => absurd h (Nat.not_lt_zero _))
  intro f2
  induction f2 with
  | zero => intro b S1 h1 h2 hF hI; exfalso; omega
  | succ f2 ih2 =>
    intro b S1 h1 h2 hF hI
    refine tw_iload3 C d_d_nextCity_2 ?_
    refine tw_aload0 C d_d_nextCity_3 ?_
    refine g_d0 C d_d_nextCity_4 (show _ = (n : Int) by rw [hF 0 (by omega)]; exact hn) ?_
    refine tw_icmp_ge C d_d_nextCity_7 (by omega) (by omega) (fun u7 => ?_) (fun u7 => ?_)
    · refine tw_iconst C d_d_nextCity_75 ?_
      exact hR _ _ _ _ _ d_d_nextCity_76 rfl (⟨hF, Or.inr ⟨rfl, fun b' hb' => hI b' (by omega)⟩⟩)
    · refine tw_aload0 C d_d_nextCity_10 ?_
      refine g_d3 C d_d_nextCity_11 ?_
      refine tw_iload1 C d_d_nextCity_14 ?_
      refine tw_bipush C d_d_nextCity_15 rfl ?_
      refine tw_imul C d_d_nextCity_17 ?_
      refine tw_iload3 C d_d_nextCity_18 ?_
      refine tw_iadd C d_d_nextCity_19 ?_
      refine al_d3 C (((x * 7) + b)) d_d_nextCity_20 (by omega) (by omega) (show _ = S 3 (x * 7 + b) by rw [hF 3 (by omega)]) ?_
      have r20 := hE.2.2.2.2.2 (((x * 7) + b))
      refine tw_istore4 C d_d_nextCity_21 ?_
      refine tw_iload2 C d_d_nextCity_23 ?_
      refine tw_iload3 C d_d_nextCity_24 ?_
      refine tw_ishr C d_d_nextCity_25 (sh_r sn hsn b (by omega)) ?_
      refine tw_iconst C d_d_nextCity_26 ?_
      refine tw_iand C d_d_nextCity_27 (show _ = iI ((bitN sn b : Nat) : Int) from and_1 (sn / 2 ^ b) (Nat.lt_of_le_of_lt (Nat.div_le_self _ _) hsn)) ?_
      have hbt : bitN sn b < 2 := Nat.mod_lt _ (by decide)
      refine tw_if_ne C d_d_nextCity_28 (by omega) (fun u28 => ?_) (fun u28 => ?_)
      · refine tw_iinc3 C d_d_nextCity_69 ?_
        refine tw_goto C d_d_nextCity_72 ?_
        exact tw_drop 4 (tw_drop 5 (ih2 (b + 1) S1 (by omega) (by omega) hF (lt_s hI (fun h => by have := h.1; omega))))
      · refine tw_iload4 C d_d_nextCity_31 ?_
        refine tw_iconst C d_d_nextCity_33 ?_
        refine tw_icmp_eq C d_d_nextCity_34 (by omega) (by omega) (fun u34 => ?_) (fun u34 => ?_)
        · refine tw_iinc3 C d_d_nextCity_69 ?_
          refine tw_goto C d_d_nextCity_72 ?_
          exact tw_drop 4 (tw_drop 5 (ih2 (b + 1) S1 (by omega) (by omega) hF (lt_s hI (fun h => h.2.1 u34))))
        · have hxb : x ≠ b := fun e => by subst e; omega
          have hE1 := hE.nc hF
          have e3 : S1 3 = S 3 := hF 3 (by omega)
          have e1 : S1 1 = S 1 := hF 1 (by omega)
          refine tw_aload0 C d_d_nextCity_37 ?_
          refine tw_iload1 C d_d_nextCity_38 ?_
          refine tw_iload3 C d_d_nextCity_39 ?_
          refine tw_iconst C d_d_nextCity_40 ?_
          refine tw_callv C (td_ok q kz) (c_d_decide (S := S1) (a := x) (b := b) (v := 1) (by omega) (by omega) (by decide)) cs_d_d_decide ⟨⟨rfl, rfl⟩, by decide, by decide⟩ rfl rfl rfl rfl rfl (Nat.le_of_ble_eq_true rfl) d_d_nextCity_41 (fun z41 hp41 => ?_)
          subst hp41
          refine tw_aload0 C d_d_nextCity_44 ?_
          refine tw_calli C (td_ok q kz) (c_d_solve (S0 := decS S1 x b 1) (n := n) (show S1 0 0 = (n : Int) by rw [hF 0 (by omega)]; exact hn) (hE1.dec hx (by omega) hxb (by decide))) cs_d_d_solve ⟨⟨rfl, rfl⟩, by decide, by decide⟩ rfl rfl rfl rfl rfl (Nat.le_of_ble_eq_true rfl) d_d_nextCity_45 (fun r45 z45 hp45 => ?_)
          obtain ⟨hs1, hs2⟩ := hp45
          have hop : Opt n (S 1) (dec1 (S 3) (x * 7 + b) 1) r45 := by
            rw [decS_xy S1 (by omega)] at hs2
            have hs3 : Opt n (S1 1) (dec1 (S1 3) (x * 7 + b) 1) r45 := hs2
            rw [e1, e3] at hs3
            exact hs3
          have hr45 := OptP.rng h7 hE.2.2.2.2.1 hop
          refine tw_istore5 C d_d_nextCity_48 ?_
          refine tw_aload0 C d_d_nextCity_50 ?_
          refine tw_iload1 C d_d_nextCity_51 ?_
          refine tw_iload3 C d_d_nextCity_52 ?_
          refine tw_iload4 C d_d_nextCity_53 ?_
          refine tw_callv C (td_ok q kz) (c_d_decide (S := z45) (a := x) (b := b) (v := S 3 (x * 7 + b)) (by omega) (by omega) (hE.2.2.2.2.2 _)) cs_d_d_decide ⟨⟨rfl, rfl⟩, by decide, by decide⟩ rfl rfl rfl rfl rfl (Nat.le_of_ble_eq_true rfl) d_d_nextCity_55 (fun z55 hp55 => ?_)
          subst hp55
          have hF2 : ncF S (decS z45 x b (S 3 (x * 7 + b))) := by
            have := nc_back (S := S1) h7 hx (by omega) hE1.2.2.2.1 hs1
            rw [e3] at this
            exact hF.tr this
          refine tw_iload5 C d_d_nextCity_58 ?_
          refine tw_aload0 C d_d_nextCity_60 ?_
          refine g_d13 C d_d_nextCity_61 (show _ = S 13 0 by rw [hF2 13 (by omega)]) ?_
          refine tw_icmp_ne C d_d_nextCity_64 (by omega) (by omega) (fun u64 => ?_) (fun u64 => ?_)
          · refine tw_iinc3 C d_d_nextCity_69 ?_
            refine tw_goto C d_d_nextCity_72 ?_
            exact tw_drop 4 (tw_drop 5 (ih2 (b + 1) _ (by omega) (by omega) hF2 (lt_s hI (fun h => u64 (OptP.uniq hop h.2.2)))))
          · refine tw_iload3 C d_d_nextCity_67 ?_
            exact hR _ _ _ _ _ d_d_nextCity_68 rfl (⟨hF2, Or.inl ⟨b, by omega, rfl, ⟨by omega, by omega, by rw [← u64]; exact hop⟩, hI⟩⟩)
set_option maxRecDepth 20000 in
theorem c_d_findTour {q : Nat → Nat} {kz : ClassId × ClassId × ClassId} {S : TS} {n : Nat} (hT : TDI n S) : ∀ l : Launch, MV l y_d_findTour b_d_findTour 4 ({ frames := 8, cells := 0, slots := 0, locals := 183 }) (td_ws q kz) (ty_k kz) [.ref (q 0)] S (fun S' => TDI n S' ∧ S' 1 = S 1 ∧ S' 2 = S 2 ∧ S' 12 0 = 1) := by
  refine mv_of (td_ok q kz) (by decide) (Nat.le_of_ble_eq_true rfl) (by simp [Value.category]) (Nat.le_of_ble_eq_true rfl) ?_
  intro X C hR
  show TW X (td_ws q kz) S 0 [some (.ref (q 0)), none, none, none] []
  refine tw_aload0 C d_d_findTour_0 ?_
  refine g_d12 C d_d_findTour_1 rfl ?_
  have h7 := hT.1.2.1.2
  have h3n := hT.1.2.1.1
  have hkr : S 12 0 = 0 ∨ S 12 0 = 1 := hT.2.imp id (fun q => q.1)
  refine tw_if_eq C d_d_findTour_4 (by omega) (fun u4 => ?_) (fun u4 => ?_)
  · refine tw_aload0 C d_d_findTour_8 ?_
    refine tw_iconst C d_d_findTour_9 ?_
    refine pt_d12 C d_d_findTour_10 (by first | exact Or.inl rfl | exact Or.inr rfl) ?_
    have hT1 : TD0 n (up S 12 0 1) := hT.1.keep (fun f hf => up_f _ (by omega)) (by rw [up_f _ (by decide)]; exact hT.1.2.2.2.2.2.2)
    refine tw_aload0 C d_d_findTour_13 ?_
    refine tw_callv C (td_ok q kz) (c_d_askPlainly (S := up S 12 0 1) hT.1.2.2.2.1) cs_d_d_askPlainly ⟨⟨rfl, rfl⟩, by decide, by decide⟩ rfl rfl rfl rfl rfl (Nat.le_of_ble_eq_true rfl) d_d_findTour_14 (fun z14 hp14 => ?_)
    replace hp14 : z14 = (aqS (up S 12 0 1)) := hp14
    subst hp14
    have hE : EC n (aqS (up S 12 0 1)) := aq_ec hT1
    refine tw_aload0 C d_d_findTour_17 ?_
    refine tw_aload0 C d_d_findTour_18 ?_
    refine tw_calli C (td_ok q kz) (c_d_solve (S0 := (aqS (up S 12 0 1))) (n := n) hT.1.1 hE) cs_d_d_solve ⟨⟨rfl, rfl⟩, by decide, by decide⟩ rfl rfl rfl rfl rfl (Nat.le_of_ble_eq_true rfl) d_d_findTour_19 (fun r19 z19 hp19 => ?_)
    obtain ⟨hs1, hs2⟩ := hp19
    refine pt_d13 C d_d_findTour_22 ?_
    have g1 : ∀ f, f < 3 → up z19 13 0 r19 f = S f := fun f hf => by rw [up_f _ (by omega), hs1 f (by omega)]; show cpS (up S 12 0 1) 49 f = S f; rw [cpS_f _ _ (by omega), up_f _ (by omega)]
    have g3 : up z19 13 0 r19 3 = (aqS (up S 12 0 1)) 3 := by rw [up_f _ (by decide), hs1 3 (by omega)]
    have g12 : up z19 13 0 r19 12 0 = 1 := by rw [up_f _ (by decide), hs1 12 (by omega)]; show cpS (up S 12 0 1) 49 12 0 = 1; rw [cpS_f _ _ (by decide), up_s]
    have hop : Opt n (S 1) (S 2) r19 := by
      have e1 : (aqS (up S 12 0 1)) 1 = S 1 := cpS_f _ _ (by decide)
      rw [e1] at hs2
      exact OptP.congr hs2 (fun c ht => aq_fits (S := up S 12 0 1) h7 ht)
    have hr19 := OptP.rng h7 hT.1.2.2.1 hop
    have hTc : TD0 n (up z19 13 0 r19) := hT.1.keep g1 (by rw [g3]; exact hE.2.2.2.2.2)
    refine tw_aload0 C d_d_findTour_25 ?_
    refine g_d13 C d_d_findTour_26 (up_s _ _ _ _) ?_
    refine tw_if_ge C d_d_findTour_29 (by omega) (fun u29 => ?_) (fun u29 => ?_)
    · refine tw_aload0 C d_d_findTour_33 ?_
      refine g_d14 C d_d_findTour_34 ?_
      refine tw_iconst C d_d_findTour_37 ?_
      refine tw_iconst C d_d_findTour_38 ?_
      refine as_d14 C 0 d_d_findTour_39 (by omega) (by omega) (by omega) ?_
      refine tw_iconst C d_d_findTour_40 ?_
      refine tw_istore1 C d_d_findTour_41 ?_
      have hd : ∀ f, f ≠ 14 → up (up z19 13 0 r19) 14 0 0 f = up z19 13 0 r19 f := fun f hf => up_f _ hf
      have hft : ftI n (up (up z19 13 0 r19) 14 0 0) (up (up z19 13 0 r19) 14 0 0) (fun _ => 0) 1 1 := by
        refine ft_start ⟨h7, h3n, by rw [hd 1 (by decide)]; exact hTc.2.2.2.2.1, by rw [hd 3 (by decide), g3]; exact hE.2.2.2.1, by rw [hd 1 (by decide)]; exact hTc.2.2.1, by rw [hd 3 (by decide)]; exact hTc.2.2.2.2.2.2⟩ (fun c ht => ?_) ?_ ?_ (up_s _ _ _ _)
        · rw [hd 3 (by decide), g3, hd 2 (by decide), g1 2 (by omega)]; exact aq_fits (S := up S 12 0 1) h7 ht
        · rw [hd 1 (by decide), hd 2 (by decide), hd 13 (by decide), g1 1 (by omega), g1 2 (by omega), up_s]; exact hop
        · rw [hd 13 (by decide), up_s]; exact u29
      have b1 : ∀ f, f < 3 → up (up z19 13 0 r19) 14 0 0 f = S f := fun f hf => by rw [hd f (by omega)]; exact g1 f hf
      have b12 : up (up z19 13 0 r19) 14 0 0 12 0 = 1 := by rw [hd 12 (by decide)]; exact g12
      have b13 : up (up z19 13 0 r19) 14 0 0 13 0 = r19 := by rw [hd 13 (by decide), up_s]
      generalize up (up z19 13 0 r19) 14 0 0 = Sd at hft b1 b12 b13
      refine tw_iconst C d_d_findTour_42 ?_
      refine tw_istore2 C d_d_findTour_43 ?_
      suffices hl44 : ∀ (f44 : Nat) (k sn : Nat) (t : Nat → Nat) (S1 : TS), n < k + f44 → k ≤ n → 1 ≤ k → ftI n Sd S1 t k sn → TW X (td_ws q kz) (S1) 44 [some (.ref (q 0)), some (.int (iI sn)), some (.int (iI k)), none] [] from hl44 (n + 1) 1 1 (fun _ => 0) Sd (by omega) (by omega) (by omega) hft
      intro f44
      induction f44 with
      | zero => intro k sn t S1 h1 h2 hk1 hft; exfalso; omega
      | succ f44 ih44 =>
        intro k sn t S1 h1 h2 hk1 hft
        have hnS : S1 0 0 = (n : Int) := by rw [hft.1 0 (by omega), b1 0 (by omega)]; exact hT.1.1
        have hR2 : Sy n (S1 2) := by rw [hft.1 2 (by omega), b1 2 (by omega)]; exact hT.1.2.2.2.2.2.1
        have h13 : -1 ≤ S1 13 0 ∧ S1 13 0 ≤ 693 := by rw [hft.1 13 (by omega), b13]; exact hr19
        refine tw_iload2 C d_d_findTour_44 ?_
        refine tw_aload0 C d_d_findTour_45 ?_
        refine g_d0 C d_d_findTour_46 (show _ = (n : Int) from hnS) ?_
        refine tw_icmp_ge C d_d_findTour_49 (by omega) (by omega) (fun u49 => ?_) (fun u49 => ?_)
        · exact hR _ _ _ _ d_d_findTour_100 (⟨⟨⟨hnS, ⟨h3n, h7⟩, hft.2.1.2.2.2.2.1, by rw [hft.1 2 (by omega), b1 2 (by omega)]; exact hT.1.2.2.2.1, hft.2.1.2.2.1, hR2, hft.2.1.2.2.2.2.2⟩, Or.inr ⟨by rw [hft.1 12 (by omega)]; exact b12, ft_end (by rw [show k = n by omega] at hft; exact hft)⟩⟩, by rw [hft.1 1 (by omega)]; exact b1 1 (by omega), by rw [hft.1 2 (by omega)]; exact b1 2 (by omega), by rw [hft.1 12 (by omega)]; exact b12⟩)
        · refine tw_aload0 C d_d_findTour_52 ?_
          refine tw_aload0 C d_d_findTour_53 ?_
          refine g_d14 C d_d_findTour_54 ?_
          refine tw_iload2 C d_d_findTour_57 ?_
          refine tw_iconst C d_d_findTour_58 ?_
          refine tw_isub C d_d_findTour_59 ?_
          refine al_d14 C (k - 1) d_d_findTour_60 (by omega) (by omega) (hft.2.2.1 (k - 1) (by omega)).2 ?_
          refine tw_iload1 C d_d_findTour_61 ?_
          refine tw_calli C (td_ok q kz) (c_d_nextCity (S := S1) (n := n) (x := t (k - 1)) (sn := sn) hnS hft.2.1 (hft.2.2.1 (k - 1) (by omega)).1 hft.2.2.2.2.2.1.1 (fun e => (hft.2.2.2.2.2.1.2 (t (k - 1)) (by have := (hft.2.2.1 (k - 1) (by omega)).1; omega)).mp e (k - 1) (by omega) rfl) h13) cs_d_d_nextCity ⟨⟨rfl, rfl⟩, by decide, by decide⟩ rfl rfl rfl rfl rfl (Nat.le_of_ble_eq_true rfl) d_d_findTour_62 (fun r62 z62 hp62 => ?_)
          refine tw_istore3 C d_d_findTour_65 ?_
          obtain ⟨b, hb, rfl, hne, hstep⟩ := ft_step hk1 (by omega) hR2 hft hp62.2 hp62.1
          refine tw_aload0 C d_d_findTour_66 ?_
          refine g_d14 C d_d_findTour_67 ?_
          refine tw_iload2 C d_d_findTour_70 ?_
          refine tw_iload3 C d_d_findTour_71 ?_
          refine tw_i2b C d_d_findTour_72 (by omega) ?_
          refine as_d14 C k d_d_findTour_73 (by omega) (by omega) (by omega) ?_
          refine tw_aload0 C d_d_findTour_74 ?_
          refine tw_aload0 C d_d_findTour_75 ?_
          refine g_d14 C d_d_findTour_76 ?_
          refine tw_iload2 C d_d_findTour_79 ?_
          refine tw_iconst C d_d_findTour_80 ?_
          refine tw_isub C d_d_findTour_81 ?_
          have e82 : up z62 14 k (b : Int) 14 (k - 1) = (t (k - 1) : Int) := by rw [up_k _ (by omega), hp62.1 14 (by omega)]; exact (hft.2.2.1 (k - 1) (by omega)).2
          refine al_d14 C (k - 1) d_d_findTour_82 (by omega) (by omega) e82 ?_
          refine tw_iload3 C d_d_findTour_83 ?_
          refine tw_iconst C d_d_findTour_84 ?_
          refine tw_callv C (td_ok q kz) (c_d_decide (S := up z62 14 k (b : Int)) (a := t (k - 1)) (b := b) (v := 1) (by have := (hft.2.2.1 (k - 1) (by omega)).1; omega) (by omega) (by decide)) cs_d_d_decide ⟨⟨rfl, rfl⟩, by decide, by decide⟩ rfl rfl rfl rfl rfl (Nat.le_of_ble_eq_true rfl) d_d_findTour_85 (fun z85 hp85 => ?_)
          subst hp85
          refine tw_iload1 C d_d_findTour_88 ?_
          refine tw_iconst C d_d_findTour_89 ?_
          refine tw_iload3 C d_d_findTour_90 ?_
          refine tw_ishl C d_d_findTour_91 (sh_l b (by omega)) ?_
          refine tw_ior C d_d_findTour_92 (or_b sn hft.2.2.2.2.2.1.1 b (by omega)) ?_
          refine tw_istore1 C d_d_findTour_93 ?_
          refine tw_iinc2 C d_d_findTour_94 ?_
          refine tw_goto C d_d_findTour_97 ?_
          exact tw_drop 3 (ih44 (k + 1) _ _ _ (by omega) (by omega) (by omega) hstep)
    · exact hR _ _ _ _ d_d_findTour_32 (⟨⟨hTc, Or.inr ⟨g12, by unfold KN; rw [g1 1 (by omega), g1 2 (by omega), up_s]; exact ⟨hop, fun h => by omega⟩⟩⟩, g1 1 (by omega), g1 2 (by omega), g12⟩)
  · exact hR _ _ _ _ d_d_findTour_7 (⟨hT, rfl, rfl, by omega⟩)
end
section
/-! ===== what the questions answer (one spec for the desk and the plain form) ===== -/
def lkE (n : Nat) (a b : Int) (x y : Nat) : Prop := x < n ∧ y < n ∧ x ≠ y ∧ a = (x : Int) ∧ b = (y : Int)
def lkI (n : Nat) (a b : Int) : Prop := (0 ≤ a ∧ a < n) ∧ (0 ≤ b ∧ b < n) ∧ a ≠ b
theorem lkI.e {n : Nat} {a b : Int} (h : lkI n a b) : ∃ x y, lkE n a b x y := ⟨a.toNat, b.toNat, by unfold lkI at h; unfold lkE; omega⟩
theorem lkE.i {n : Nat} {a b : Int} {x y : Nat} (h : lkE n a b x y) : lkI n a b := by unfold lkE at h; unfold lkI; omega
def st2 (M : Nat → Int) (a b : Nat) (v : Int) : Nat → Int := fun j => if j = b * 7 + a then v else if j = a * 7 + b then v else M j
theorem st2_sy {n : Nat} {M : Nat → Int} (h7 : n ≤ 7) {x y : Nat} (hx : x < n) (hy : y < n) (v : Int) (h : Sy n M) : Sy n (st2 M x y v) := by
  intro a b ha hb
  unfold st2
  by_cases z : a * 7 + b = y * 7 + x ∨ a * 7 + b = x * 7 + y
  · have e1 : (if a * 7 + b = y * 7 + x then v else if a * 7 + b = x * 7 + y then v else M (a * 7 + b)) = v := by
      rcases z with z | z
      · rw [if_pos z]
      · by_cases w : a * 7 + b = y * 7 + x
        · rw [if_pos w]
        · rw [if_neg w, if_pos z]
    have z2 : b * 7 + a = y * 7 + x ∨ b * 7 + a = x * 7 + y := by omega
    have e2 : (if b * 7 + a = y * 7 + x then v else if b * 7 + a = x * 7 + y then v else M (b * 7 + a)) = v := by
      rcases z2 with z | z
      · rw [if_pos z]
      · by_cases w : b * 7 + a = y * 7 + x
        · rw [if_pos w]
        · rw [if_neg w, if_pos z]
    rw [e1, e2]
  · rw [if_neg (by omega), if_neg (by omega), if_neg (by omega), if_neg (by omega)]
    exact h a b ha hb
theorem st2_rng {M : Nat → Int} {x y : Nat} {v u : Int} (hv : 0 ≤ v ∧ v ≤ u) (h : ∀ j, 0 ≤ M j ∧ M j ≤ u) : ∀ j, 0 ≤ st2 M x y v j ∧ st2 M x y v j ≤ u := by
  intro j
  unfold st2
  by_cases w : j = y * 7 + x
  · rw [if_pos w]; exact hv
  · rw [if_neg w]
    by_cases w2 : j = x * 7 + y
    · rw [if_pos w2]; exact hv
    · rw [if_neg w2]; exact h j
theorem up2_st2 (S : TS) (f x y : Nat) (v : Int) : up (up S f (x * 7 + y) v) f (y * 7 + x) v f = st2 (S f) x y v := by
  funext j
  rw [up_at, up_at]; rfl
/-- shift: row x by d, the first b places -/
def sh (M : Nat → Int) (x : Nat) (d : Int) : Nat → (Nat → Int) × Int
  | 0 => (M, 0)
  | b + 1 => if b ≠ x ∧ 0 ≤ (sh M x d b).1 (x * 7 + b) + d ∧ (sh M x d b).1 (x * 7 + b) + d ≤ 99 then (st2 (sh M x d b).1 x b ((sh M x d b).1 (x * 7 + b) + d), (sh M x d b).2 + 1) else sh M x d b
theorem sh_ok {n : Nat} {M : Nat → Int} (h7 : n ≤ 7) {x : Nat} (hx : x < n) (d : Int) (hM : ∀ j, 0 ≤ M j ∧ M j ≤ 99) (hs : Sy n M) : ∀ b, b ≤ n → (∀ j, 0 ≤ (sh M x d b).1 j ∧ (sh M x d b).1 j ≤ 99) ∧ Sy n (sh M x d b).1 ∧ 0 ≤ (sh M x d b).2 ∧ (sh M x d b).2 ≤ b := by
  intro b
  induction b with
  | zero => intro _; exact ⟨hM, hs, Int.le_refl _, Int.le_refl _⟩
  | succ b ih =>
    intro hb
    obtain ⟨i1, i2, i3, i4⟩ := ih (by omega)
    unfold sh
    by_cases q : b ≠ x ∧ 0 ≤ (sh M x d b).1 (x * 7 + b) + d ∧ (sh M x d b).1 (x * 7 + b) + d ≤ 99
    · rw [if_pos q]
      exact ⟨st2_rng q.2 i1, st2_sy h7 hx (by omega) _ i2, by show 0 ≤ (sh M x d b).2 + 1; omega, by show (sh M x d b).2 + 1 ≤ ((b + 1 : Nat) : Int); omega⟩
    · rw [if_neg q]
      exact ⟨i1, i2, i3, by omega⟩
def shS (S : TS) (x : Nat) (d : Int) : Nat → TS
  | 0 => S
  | b + 1 => if b ≠ x ∧ 0 ≤ (sh (S 1) x d b).1 (x * 7 + b) + d ∧ (sh (S 1) x d b).1 (x * 7 + b) + d ≤ 99 then putS (shS S x d b) x b ((sh (S 1) x d b).1 (x * 7 + b) + d) else shS S x d b
theorem sh_succ (M : Nat → Int) (x : Nat) (d : Int) (b : Nat) : sh M x d (b + 1) = if b ≠ x ∧ 0 ≤ (sh M x d b).1 (x * 7 + b) + d ∧ (sh M x d b).1 (x * 7 + b) + d ≤ 99 then (st2 (sh M x d b).1 x b ((sh M x d b).1 (x * 7 + b) + d), (sh M x d b).2 + 1) else sh M x d b := rfl
theorem shS_succ (S : TS) (x : Nat) (d : Int) (b : Nat) : shS S x d (b + 1) = if b ≠ x ∧ 0 ≤ (sh (S 1) x d b).1 (x * 7 + b) + d ∧ (sh (S 1) x d b).1 (x * 7 + b) + d ≤ 99 then putS (shS S x d b) x b ((sh (S 1) x d b).1 (x * 7 + b) + d) else shS S x d b := rfl
theorem shS_ok (S : TS) (x : Nat) (d : Int) : ∀ b, shS S x d b 1 = (sh (S 1) x d b).1 ∧ (∀ f, f ≠ 1 → f ≠ 12 → shS S x d b f = S f) ∧ (shS S x d b 12 0 = 0 ∨ shS S x d b = S) := by
  intro b
  induction b with
  | zero => exact ⟨rfl, fun _ _ _ => rfl, Or.inr rfl⟩
  | succ b ih =>
    obtain ⟨i1, i2, i3⟩ := ih
    rw [shS_succ, sh_succ]
    by_cases q : b ≠ x ∧ 0 ≤ (sh (S 1) x d b).1 (x * 7 + b) + d ∧ (sh (S 1) x d b).1 (x * 7 + b) + d ≤ 99
    · rw [if_pos q, if_pos q]
      refine ⟨?_, fun f h1 h12 => ?_, Or.inl ?_⟩
      · unfold putS
        rw [up_f _ (by decide), up2_st2, i1]
      · unfold putS
        rw [up_f _ h12, up_f _ h1, up_f _ h1]; exact i2 f h1 h12
      · unfold putS
        rw [up_s]
    · rw [if_neg q, if_neg q]
      exact ⟨i1, i2, i3⟩
def bwP (n : Nat) (M R : Nat → Int) (a b r : Int) : Prop := (¬ lkI n a b ∧ r = -1) ∨ ∃ x y, lkE n a b x y ∧ OptP n M (fun c => Fits n R c ∧ Adj n c x y) r
def boP (n : Nat) (M R : Nat → Int) (a b r : Int) : Prop := (¬ lkI n a b ∧ r = -1) ∨ ∃ x y, lkE n a b x y ∧ OptP n M (fun c => Fits n R c ∧ ¬ Adj n c x y) r
theorem bwP.uniq {n : Nat} {M R : Nat → Int} {a b r r' : Int} (h : bwP n M R a b r) (h' : bwP n M R a b r') : r = r' := by
  rcases h with ⟨h1, h2⟩ | ⟨x, y, h1, h2⟩
  · rcases h' with ⟨g1, g2⟩ | ⟨x, y, g1, g2⟩
    · omega
    · exact absurd g1.i h1
  · rcases h' with ⟨g1, g2⟩ | ⟨x', y', g1, g2⟩
    · exact absurd h1.i g1
    · have e1 : x' = x := by unfold lkE at h1 g1; omega
      have e2 : y' = y := by unfold lkE at h1 g1; omega
      subst e1; subst e2
      exact h2.uniq g2
theorem boP.uniq {n : Nat} {M R : Nat → Int} {a b r r' : Int} (h : boP n M R a b r) (h' : boP n M R a b r') : r = r' := by
  rcases h with ⟨h1, h2⟩ | ⟨x, y, h1, h2⟩
  · rcases h' with ⟨g1, g2⟩ | ⟨x, y, g1, g2⟩
    · omega
    · exact absurd g1.i h1
  · rcases h' with ⟨g1, g2⟩ | ⟨x', y', g1, g2⟩
    · exact absurd h1.i g1
    · have e1 : x' = x := by unfold lkE at h1 g1; omega
      have e2 : y' = y := by unfold lkE at h1 g1; omega
      subst e1; subst e2
      exact h2.uniq g2
theorem bwP.rng {n : Nat} {M R : Nat → Int} {a b r : Int} (h7 : n ≤ 7) (hM : ∀ j, 0 ≤ M j ∧ M j ≤ 99) (h : bwP n M R a b r) : -1 ≤ r ∧ r ≤ 693 := by
  rcases h with ⟨-, h2⟩ | ⟨x, y, -, h2⟩
  · omega
  · exact h2.rng h7 hM
theorem boP.rng {n : Nat} {M R : Nat → Int} {a b r : Int} (h7 : n ≤ 7) (hM : ∀ j, 0 ≤ M j ∧ M j ≤ 99) (h : boP n M R a b r) : -1 ≤ r ∧ r ≤ 693 := by
  rcases h with ⟨-, h2⟩ | ⟨x, y, -, h2⟩
  · omega
  · exact h2.rng h7 hM
def caP (n : Nat) (M R : Nat → Int) (k r : Int) : Prop := (r = -1 ∧ ((∀ c, Tour n c → ¬ Fits n R c) ∨ k < 0 ∨ (n : Int) ≤ k)) ∨ ∃ (i : Nat) (c : Nat → Nat), i < n ∧ k = (i : Int) ∧ LexOpt n M R c ∧ r = (c i : Int)
theorem caP.uniq {n : Nat} {M R : Nat → Int} {k r r' : Int} (h : caP n M R k r) (h' : caP n M R k r') : r = r' := by
  rcases h with ⟨h1, h2⟩ | ⟨i, c, h1, h2, h3, h4⟩
  · rcases h' with ⟨g1, g2⟩ | ⟨i, c, g1, g2, g3, g4⟩
    · omega
    · exfalso
      rcases h2 with q | q | q
      · exact q c g3.1 g3.2.1
      · omega
      · omega
  · rcases h' with ⟨g1, g2⟩ | ⟨j, d, g1, g2, g3, g4⟩
    · exfalso
      rcases g2 with q | q | q
      · exact q c h3.1 h3.2.1
      · omega
      · omega
    · have e : j = i := by omega
      subst e
      rw [h4, g4, h3.uniq g3 j h1]
/-- the cities beside x in some best tour, as bits -/
def nbP (n : Nat) (M R : Nat → Int) (a r : Int) : Prop := (r = 0 ∧ ((∀ c, Tour n c → ¬ Fits n R c) ∨ a < 0 ∨ (n : Int) ≤ a)) ∨
  ∃ (x m : Nat) (o : Int), x < n ∧ a = (x : Int) ∧ r = (m : Int) ∧ m < 128 ∧ 0 ≤ o ∧ Opt n M R o ∧ ∀ j, j < 7 → (bitN m j = 1 ↔ (j < n ∧ ∃ c, Tour n c ∧ Fits n R c ∧ Cost n M c = o ∧ Adj n c x j))
theorem bits_sum : ∀ m, m < 128 → m = bitN m 0 + 2 * bitN m 1 + 4 * bitN m 2 + 8 * bitN m 3 + 16 * bitN m 4 + 32 * bitN m 5 + 64 * bitN m 6 := by decide +kernel
theorem bits_eq {m m' : Nat} (h : m < 128) (h' : m' < 128) (e : ∀ j, j < 7 → (bitN m j = 1 ↔ bitN m' j = 1)) : m = m' := by
  have key : ∀ j, j < 7 → bitN m j = bitN m' j := fun j hj => by
    have a : bitN m j < 2 := Nat.mod_lt _ (by decide)
    have b : bitN m' j < 2 := Nat.mod_lt _ (by decide)
    have := e j hj
    omega
  rw [bits_sum m h, bits_sum m' h', key 0 (by decide), key 1 (by decide), key 2 (by decide), key 3 (by decide), key 4 (by decide), key 5 (by decide), key 6 (by decide)]
theorem nbP.uniq {n : Nat} {M R : Nat → Int} {a r r' : Int} (h : nbP n M R a r) (h' : nbP n M R a r') : r = r' := by
  have no : ∀ {o : Int}, 0 ≤ o → Opt n M R o → ¬ ∀ c, Tour n c → ¬ Fits n R c := fun {o} h0 ho hno => by
    rcases ho with ⟨q, -⟩ | ⟨-, ⟨c, c1, c2, -⟩, -⟩
    · omega
    · exact hno c c1 c2
  rcases h with ⟨h1, h2⟩ | ⟨x, m, o, h1, h2, h3, h4, h5, h6, h7⟩
  · rcases h' with ⟨g1, g2⟩ | ⟨x, m, o, g1, g2, g3, g4, g5, g6, g7⟩
    · omega
    · exfalso
      rcases h2 with q | q | q
      · exact no g5 g6 q
      · omega
      · omega
  · rcases h' with ⟨g1, g2⟩ | ⟨x', m', o', g1, g2, g3, g4, g5, g6, g7⟩
    · exfalso
      rcases g2 with q | q | q
      · exact no h5 h6 q
      · omega
      · omega
    · have ex : x' = x := by omega
      have eo : o' = o := OptP.uniq g6 h6
      subst ex; subst eo
      rw [h3, g3, bits_eq h4 g4 (fun j hj => by rw [h7 j hj, g7 j hj])]
def limF (w wo d : Int) : Int := if wo < 0 ∨ 99 < wo - (w - d) then 99 else if wo < w - d then -1 else wo - (w - d)
def lmP (n : Nat) (M R : Nat → Int) (a b r : Int) : Prop := ∃ w, bwP n M R a b w ∧ ((w < 0 ∧ r = -1) ∨ (0 ≤ w ∧ ∃ wo, boP n M R a b wo ∧ ∃ x y, lkE n a b x y ∧ r = limF w wo (M (x * 7 + y))))
theorem lmP.uniq {n : Nat} {M R : Nat → Int} {a b r r' : Int} (h : lmP n M R a b r) (h' : lmP n M R a b r') : r = r' := by
  obtain ⟨w, h1, h2⟩ := h
  obtain ⟨w', g1, g2⟩ := h'
  have := h1.uniq g1
  subst this
  rcases h2 with ⟨h2, h3⟩ | ⟨h2, wo, h3, x, y, h4, h5⟩
  · rcases g2 with ⟨g2, g3⟩ | ⟨g2, -⟩
    · omega
    · omega
  · rcases g2 with ⟨g2, g3⟩ | ⟨g2, wo', g3, x', y', g4, g5⟩
    · omega
    · have := h3.uniq g3
      subst this
      have e1 : x' = x := by unfold lkE at h4 g4; omega
      have e2 : y' = y := by unfold lkE at h4 g4; omega
      subst e1; subst e2
      rw [h5, g5]
/-! the desk's own changes -/
def ruS (S : TS) (x y : Nat) (v : Int) : TS := up (up (up S 2 (x * 7 + y) v) 2 (y * 7 + x) v) 12 0 0
theorem put_TDI {n : Nat} {S : TS} (h : TDI n S) {x y : Nat} (hx : x < n) (hy : y < n) {v : Int} (hv : 0 ≤ v ∧ v ≤ 99) : TDI n (putS S x y v) ∧ putS S x y v 1 = st2 (S 1) x y v ∧ putS S x y v 2 = S 2 := by
  have e1 : putS S x y v 1 = st2 (S 1) x y v := by unfold putS; rw [up_f _ (by decide), up2_st2]
  have ef : ∀ f, f ≠ 1 → f ≠ 12 → putS S x y v f = S f := fun f q1 q2 => by unfold putS; rw [up_f _ q2, up_f _ q1, up_f _ q1]
  obtain ⟨⟨a0, a1, a2, a3, a4, a5, a6⟩, a7⟩ := h
  refine ⟨⟨⟨by rw [ef 0 (by decide) (by decide)]; exact a0, a1, by rw [e1]; exact st2_rng hv a2, by rw [ef 2 (by decide) (by decide)]; exact a3, by rw [e1]; exact st2_sy a1.2 hx hy v a4, by rw [ef 2 (by decide) (by decide)]; exact a5, by rw [ef 3 (by decide) (by decide)]; exact a6⟩, Or.inl (up_s _ _ _ _)⟩, e1, ef 2 (by decide) (by decide)⟩
theorem ru_TDI {n : Nat} {S : TS} (h : TDI n S) {x y : Nat} (hx : x < n) (hy : y < n) {v : Int} (hv : 0 ≤ v ∧ v ≤ 2) : TDI n (ruS S x y v) ∧ ruS S x y v 1 = S 1 ∧ ruS S x y v 2 = st2 (S 2) x y v := by
  have e2 : ruS S x y v 2 = st2 (S 2) x y v := by unfold ruS; rw [up_f _ (by decide), up2_st2]
  have ef : ∀ f, f ≠ 2 → f ≠ 12 → ruS S x y v f = S f := fun f q1 q2 => by unfold ruS; rw [up_f _ q2, up_f _ q1, up_f _ q1]
  obtain ⟨⟨a0, a1, a2, a3, a4, a5, a6⟩, a7⟩ := h
  refine ⟨⟨⟨by rw [ef 0 (by decide) (by decide)]; exact a0, a1, by rw [ef 1 (by decide) (by decide)]; exact a2, by rw [e2]; exact st2_rng hv a3, by rw [ef 1 (by decide) (by decide)]; exact a4, by rw [e2]; exact st2_sy a1.2 hx hy v a5, by rw [ef 3 (by decide) (by decide)]; exact a6⟩, Or.inl (up_s _ _ _ _)⟩, ef 1 (by decide) (by decide), e2⟩
theorem sh_TDI {n : Nat} {S : TS} (h : TDI n S) {x : Nat} (hx : x < n) (d : Int) : TDI n (shS S x d n) ∧ shS S x d n 1 = (sh (S 1) x d n).1 ∧ shS S x d n 2 = S 2 := by
  obtain ⟨e1, ef, e12⟩ := shS_ok S x d n
  obtain ⟨⟨a0, a1, a2, a3, a4, a5, a6⟩, a7⟩ := id h
  obtain ⟨o1, o2, -⟩ := sh_ok a1.2 hx d a2 a4 n (Nat.le_refl n)
  refine ⟨?_, e1, ef 2 (by decide) (by decide)⟩
  rcases e12 with q | q
  · exact ⟨⟨by rw [ef 0 (by decide) (by decide)]; exact a0, a1, by rw [e1]; exact o1, by rw [ef 2 (by decide) (by decide)]; exact a3, by rw [e1]; exact o2, by rw [ef 2 (by decide) (by decide)]; exact a5, by rw [ef 3 (by decide) (by decide)]; exact a6⟩, Or.inl q⟩
  · rw [q]; exact h
end
section
/-! public methods of TourDesk -/
set_option maxRecDepth 20000 in
theorem c_d_setLength {q : Nat → Nat} {kz : ClassId × ClassId × ClassId} {S : TS} {n : Nat} (hT : TDI n S) {a b d : Int} (ha : inR a) (hb : inR b) (hd : inR d) : ∀ l : Launch, MI l y_d_setLength b_d_setLength 4 .boolean ({ frames := 1, cells := 0, slots := 0, locals := 23 }) (td_ws q kz) (ty_k kz) [.ref (q 0), .int (iI a), .int (iI b), .int (iI d)] S (fun r S' => (r = 0 ∧ S' = S ∧ ¬ (lkI n a b ∧ (0 ≤ d ∧ d ≤ 99))) ∨ (r = 1 ∧ ∃ x y, lkE n a b x y ∧ (0 ≤ d ∧ d ≤ 99) ∧ S' = putS S x y d)) := by
  refine mi_of (td_ok q kz) (by decide) (Nat.le_of_ble_eq_true rfl) (by simp [Value.category]) (Nat.le_of_ble_eq_true rfl) ?_
  intro X C hR
  show TW X (td_ws q kz) S 0 [some (.ref (q 0)), some (.int (iI a)), some (.int (iI b)), some (.int (iI d))] []
  have h7 := hT.1.2.1.2
  have h3n := hT.1.2.1.1
  refine tw_aload0 C d_d_setLength_0 ?_
  refine tw_iload1 C d_d_setLength_1 ?_
  refine tw_iload2 C d_d_setLength_2 ?_
  refine tw_calli C (td_ok q kz) (c_d_isLink (S := S) (n := n) (a := a) (b := b) hT.1.1 h7 ha hb) cs_d_d_isLink ⟨⟨rfl, rfl⟩, by decide, by decide⟩ rfl rfl rfl rfl rfl (Nat.le_of_ble_eq_true rfl) d_d_setLength_3 (fun r3 z3 hp3 => ?_)
  obtain ⟨hz, hp3⟩ := hp3
  replace hz := hz.symm
  subst hz
  have hr3 : r3 = 0 ∨ r3 = 1 := hp3.elim (fun q => Or.inr q.1) (fun q => Or.inl q.1)
  refine tw_if_eq C d_d_setLength_6 (by omega) (fun u6 => ?_) (fun u6 => ?_)
  · refine tw_iconst C d_d_setLength_19 ?_
    exact hR _ _ _ _ _ d_d_setLength_20 rfl (Or.inl ⟨rfl, rfl, fun q => absurd q.1 (by rcases hp3 with q | q; exact absurd (u6.symm.trans q.1) (by decide); exact q.2)⟩)
  · refine tw_iload3 C d_d_setLength_9 ?_
    refine tw_if_lt C d_d_setLength_10 (by omega) (fun u10 => ?_) (fun u10 => ?_)
    · refine tw_iconst C d_d_setLength_19 ?_
      exact hR _ _ _ _ _ d_d_setLength_20 rfl (Or.inl ⟨rfl, rfl, fun q => by have := q.2; omega⟩)
    · refine tw_iload3 C d_d_setLength_13 ?_
      refine tw_bipush C d_d_setLength_14 rfl ?_
      refine tw_icmp_le C d_d_setLength_16 (by omega) (by omega) (fun u16 => ?_) (fun u16 => ?_)
      · obtain ⟨x, y, hxy⟩ : ∃ x y, lkE n a b x y := lkI.e (by rcases hp3 with q | q; exact q.2; exact absurd q.1 u6)
        obtain ⟨hx, hy, hne, rfl, rfl⟩ := id hxy
        refine tw_aload0 C d_d_setLength_21 ?_
        refine tw_iload1 C d_d_setLength_22 ?_
        refine tw_iload2 C d_d_setLength_23 ?_
        refine tw_iload3 C d_d_setLength_24 ?_
        refine tw_callv C (td_ok q kz) (c_d_putLength (S := S) (a := x) (b := y) (v := d) (by omega) (by omega) ⟨u10, u16⟩) cs_d_d_putLength ⟨⟨rfl, rfl⟩, by decide, by decide⟩ rfl rfl rfl rfl rfl (Nat.le_of_ble_eq_true rfl) d_d_setLength_25 (fun z25 hp25 => ?_)
        subst hp25
        refine tw_iconst C d_d_setLength_28 ?_
        exact hR _ _ _ _ _ d_d_setLength_29 rfl (Or.inr ⟨rfl, x, y, hxy, ⟨u10, u16⟩, rfl⟩)
      · refine tw_iconst C d_d_setLength_19 ?_
        exact hR _ _ _ _ _ d_d_setLength_20 rfl (Or.inl ⟨rfl, rfl, fun q => by have := q.2; omega⟩)
set_option maxRecDepth 20000 in
theorem c_d_setRule {q : Nat → Nat} {kz : ClassId × ClassId × ClassId} {S : TS} {n : Nat} (hT : TDI n S) {a b d : Int} (ha : inR a) (hb : inR b) (hd : inR d) : ∀ l : Launch, MI l y_d_setRule b_d_setRule 4 .boolean ({ frames := 1, cells := 0, slots := 0, locals := 22 }) (td_ws q kz) (ty_k kz) [.ref (q 0), .int (iI a), .int (iI b), .int (iI d)] S (fun r S' => (r = 0 ∧ S' = S ∧ ¬ (lkI n a b ∧ (0 ≤ d ∧ d ≤ 2))) ∨ (r = 1 ∧ ∃ x y, lkE n a b x y ∧ (0 ≤ d ∧ d ≤ 2) ∧ S' = ruS S x y d)) := by
  refine mi_of (td_ok q kz) (by decide) (Nat.le_of_ble_eq_true rfl) (by simp [Value.category]) (Nat.le_of_ble_eq_true rfl) ?_
  intro X C hR
  show TW X (td_ws q kz) S 0 [some (.ref (q 0)), some (.int (iI a)), some (.int (iI b)), some (.int (iI d))] []
  have h7 := hT.1.2.1.2
  have h3n := hT.1.2.1.1
  refine tw_aload0 C d_d_setRule_0 ?_
  refine tw_iload1 C d_d_setRule_1 ?_
  refine tw_iload2 C d_d_setRule_2 ?_
  refine tw_calli C (td_ok q kz) (c_d_isLink (S := S) (n := n) (a := a) (b := b) hT.1.1 h7 ha hb) cs_d_d_isLink ⟨⟨rfl, rfl⟩, by decide, by decide⟩ rfl rfl rfl rfl rfl (Nat.le_of_ble_eq_true rfl) d_d_setRule_3 (fun r3 z3 hp3 => ?_)
  obtain ⟨hz, hp3⟩ := hp3
  replace hz := hz.symm
  subst hz
  have hr3 : r3 = 0 ∨ r3 = 1 := hp3.elim (fun q => Or.inr q.1) (fun q => Or.inl q.1)
  refine tw_if_eq C d_d_setRule_6 (by omega) (fun u6 => ?_) (fun u6 => ?_)
  · refine tw_iconst C d_d_setRule_18 ?_
    exact hR _ _ _ _ _ d_d_setRule_19 rfl (Or.inl ⟨rfl, rfl, fun q => absurd q.1 (by rcases hp3 with q | q; exact absurd (u6.symm.trans q.1) (by decide); exact q.2)⟩)
  · refine tw_iload3 C d_d_setRule_9 ?_
    refine tw_if_lt C d_d_setRule_10 (by omega) (fun u10 => ?_) (fun u10 => ?_)
    · refine tw_iconst C d_d_setRule_18 ?_
      exact hR _ _ _ _ _ d_d_setRule_19 rfl (Or.inl ⟨rfl, rfl, fun q => by have := q.2; omega⟩)
    · refine tw_iload3 C d_d_setRule_13 ?_
      refine tw_iconst C d_d_setRule_14 ?_
      refine tw_icmp_le C d_d_setRule_15 (by omega) (by omega) (fun u15 => ?_) (fun u15 => ?_)
      · obtain ⟨x, y, hxy⟩ : ∃ x y, lkE n a b x y := lkI.e (by rcases hp3 with q | q; exact q.2; exact absurd q.1 u6)
        obtain ⟨hx, hy, hne, rfl, rfl⟩ := id hxy
        refine tw_aload0 C d_d_setRule_20 ?_
        refine g_d2 C d_d_setRule_21 ?_
        refine tw_iload1 C d_d_setRule_24 ?_
        refine tw_bipush C d_d_setRule_25 rfl ?_
        refine tw_imul C d_d_setRule_27 ?_
        refine tw_iload2 C d_d_setRule_28 ?_
        refine tw_iadd C d_d_setRule_29 ?_
        refine tw_iload3 C d_d_setRule_30 ?_
        refine tw_i2b C d_d_setRule_31 (by omega) ?_
        refine as_d2 C (((x * 7) + y)) d_d_setRule_32 (by omega) (by omega) (by omega) ?_
        refine tw_aload0 C d_d_setRule_33 ?_
        refine g_d2 C d_d_setRule_34 ?_
        refine tw_iload2 C d_d_setRule_37 ?_
        refine tw_bipush C d_d_setRule_38 rfl ?_
        refine tw_imul C d_d_setRule_40 ?_
        refine tw_iload1 C d_d_setRule_41 ?_
        refine tw_iadd C d_d_setRule_42 ?_
        refine tw_iload3 C d_d_setRule_43 ?_
        refine tw_i2b C d_d_setRule_44 (by omega) ?_
        refine as_d2 C (((y * 7) + x)) d_d_setRule_45 (by omega) (by omega) (by omega) ?_
        refine tw_aload0 C d_d_setRule_46 ?_
        refine tw_iconst C d_d_setRule_47 ?_
        refine pt_d12 C d_d_setRule_48 (by first | exact Or.inl rfl | exact Or.inr rfl) ?_
        refine tw_iconst C d_d_setRule_51 ?_
        exact hR _ _ _ _ _ d_d_setRule_52 rfl (Or.inr ⟨rfl, x, y, hxy, ⟨u10, u15⟩, rfl⟩)
      · refine tw_iconst C d_d_setRule_18 ?_
        exact hR _ _ _ _ _ d_d_setRule_19 rfl (Or.inl ⟨rfl, rfl, fun q => by have := q.2; omega⟩)
set_option maxRecDepth 20000 in
theorem c_d_length {q : Nat → Nat} {kz : ClassId × ClassId × ClassId} {S : TS} {n : Nat} (hT : TDI n S) {a b : Int} (ha : inR a) (hb : inR b) : ∀ l : Launch, MI l y_d_length b_d_length 3 .int ({ frames := 1, cells := 0, slots := 0, locals := 22 }) (td_ws q kz) (ty_k kz) [.ref (q 0), .int (iI a), .int (iI b)] S (fun r S' => S' = S ∧ ((¬ lkI n a b ∧ r = -1) ∨ ∃ x y, lkE n a b x y ∧ r = S 1 (x * 7 + y))) := by
  refine mi_of (td_ok q kz) (by decide) (Nat.le_of_ble_eq_true rfl) (by simp [Value.category]) (Nat.le_of_ble_eq_true rfl) ?_
  intro X C hR
  show TW X (td_ws q kz) S 0 [some (.ref (q 0)), some (.int (iI a)), some (.int (iI b))] []
  have h7 := hT.1.2.1.2
  have h3n := hT.1.2.1.1
  refine tw_aload0 C d_d_length_0 ?_
  refine tw_iload1 C d_d_length_1 ?_
  refine tw_iload2 C d_d_length_2 ?_
  refine tw_calli C (td_ok q kz) (c_d_isLink (S := S) (n := n) (a := a) (b := b) hT.1.1 h7 ha hb) cs_d_d_isLink ⟨⟨rfl, rfl⟩, by decide, by decide⟩ rfl rfl rfl rfl rfl (Nat.le_of_ble_eq_true rfl) d_d_length_3 (fun r3 z3 hp3 => ?_)
  obtain ⟨hz, hp3⟩ := hp3
  replace hz := hz.symm
  subst hz
  have hr3 : r3 = 0 ∨ r3 = 1 := hp3.elim (fun q => Or.inr q.1) (fun q => Or.inl q.1)
  refine tw_if_eq C d_d_length_6 (by omega) (fun u6 => ?_) (fun u6 => ?_)
  · refine tw_iconst C d_d_length_23 ?_
    exact hR _ _ _ _ _ d_d_length_24 rfl (⟨rfl, Or.inl ⟨(by rcases hp3 with q | q; exact absurd (u6.symm.trans q.1) (by decide); exact q.2), rfl⟩⟩)
  · obtain ⟨x, y, hxy⟩ : ∃ x y, lkE n a b x y := lkI.e (by rcases hp3 with q | q; exact q.2; exact absurd q.1 u6)
    obtain ⟨hx, hy, hne, rfl, rfl⟩ := id hxy
    refine tw_aload0 C d_d_length_9 ?_
    refine g_d1 C d_d_length_10 ?_
    refine tw_iload1 C d_d_length_13 ?_
    refine tw_bipush C d_d_length_14 rfl ?_
    refine tw_imul C d_d_length_16 ?_
    refine tw_iload2 C d_d_length_17 ?_
    refine tw_iadd C d_d_length_18 ?_
    refine al_d1 C (((x * 7) + y)) d_d_length_19 (by omega) (by omega) rfl ?_
    refine tw_goto C d_d_length_20 ?_
    exact hR _ _ _ _ _ d_d_length_24 rfl (⟨rfl, Or.inr ⟨x, y, hxy, rfl⟩⟩)
set_option maxRecDepth 20000 in
theorem c_d_rule {q : Nat → Nat} {kz : ClassId × ClassId × ClassId} {S : TS} {n : Nat} (hT : TDI n S) {a b : Int} (ha : inR a) (hb : inR b) : ∀ l : Launch, MI l y_d_rule b_d_rule 3 .int ({ frames := 1, cells := 0, slots := 0, locals := 22 }) (td_ws q kz) (ty_k kz) [.ref (q 0), .int (iI a), .int (iI b)] S (fun r S' => S' = S ∧ ((¬ lkI n a b ∧ r = -1) ∨ ∃ x y, lkE n a b x y ∧ r = S 2 (x * 7 + y))) := by
  refine mi_of (td_ok q kz) (by decide) (Nat.le_of_ble_eq_true rfl) (by simp [Value.category]) (Nat.le_of_ble_eq_true rfl) ?_
  intro X C hR
  show TW X (td_ws q kz) S 0 [some (.ref (q 0)), some (.int (iI a)), some (.int (iI b))] []
  have h7 := hT.1.2.1.2
  have h3n := hT.1.2.1.1
  refine tw_aload0 C d_d_rule_0 ?_
  refine tw_iload1 C d_d_rule_1 ?_
  refine tw_iload2 C d_d_rule_2 ?_
  refine tw_calli C (td_ok q kz) (c_d_isLink (S := S) (n := n) (a := a) (b := b) hT.1.1 h7 ha hb) cs_d_d_isLink ⟨⟨rfl, rfl⟩, by decide, by decide⟩ rfl rfl rfl rfl rfl (Nat.le_of_ble_eq_true rfl) d_d_rule_3 (fun r3 z3 hp3 => ?_)
  obtain ⟨hz, hp3⟩ := hp3
  replace hz := hz.symm
  subst hz
  have hr3 : r3 = 0 ∨ r3 = 1 := hp3.elim (fun q => Or.inr q.1) (fun q => Or.inl q.1)
  refine tw_if_eq C d_d_rule_6 (by omega) (fun u6 => ?_) (fun u6 => ?_)
  · refine tw_iconst C d_d_rule_23 ?_
    exact hR _ _ _ _ _ d_d_rule_24 rfl (⟨rfl, Or.inl ⟨(by rcases hp3 with q | q; exact absurd (u6.symm.trans q.1) (by decide); exact q.2), rfl⟩⟩)
  · obtain ⟨x, y, hxy⟩ : ∃ x y, lkE n a b x y := lkI.e (by rcases hp3 with q | q; exact q.2; exact absurd q.1 u6)
    obtain ⟨hx, hy, hne, rfl, rfl⟩ := id hxy
    refine tw_aload0 C d_d_rule_9 ?_
    refine g_d2 C d_d_rule_10 ?_
    refine tw_iload1 C d_d_rule_13 ?_
    refine tw_bipush C d_d_rule_14 rfl ?_
    refine tw_imul C d_d_rule_16 ?_
    refine tw_iload2 C d_d_rule_17 ?_
    refine tw_iadd C d_d_rule_18 ?_
    refine al_d2 C (((x * 7) + y)) d_d_rule_19 (by omega) (by omega) rfl ?_
    refine tw_goto C d_d_rule_20 ?_
    exact hR _ _ _ _ _ d_d_rule_24 rfl (⟨rfl, Or.inr ⟨x, y, hxy, rfl⟩⟩)
set_option maxRecDepth 20000 in
theorem c_d_shift {q : Nat → Nat} {kz : ClassId × ClassId × ClassId} {S : TS} {n : Nat} (hT : TDI n S) {a d : Int} (ha : inR a) (hd : inR d) : ∀ l : Launch, MI l y_d_shift b_d_shift 6 .int ({ frames := 1, cells := 0, slots := 0, locals := 23 }) (td_ws q kz) (ty_k kz) [.ref (q 0), .int (iI a), .int (iI d)] S (fun r S' => (r = -1 ∧ S' = S ∧ ¬ ((0 ≤ a ∧ a < n) ∧ (-99 ≤ d ∧ d ≤ 99))) ∨ ∃ x : Nat, x < n ∧ a = (x : Int) ∧ (-99 ≤ d ∧ d ≤ 99) ∧ r = (sh (S 1) x d n).2 ∧ S' = shS S x d n) := by
  refine mi_of (td_ok q kz) (by decide) (Nat.le_of_ble_eq_true rfl) (by simp [Value.category]) (Nat.le_of_ble_eq_true rfl) ?_
  intro X C hR
  show TW X (td_ws q kz) S 0 [some (.ref (q 0)), some (.int (iI a)), some (.int (iI d)), none, none, none] []
  have h7 := hT.1.2.1.2
  have h3n := hT.1.2.1.1
  refine tw_iload1 C d_d_shift_0 ?_
  refine tw_if_lt C d_d_shift_1 (by omega) (fun u1 => ?_) (fun u1 => ?_)
  · refine tw_iconst C d_d_shift_24 ?_
    exact hR _ _ _ _ _ d_d_shift_25 rfl (Or.inl ⟨rfl, rfl, by omega⟩)
  · refine tw_iload1 C d_d_shift_4 ?_
    refine tw_aload0 C d_d_shift_5 ?_
    refine g_d0 C d_d_shift_6 (show _ = (n : Int) from hT.1.1) ?_
    refine tw_icmp_ge C d_d_shift_9 (by omega) (by omega) (fun u9 => ?_) (fun u9 => ?_)
    · refine tw_iconst C d_d_shift_24 ?_
      exact hR _ _ _ _ _ d_d_shift_25 rfl (Or.inl ⟨rfl, rfl, by omega⟩)
    · refine tw_iload2 C d_d_shift_12 ?_
      refine tw_bipush C d_d_shift_13 rfl ?_
      refine tw_icmp_lt C d_d_shift_15 (by omega) (by omega) (fun u15 => ?_) (fun u15 => ?_)
      · refine tw_iconst C d_d_shift_24 ?_
        exact hR _ _ _ _ _ d_d_shift_25 rfl (Or.inl ⟨rfl, rfl, by omega⟩)
      · refine tw_iload2 C d_d_shift_18 ?_
        refine tw_bipush C d_d_shift_19 rfl ?_
        refine tw_icmp_le C d_d_shift_21 (by omega) (by omega) (fun u21 => ?_) (fun u21 => ?_)
        · obtain ⟨x, rfl⟩ : ∃ x : Nat, a = (x : Int) := ⟨a.toNat, by omega⟩
          refine tw_iconst C d_d_shift_26 ?_
          refine tw_istore3 C d_d_shift_27 ?_
          refine tw_iconst C d_d_shift_28 ?_
          refine tw_istore4 C d_d_shift_29 ?_
          suffices hl31 : ∀ (f31 : Nat) (b : Nat), n < b + f31 → b ≤ n → TW X (td_ws q kz) (shS S x d b) 31 [some (.ref (q 0)), some (.int (iI x)), some (.int (iI d)), some (.int (iI ((sh (S 1) x d b).2))), some (.int (iI b)), none] [] from hl31 (n + 1) 0 (by omega) (by omega)
          intro f31
          induction f31 with
          | zero => intro b h1 h2; exfalso; omega
          | succ f31 ih31 =>
            intro b h1 h2
            refine tw_iload4 C d_d_shift_31 ?_
            refine tw_aload0 C d_d_shift_33 ?_
            refine g_d0 C d_d_shift_34 (show _ = (n : Int) by rw [(shS_ok S x d b).2.1 0 (by decide) (by decide)]; exact hT.1.1) ?_
            refine tw_icmp_ge C d_d_shift_37 (by omega) (by omega) (fun u37 => ?_) (fun u37 => ?_)
            · refine tw_iload3 C d_d_shift_92 ?_
              exact hR _ _ _ _ _ d_d_shift_93 rfl (Or.inr ⟨x, by omega, rfl, by omega, by rw [show b = n by omega], by rw [show b = n by omega]⟩)
            · refine tw_aload0 C d_d_shift_40 ?_
              refine g_d1 C d_d_shift_41 ?_
              refine tw_iload1 C d_d_shift_44 ?_
              refine tw_bipush C d_d_shift_45 rfl ?_
              refine tw_imul C d_d_shift_47 ?_
              refine tw_iload4 C d_d_shift_48 ?_
              refine tw_iadd C d_d_shift_50 ?_
              refine al_d1 C (((x * 7) + b)) d_d_shift_51 (by omega) (by omega) (show _ = (sh (S 1) x d b).1 (x * 7 + b) by rw [(shS_ok S x d b).1]) ?_
              have hm := (sh_ok (n := n) h7 (by omega : x < n) d hT.1.2.2.1 hT.1.2.2.2.2.1 b (by omega)).1 (x * 7 + b)
              refine tw_iload2 C d_d_shift_52 ?_
              refine tw_iadd C d_d_shift_53 ?_
              refine tw_istore5 C d_d_shift_54 ?_
              refine tw_iload4 C d_d_shift_56 ?_
              refine tw_iload1 C d_d_shift_58 ?_
              refine tw_icmp_eq C d_d_shift_59 (by omega) (by omega) (fun u59 => ?_) (fun u59 => ?_)
              · refine tw_iinc4 C d_d_shift_86 ?_
                refine tw_goto C d_d_shift_89 ?_
                exact tw_drop 5 (tw_S (by rw [shS_succ, if_neg (fun q => q.1 (by omega))]) (tw_L (by rw [sh_succ, if_neg (fun q => q.1 (by omega))]; rfl) (ih31 (b + 1) (by omega) (by omega))))
              · refine tw_iload5 C d_d_shift_62 ?_
                refine tw_if_lt C d_d_shift_64 (by omega) (fun u64 => ?_) (fun u64 => ?_)
                · refine tw_iinc4 C d_d_shift_86 ?_
                  refine tw_goto C d_d_shift_89 ?_
                  exact tw_drop 5 (tw_S (by rw [shS_succ, if_neg (fun q => by omega)]) (tw_L (by rw [sh_succ, if_neg (fun q => by omega)]; rfl) (ih31 (b + 1) (by omega) (by omega))))
                · refine tw_iload5 C d_d_shift_67 ?_
                  refine tw_bipush C d_d_shift_69 rfl ?_
                  refine tw_icmp_gt C d_d_shift_71 (by omega) (by omega) (fun u71 => ?_) (fun u71 => ?_)
                  · refine tw_iinc4 C d_d_shift_86 ?_
                    refine tw_goto C d_d_shift_89 ?_
                    exact tw_drop 5 (tw_S (by rw [shS_succ, if_neg (fun q => by omega)]) (tw_L (by rw [sh_succ, if_neg (fun q => by omega)]; rfl) (ih31 (b + 1) (by omega) (by omega))))
                  · have hq : b ≠ x ∧ 0 ≤ (sh (S 1) x d b).1 (x * 7 + b) + d ∧ (sh (S 1) x d b).1 (x * 7 + b) + d ≤ 99 := ⟨by omega, u64, u71⟩
                    refine tw_aload0 C d_d_shift_74 ?_
                    refine tw_iload1 C d_d_shift_75 ?_
                    refine tw_iload4 C d_d_shift_76 ?_
                    refine tw_iload5 C d_d_shift_78 ?_
                    refine tw_callv C (td_ok q kz) (c_d_putLength (S := shS S x d b) (a := x) (b := b) (v := (sh (S 1) x d b).1 (x * 7 + b) + d) (by omega) (by omega) ⟨u64, u71⟩) cs_d_d_putLength ⟨⟨rfl, rfl⟩, by decide, by decide⟩ rfl rfl rfl rfl rfl (Nat.le_of_ble_eq_true rfl) d_d_shift_80 (fun z80 hp80 => ?_)
                    subst hp80
                    refine tw_iinc3 C d_d_shift_83 ?_
                    refine tw_iinc4 C d_d_shift_86 ?_
                    refine tw_goto C d_d_shift_89 ?_
                    exact tw_drop 5 (tw_S (by rw [shS_succ, if_pos hq]) (tw_L (by rw [sh_succ, if_pos hq]; rfl) (ih31 (b + 1) (by omega) (by omega))))
        · refine tw_iconst C d_d_shift_24 ?_
          exact hR _ _ _ _ _ d_d_shift_25 rfl (Or.inl ⟨rfl, rfl, by omega⟩)
set_option maxRecDepth 20000 in
theorem c_d_best {q : Nat → Nat} {kz : ClassId × ClassId × ClassId} {S : TS} {n : Nat} (hT : TDI n S)  : ∀ l : Launch, MI l y_d_best b_d_best 1 .int ({ frames := 9, cells := 0, slots := 0, locals := 206 }) (td_ws q kz) (ty_k kz) [.ref (q 0)] S (fun r S' => TDI n S' ∧ S' 1 = S 1 ∧ S' 2 = S 2 ∧ Opt n (S 1) (S 2) r) := by
  refine mi_of (td_ok q kz) (by decide) (Nat.le_of_ble_eq_true rfl) (by simp [Value.category]) (Nat.le_of_ble_eq_true rfl) ?_
  intro X C hR
  show TW X (td_ws q kz) S 0 [some (.ref (q 0))] []
  refine tw_aload0 C d_d_best_0 ?_
  refine tw_callv C (td_ok q kz) (c_d_findTour (S := S) (n := n) hT) cs_d_d_findTour ⟨⟨rfl, rfl⟩, by decide, by decide⟩ rfl rfl rfl rfl rfl (Nat.le_of_ble_eq_true rfl) d_d_best_1 (fun z1 hp1 => ?_)
  obtain ⟨t1, t2, t3, t4⟩ := hp1
  have hkn : KN n z1 := by rcases t1.2 with q | q; exfalso; omega; exact q.2
  refine tw_aload0 C d_d_best_4 ?_
  refine g_d13 C d_d_best_5 rfl ?_
  exact hR _ _ _ _ _ d_d_best_8 rfl (⟨t1, t2, t3, by rw [← t2, ← t3]; exact hkn.1⟩)
set_option maxRecDepth 20000 in
theorem c_d_cityAt {q : Nat → Nat} {kz : ClassId × ClassId × ClassId} {S : TS} {n : Nat} (hT : TDI n S) {kq : Int} (hq : inR kq) : ∀ l : Launch, MI l y_d_cityAt b_d_cityAt 2 .int ({ frames := 9, cells := 0, slots := 0, locals := 206 }) (td_ws q kz) (ty_k kz) [.ref (q 0), .int (iI kq)] S (fun r S' => TDI n S' ∧ S' 1 = S 1 ∧ S' 2 = S 2 ∧ caP n (S 1) (S 2) kq r) := by
  refine mi_of (td_ok q kz) (by decide) (Nat.le_of_ble_eq_true rfl) (by simp [Value.category]) (Nat.le_of_ble_eq_true rfl) ?_
  intro X C hR
  show TW X (td_ws q kz) S 0 [some (.ref (q 0)), some (.int (iI kq))] []
  refine tw_aload0 C d_d_cityAt_0 ?_
  refine tw_callv C (td_ok q kz) (c_d_findTour (S := S) (n := n) hT) cs_d_d_findTour ⟨⟨rfl, rfl⟩, by decide, by decide⟩ rfl rfl rfl rfl rfl (Nat.le_of_ble_eq_true rfl) d_d_cityAt_1 (fun z1 hp1 => ?_)
  obtain ⟨t1, t2, t3, t4⟩ := hp1
  have hkn : KN n z1 := by rcases t1.2 with q | q; exfalso; omega; exact q.2
  have h7 := t1.1.2.1.2
  have h13 := OptP.rng h7 t1.1.2.2.1 hkn.1
  refine tw_aload0 C d_d_cityAt_4 ?_
  refine g_d13 C d_d_cityAt_5 rfl ?_
  refine tw_if_lt C d_d_cityAt_8 (by omega) (fun u8 => ?_) (fun u8 => ?_)
  · refine tw_iconst C d_d_cityAt_23 ?_
    exact hR _ _ _ _ _ d_d_cityAt_24 rfl (⟨t1, t2, t3, Or.inl ⟨rfl, Or.inl (fun c ht hf => by rcases hkn.1 with q | q; exact q.2 c ht (by rw [t3]; exact hf); omega)⟩⟩)
  · refine tw_iload1 C d_d_cityAt_11 ?_
    refine tw_if_lt C d_d_cityAt_12 (by omega) (fun u12 => ?_) (fun u12 => ?_)
    · refine tw_iconst C d_d_cityAt_23 ?_
      exact hR _ _ _ _ _ d_d_cityAt_24 rfl (⟨t1, t2, t3, Or.inl ⟨rfl, by omega⟩⟩)
    · refine tw_iload1 C d_d_cityAt_15 ?_
      refine tw_aload0 C d_d_cityAt_16 ?_
      refine g_d0 C d_d_cityAt_17 t1.1.1 ?_
      refine tw_icmp_lt C d_d_cityAt_20 (by omega) (by omega) (fun u20 => ?_) (fun u20 => ?_)
      · obtain ⟨i, rfl⟩ : ∃ i : Nat, kq = (i : Int) := ⟨kq.toNat, by omega⟩
        obtain ⟨c, hc1, hc2, hc3⟩ := hkn.2 u8
        refine tw_aload0 C d_d_cityAt_25 ?_
        refine g_d14 C d_d_cityAt_26 ?_
        refine tw_iload1 C d_d_cityAt_29 ?_
        refine al_d14 C i d_d_cityAt_30 (by omega) (by omega) (hc3 i (by omega)) ?_
        exact hR _ _ _ _ _ d_d_cityAt_31 rfl (⟨t1, t2, t3, Or.inr ⟨i, c, by omega, rfl, by rw [← t2, ← t3]; exact hc1, rfl⟩⟩)
      · refine tw_iconst C d_d_cityAt_23 ?_
        exact hR _ _ _ _ _ d_d_cityAt_24 rfl (⟨t1, t2, t3, Or.inl ⟨rfl, by omega⟩⟩)
set_option maxRecDepth 20000 in
theorem c_d_bestWith {q : Nat → Nat} {kz : ClassId × ClassId × ClassId} {S : TS} {n : Nat} (hT : TDI n S) {a b : Int} (ha : inR a) (hb : inR b) : ∀ l : Launch, MI l y_d_bestWith b_d_bestWith 3 .int ({ frames := 7, cells := 0, slots := 0, locals := 158 }) (td_ws q kz) (ty_k kz) [.ref (q 0), .int (iI a), .int (iI b)] S (fun r S' => TDI n S' ∧ S' 1 = S 1 ∧ S' 2 = S 2 ∧ S' 12 = S 12 ∧ S' 13 = S 13 ∧ bwP n (S 1) (S 2) a b r) := by
  refine mi_of (td_ok q kz) (by decide) (Nat.le_of_ble_eq_true rfl) (by simp [Value.category]) (Nat.le_of_ble_eq_true rfl) ?_
  intro X C hR
  show TW X (td_ws q kz) S 0 [some (.ref (q 0)), some (.int (iI a)), some (.int (iI b))] []
  have h7 := hT.1.2.1.2
  have h3n := hT.1.2.1.1
  refine tw_aload0 C d_d_bestWith_0 ?_
  refine tw_iload1 C d_d_bestWith_1 ?_
  refine tw_iload2 C d_d_bestWith_2 ?_
  refine tw_calli C (td_ok q kz) (c_d_isLink (S := S) (n := n) (a := a) (b := b) hT.1.1 h7 ha hb) cs_d_d_isLink ⟨⟨rfl, rfl⟩, by decide, by decide⟩ rfl rfl rfl rfl rfl (Nat.le_of_ble_eq_true rfl) d_d_bestWith_3 (fun r3 z3 hp3 => ?_)
  obtain ⟨hz, hp3⟩ := hp3
  replace hz := hz.symm
  subst hz
  have hr3 : r3 = 0 ∨ r3 = 1 := hp3.elim (fun q => Or.inr q.1) (fun q => Or.inl q.1)
  refine tw_if_eq C d_d_bestWith_6 (by omega) (fun u6 => ?_) (fun u6 => ?_)
  · refine tw_iconst C d_d_bestWith_24 ?_
    exact hR _ _ _ _ _ d_d_bestWith_25 rfl (⟨hT, rfl, rfl, rfl, rfl, Or.inl ⟨(by rcases hp3 with q | q; exact absurd (u6.symm.trans q.1) (by decide); exact q.2), rfl⟩⟩)
  · obtain ⟨x, y, hxy⟩ : ∃ x y, lkE n a b x y := lkI.e (by rcases hp3 with q | q; exact q.2; exact absurd q.1 u6)
    obtain ⟨hx, hy, hne, rfl, rfl⟩ := id hxy
    refine tw_aload0 C d_d_bestWith_9 ?_
    refine g_d2 C d_d_bestWith_10 ?_
    refine tw_iload1 C d_d_bestWith_13 ?_
    refine tw_bipush C d_d_bestWith_14 rfl ?_
    refine tw_imul C d_d_bestWith_16 ?_
    refine tw_iload2 C d_d_bestWith_17 ?_
    refine tw_iadd C d_d_bestWith_18 ?_
    refine al_d2 C (((x * 7) + y)) d_d_bestWith_19 (by omega) (by omega) rfl ?_
    have r2 := hT.1.2.2.2.1 (x * 7 + y)
    refine tw_iconst C d_d_bestWith_20 ?_
    refine tw_icmp_ne C d_d_bestWith_21 (by omega) (by omega) (fun u21 => ?_) (fun u21 => ?_)
    · refine tw_aload0 C d_d_bestWith_26 ?_
      refine tw_callv C (td_ok q kz) (c_d_askPlainly (S := S) hT.1.2.2.2.1) cs_d_d_askPlainly ⟨⟨rfl, rfl⟩, by decide, by decide⟩ rfl rfl rfl rfl rfl (Nat.le_of_ble_eq_true rfl) d_d_bestWith_27 (fun z27 hp27 => ?_)
      replace hp27 : z27 = aqS S := hp27
      subst hp27
      have hEa := aq_ec hT.1
      refine tw_aload0 C d_d_bestWith_30 ?_
      refine tw_iload1 C d_d_bestWith_31 ?_
      refine tw_iload2 C d_d_bestWith_32 ?_
      refine tw_iconst C d_d_bestWith_33 ?_
      refine tw_callv C (td_ok q kz) (c_d_decide (S := aqS S) (a := x) (b := y) (v := 1) (by omega) (by omega) (by decide)) cs_d_d_decide ⟨⟨rfl, rfl⟩, by decide, by decide⟩ rfl rfl rfl rfl rfl (Nat.le_of_ble_eq_true rfl) d_d_bestWith_34 (fun z34 hp34 => ?_)
      subst hp34
      refine tw_aload0 C d_d_bestWith_37 ?_
      refine tw_calli C (td_ok q kz) (c_d_solve (S0 := decS (aqS S) x y 1) (n := n) hT.1.1 (hEa.dec hx hy hne (by decide))) cs_d_d_solve ⟨⟨rfl, rfl⟩, by decide, by decide⟩ rfl rfl rfl rfl rfl (Nat.le_of_ble_eq_true rfl) d_d_bestWith_38 (fun r38 z38 hp38 => ?_)
      obtain ⟨hs1, hs2⟩ := hp38
      have hds := decS_xy (aqS S) (x := x) (y := y) (by omega) 1
      have g1 : ∀ f, f < 3 ∨ 11 < f → z38 f = S f := fun f hf => by
        rw [hs1 f (by omega), hds]
        show (if f = 3 then _ else aqS S f) = S f
        rw [if_neg (by omega)]
        exact cpS_f S 49 (by omega)
      have g3 : z38 3 = dec1 (aqS S 3) (x * 7 + y) 1 := by rw [hs1 3 (by omega), hds]; rfl
      have hop : OptP n (S 1) (fun c => Fits n (S 2) c ∧ Adj n c x y) r38 := by
        rw [hds] at hs2
        have hs3 : Opt n (aqS S 1) (dec1 (aqS S 3) (x * 7 + y) 1) r38 := hs2
        rw [show aqS S 1 = S 1 from cpS_f S 49 (by decide)] at hs3
        exact OptP.congr hs3 (fun c ht => (fits_with h7 hx hy hne hEa.2.2.2.1 (by rw [aq_3 S (by omega)]; exact u21)).trans (and_congr (aq_fits h7 ht) Iff.rfl))
      exact hR _ _ _ _ _ d_d_bestWith_41 rfl (⟨hT.keep g1 (by rw [g3]; exact dec1_rng (by decide) hEa.2.2.2.2.2), g1 1 (by omega), g1 2 (by omega), g1 12 (by omega), g1 13 (by omega), Or.inr ⟨x, y, hxy, hop⟩⟩)
    · refine tw_iconst C d_d_bestWith_24 ?_
      exact hR _ _ _ _ _ d_d_bestWith_25 rfl (⟨hT, rfl, rfl, rfl, rfl, Or.inr ⟨x, y, hxy, Or.inl ⟨rfl, fun c ht q => fits_not hx hy hT.1.2.2.2.2.2.1 q.1 u21 q.2⟩⟩⟩)
set_option maxRecDepth 20000 in
theorem c_d_bestWithout {q : Nat → Nat} {kz : ClassId × ClassId × ClassId} {S : TS} {n : Nat} (hT : TDI n S) {a b : Int} (ha : inR a) (hb : inR b) : ∀ l : Launch, MI l y_d_bestWithout b_d_bestWithout 3 .int ({ frames := 7, cells := 0, slots := 0, locals := 158 }) (td_ws q kz) (ty_k kz) [.ref (q 0), .int (iI a), .int (iI b)] S (fun r S' => TDI n S' ∧ S' 1 = S 1 ∧ S' 2 = S 2 ∧ S' 12 = S 12 ∧ S' 13 = S 13 ∧ boP n (S 1) (S 2) a b r) := by
  refine mi_of (td_ok q kz) (by decide) (Nat.le_of_ble_eq_true rfl) (by simp [Value.category]) (Nat.le_of_ble_eq_true rfl) ?_
  intro X C hR
  show TW X (td_ws q kz) S 0 [some (.ref (q 0)), some (.int (iI a)), some (.int (iI b))] []
  have h7 := hT.1.2.1.2
  have h3n := hT.1.2.1.1
  refine tw_aload0 C d_d_bestWithout_0 ?_
  refine tw_iload1 C d_d_bestWithout_1 ?_
  refine tw_iload2 C d_d_bestWithout_2 ?_
  refine tw_calli C (td_ok q kz) (c_d_isLink (S := S) (n := n) (a := a) (b := b) hT.1.1 h7 ha hb) cs_d_d_isLink ⟨⟨rfl, rfl⟩, by decide, by decide⟩ rfl rfl rfl rfl rfl (Nat.le_of_ble_eq_true rfl) d_d_bestWithout_3 (fun r3 z3 hp3 => ?_)
  obtain ⟨hz, hp3⟩ := hp3
  replace hz := hz.symm
  subst hz
  have hr3 : r3 = 0 ∨ r3 = 1 := hp3.elim (fun q => Or.inr q.1) (fun q => Or.inl q.1)
  refine tw_if_eq C d_d_bestWithout_6 (by omega) (fun u6 => ?_) (fun u6 => ?_)
  · refine tw_iconst C d_d_bestWithout_24 ?_
    exact hR _ _ _ _ _ d_d_bestWithout_25 rfl (⟨hT, rfl, rfl, rfl, rfl, Or.inl ⟨(by rcases hp3 with q | q; exact absurd (u6.symm.trans q.1) (by decide); exact q.2), rfl⟩⟩)
  · obtain ⟨x, y, hxy⟩ : ∃ x y, lkE n a b x y := lkI.e (by rcases hp3 with q | q; exact q.2; exact absurd q.1 u6)
    obtain ⟨hx, hy, hne, rfl, rfl⟩ := id hxy
    refine tw_aload0 C d_d_bestWithout_9 ?_
    refine g_d2 C d_d_bestWithout_10 ?_
    refine tw_iload1 C d_d_bestWithout_13 ?_
    refine tw_bipush C d_d_bestWithout_14 rfl ?_
    refine tw_imul C d_d_bestWithout_16 ?_
    refine tw_iload2 C d_d_bestWithout_17 ?_
    refine tw_iadd C d_d_bestWithout_18 ?_
    refine al_d2 C (((x * 7) + y)) d_d_bestWithout_19 (by omega) (by omega) rfl ?_
    have r2 := hT.1.2.2.2.1 (x * 7 + y)
    refine tw_iconst C d_d_bestWithout_20 ?_
    refine tw_icmp_ne C d_d_bestWithout_21 (by omega) (by omega) (fun u21 => ?_) (fun u21 => ?_)
    · refine tw_aload0 C d_d_bestWithout_26 ?_
      refine tw_callv C (td_ok q kz) (c_d_askPlainly (S := S) hT.1.2.2.2.1) cs_d_d_askPlainly ⟨⟨rfl, rfl⟩, by decide, by decide⟩ rfl rfl rfl rfl rfl (Nat.le_of_ble_eq_true rfl) d_d_bestWithout_27 (fun z27 hp27 => ?_)
      replace hp27 : z27 = aqS S := hp27
      subst hp27
      have hEa := aq_ec hT.1
      refine tw_aload0 C d_d_bestWithout_30 ?_
      refine tw_iload1 C d_d_bestWithout_31 ?_
      refine tw_iload2 C d_d_bestWithout_32 ?_
      refine tw_iconst C d_d_bestWithout_33 ?_
      refine tw_callv C (td_ok q kz) (c_d_decide (S := aqS S) (a := x) (b := y) (v := 2) (by omega) (by omega) (by decide)) cs_d_d_decide ⟨⟨rfl, rfl⟩, by decide, by decide⟩ rfl rfl rfl rfl rfl (Nat.le_of_ble_eq_true rfl) d_d_bestWithout_34 (fun z34 hp34 => ?_)
      subst hp34
      refine tw_aload0 C d_d_bestWithout_37 ?_
      refine tw_calli C (td_ok q kz) (c_d_solve (S0 := decS (aqS S) x y 2) (n := n) hT.1.1 (hEa.dec hx hy hne (by decide))) cs_d_d_solve ⟨⟨rfl, rfl⟩, by decide, by decide⟩ rfl rfl rfl rfl rfl (Nat.le_of_ble_eq_true rfl) d_d_bestWithout_38 (fun r38 z38 hp38 => ?_)
      obtain ⟨hs1, hs2⟩ := hp38
      have hds := decS_xy (aqS S) (x := x) (y := y) (by omega) 2
      have g1 : ∀ f, f < 3 ∨ 11 < f → z38 f = S f := fun f hf => by
        rw [hs1 f (by omega), hds]
        show (if f = 3 then _ else aqS S f) = S f
        rw [if_neg (by omega)]
        exact cpS_f S 49 (by omega)
      have g3 : z38 3 = dec1 (aqS S 3) (x * 7 + y) 2 := by rw [hs1 3 (by omega), hds]; rfl
      have hop : OptP n (S 1) (fun c => Fits n (S 2) c ∧ ¬ Adj n c x y) r38 := by
        rw [hds] at hs2
        have hs3 : Opt n (aqS S 1) (dec1 (aqS S 3) (x * 7 + y) 2) r38 := hs2
        rw [show aqS S 1 = S 1 from cpS_f S 49 (by decide)] at hs3
        exact OptP.congr hs3 (fun c ht => (fits_without h7 ht hx hy hEa.2.2.2.1 (by rw [aq_3 S (by omega)]; exact u21)).trans (and_congr (aq_fits h7 ht) Iff.rfl))
      exact hR _ _ _ _ _ d_d_bestWithout_41 rfl (⟨hT.keep g1 (by rw [g3]; exact dec1_rng (by decide) hEa.2.2.2.2.2), g1 1 (by omega), g1 2 (by omega), g1 12 (by omega), g1 13 (by omega), Or.inr ⟨x, y, hxy, hop⟩⟩)
    · refine tw_iconst C d_d_bestWithout_24 ?_
      exact hR _ _ _ _ _ d_d_bestWithout_25 rfl (⟨hT, rfl, rfl, rfl, rfl, Or.inr ⟨x, y, hxy, Or.inl ⟨rfl, fun c ht q => q.2 (fits_has hx hy hne hT.1.2.2.2.2.2.1 q.1 u21)⟩⟩⟩)
theorem nb_iff {n : Nat} {M R : Nat → Int} {o r : Int} {x j : Nat} (hn : 3 ≤ n) (h0 : 0 ≤ o) (ho : Opt n M R o) (hx : x < n) (hj : j < n) (h : bwP n M R (x : Int) (j : Int) r) : r = o ↔ ∃ c, Tour n c ∧ Fits n R c ∧ Cost n M c = o ∧ Adj n c x j := by
  have hall : ∀ c, Tour n c → Fits n R c → o ≤ Cost n M c := by
    rcases ho with q | q
    · omega
    · exact q.2.2
  rcases h with ⟨h1, h2⟩ | ⟨x', y', h1, h2⟩
  · constructor
    · intro e; omega
    · rintro ⟨c, c1, c2, c3, k, hk, ⟨e1, e2⟩ | ⟨e1, e2⟩⟩
      · exfalso
        have := c1.ne hn hk
        exact h1 (by unfold lkI; omega)
      · exfalso
        have := c1.ne hn hk
        exact h1 (by unfold lkI; omega)
  · have e1 : x' = x := by unfold lkE at h1; omega
    have e2 : y' = j := by unfold lkE at h1; omega
    subst e1; subst e2
    constructor
    · intro e
      rcases h2 with ⟨q, -⟩ | ⟨-, ⟨c, c1, c2, c3⟩, -⟩
      · omega
      · exact ⟨c, c1, c2.1, by omega, c2.2⟩
    · rintro ⟨c, c1, c2, c3, c4⟩
      rcases h2 with ⟨-, q⟩ | ⟨-, ⟨d, d1, d2, d3⟩, q⟩
      · exact absurd ⟨c2, c4⟩ (q c c1)
      · have := q c c1 ⟨c2, c4⟩
        have := hall d d1 d2.1
        omega
theorem bit_0 : ∀ i, i < 7 → bitN 0 i = 0 := by decide +kernel
def nbI (n : Nat) (M R : Nat → Int) (o : Int) (x j m : Nat) : Prop := m < 128 ∧ ∀ i, i < 7 → (bitN m i = 1 ↔ (i < j ∧ ∃ c, Tour n c ∧ Fits n R c ∧ Cost n M c = o ∧ Adj n c x i))
theorem nbI_0 (n : Nat) (M R : Nat → Int) (o : Int) (x : Nat) : nbI n M R o x 0 0 := ⟨by decide, fun i hi => by rw [bit_0 i hi]; exact ⟨fun q => absurd q (by decide), fun q => absurd q.1 (Nat.not_lt_zero _)⟩⟩
theorem nbI_no {n : Nat} {M R : Nat → Int} {o : Int} {x j m : Nat} (h : nbI n M R o x j m) (hq : ¬ ∃ c, Tour n c ∧ Fits n R c ∧ Cost n M c = o ∧ Adj n c x j) : nbI n M R o x (j + 1) m := by
  refine ⟨h.1, fun i hi => ?_⟩
  rw [h.2 i hi]
  constructor
  · rintro ⟨a, b⟩; exact ⟨by omega, b⟩
  · rintro ⟨a, b⟩
    by_cases e : i = j
    · subst e; exact absurd b hq
    · exact ⟨by omega, b⟩
theorem nbI_yes {n : Nat} {M R : Nat → Int} {o : Int} {x j m : Nat} (hj : j < 7) (h : nbI n M R o x j m) (hq : ∃ c, Tour n c ∧ Fits n R c ∧ Cost n M c = o ∧ Adj n c x j) : nbI n M R o x (j + 1) (m ||| 2 ^ j) := by
  obtain ⟨b1, b2⟩ := bit_or h.1 hj
  refine ⟨b1, fun i hi => ?_⟩
  rw [b2 i hi]
  by_cases e : i = j
  · subst e
    rw [if_pos rfl]
    exact ⟨fun _ => ⟨by omega, hq⟩, fun _ => rfl⟩
  · rw [if_neg e, h.2 i hi]
    constructor
    · rintro ⟨a, b⟩; exact ⟨by omega, b⟩
    · rintro ⟨a, b⟩; exact ⟨by omega, b⟩
set_option maxRecDepth 20000 in
theorem c_d_neighbours {q : Nat → Nat} {kz : ClassId × ClassId × ClassId} {S : TS} {n : Nat} (hT : TDI n S) {a : Int} (ha : inR a) : ∀ l : Launch, MI l y_d_neighbours b_d_neighbours 5 .int ({ frames := 9, cells := 0, slots := 0, locals := 206 }) (td_ws q kz) (ty_k kz) [.ref (q 0), .int (iI a)] S (fun r S' => TDI n S' ∧ S' 1 = S 1 ∧ S' 2 = S 2 ∧ nbP n (S 1) (S 2) a r) := by
  refine mi_of (td_ok q kz) (by decide) (Nat.le_of_ble_eq_true rfl) (by simp [Value.category]) (Nat.le_of_ble_eq_true rfl) ?_
  intro X C hR
  show TW X (td_ws q kz) S 0 [some (.ref (q 0)), some (.int (iI a)), none, none, none] []
  refine tw_aload0 C d_d_neighbours_0 ?_
  refine tw_callv C (td_ok q kz) (c_d_findTour (S := S) (n := n) hT) cs_d_d_findTour ⟨⟨rfl, rfl⟩, by decide, by decide⟩ rfl rfl rfl rfl rfl (Nat.le_of_ble_eq_true rfl) d_d_neighbours_1 (fun z1 hp1 => ?_)
  obtain ⟨t1, t2, t3, t4⟩ := hp1
  have hkn : KN n z1 := by rcases t1.2 with q | q; exfalso; omega; exact q.2
  have h7 := t1.1.2.1.2
  have h13 := OptP.rng h7 t1.1.2.2.1 hkn.1
  refine tw_iload1 C d_d_neighbours_4 ?_
  refine tw_if_lt C d_d_neighbours_5 (by omega) (fun u5 => ?_) (fun u5 => ?_)
  · refine tw_iconst C d_d_neighbours_23 ?_
    exact hR _ _ _ _ _ d_d_neighbours_24 rfl (⟨t1, t2, t3, Or.inl ⟨rfl, by omega⟩⟩)
  · refine tw_iload1 C d_d_neighbours_8 ?_
    refine tw_aload0 C d_d_neighbours_9 ?_
    refine g_d0 C d_d_neighbours_10 t1.1.1 ?_
    refine tw_icmp_ge C d_d_neighbours_13 (by omega) (by omega) (fun u13 => ?_) (fun u13 => ?_)
    · refine tw_iconst C d_d_neighbours_23 ?_
      exact hR _ _ _ _ _ d_d_neighbours_24 rfl (⟨t1, t2, t3, Or.inl ⟨rfl, by omega⟩⟩)
    · refine tw_aload0 C d_d_neighbours_16 ?_
      refine g_d13 C d_d_neighbours_17 rfl ?_
      refine tw_if_ge C d_d_neighbours_20 (by omega) (fun u20 => ?_) (fun u20 => ?_)
      · obtain ⟨x, rfl⟩ : ∃ x : Nat, a = (x : Int) := ⟨a.toNat, by omega⟩
        have hx : x < n := by omega
        have h3n := hT.1.2.1.1
        have h0 : 0 ≤ z1 13 0 := u20
        have hop : Opt n (S 1) (S 2) (z1 13 0) := by rw [← t2, ← t3]; exact hkn.1
        refine tw_iconst C d_d_neighbours_25 ?_
        refine tw_istore2 C d_d_neighbours_26 ?_
        refine tw_iconst C d_d_neighbours_27 ?_
        refine tw_istore3 C d_d_neighbours_28 ?_
        suffices hl29 : ∀ (f29 : Nat) (j m : Nat) (S1 : TS), n < j + f29 → j ≤ n → TDI n S1 → S1 1 = S 1 → S1 2 = S 2 → S1 13 = z1 13 → nbI n (S 1) (S 2) (z1 13 0) x j m → TW X (td_ws q kz) (S1) 29 [some (.ref (q 0)), some (.int (iI x)), some (.int (iI m)), some (.int (iI j)), none] [] from hl29 (n + 1) 0 0 z1 (by omega) (by omega) t1 t2 t3 rfl (nbI_0 _ _ _ _ _)
        intro f29
        induction f29 with
        | zero => intro j m S1 h1 h2 hT1 e1 e2 e13 hI; exfalso; omega
        | succ f29 ih29 =>
          intro j m S1 h1 h2 hT1 e1 e2 e13 hI
          refine tw_iload3 C d_d_neighbours_29 ?_
          refine tw_aload0 C d_d_neighbours_30 ?_
          refine g_d0 C d_d_neighbours_31 hT1.1.1 ?_
          refine tw_icmp_ge C d_d_neighbours_34 (by omega) (by omega) (fun u34 => ?_) (fun u34 => ?_)
          · refine tw_iload2 C d_d_neighbours_66 ?_
            exact hR _ _ _ _ _ d_d_neighbours_67 rfl (⟨hT1, e1, e2, Or.inr ⟨x, m, z1 13 0, hx, rfl, rfl, hI.1, h0, hop, by rw [show j = n by omega] at hI; exact hI.2⟩⟩)
          · refine tw_aload0 C d_d_neighbours_37 ?_
            refine tw_iload1 C d_d_neighbours_38 ?_
            refine tw_iload3 C d_d_neighbours_39 ?_
            refine tw_calli C (td_ok q kz) (c_d_bestWith (S := S1) (n := n) (a := (x : Int)) (b := (j : Int)) hT1 (by omega) (by omega)) cs_d_d_bestWith ⟨⟨rfl, rfl⟩, by decide, by decide⟩ rfl rfl rfl rfl rfl (Nat.le_of_ble_eq_true rfl) d_d_neighbours_40 (fun r40 z40 hp40 => ?_)
            obtain ⟨v1, v2, v3, v4, v5, v6⟩ := hp40
            rw [e1, e2] at v6
            have hr40 := v6.rng h7 hT.1.2.2.1
            have hnb := nb_iff h3n h0 hop hx (by omega : j < n) v6
            refine tw_istore4 C d_d_neighbours_43 ?_
            refine tw_iload4 C d_d_neighbours_45 ?_
            refine tw_aload0 C d_d_neighbours_47 ?_
            refine g_d13 C d_d_neighbours_48 (show _ = z1 13 0 by rw [v5, e13]) ?_
            refine tw_icmp_ne C d_d_neighbours_51 (by omega) (by omega) (fun u51 => ?_) (fun u51 => ?_)
            · refine tw_iinc3 C d_d_neighbours_60 ?_
              refine tw_goto C d_d_neighbours_63 ?_
              exact tw_drop 4 (ih29 (j + 1) m z40 (by omega) (by omega) v1 (v2.trans e1) (v3.trans e2) (v5.trans e13) (nbI_no hI (fun q => u51 (hnb.mpr q))))
            · refine tw_iload2 C d_d_neighbours_54 ?_
              refine tw_iconst C d_d_neighbours_55 ?_
              refine tw_iload3 C d_d_neighbours_56 ?_
              refine tw_ishl C d_d_neighbours_57 (sh_l j (by omega)) ?_
              refine tw_ior C d_d_neighbours_58 (or_b m hI.1 j (by omega)) ?_
              refine tw_istore2 C d_d_neighbours_59 ?_
              refine tw_iinc3 C d_d_neighbours_60 ?_
              refine tw_goto C d_d_neighbours_63 ?_
              exact tw_drop 4 (ih29 (j + 1) _ z40 (by omega) (by omega) v1 (v2.trans e1) (v3.trans e2) (v5.trans e13) (nbI_yes (by omega) hI (hnb.mp u51)))
      · refine tw_iconst C d_d_neighbours_23 ?_
        exact hR _ _ _ _ _ d_d_neighbours_24 rfl (⟨t1, t2, t3, Or.inl ⟨rfl, Or.inl (fun c ht hf => by rcases hkn.1 with q | q; exact q.2 c ht (by rw [t3]; exact hf); omega)⟩⟩)
set_option maxRecDepth 20000 in
theorem c_d_limit {q : Nat → Nat} {kz : ClassId × ClassId × ClassId} {S : TS} {n : Nat} (hT : TDI n S) {a b : Int} (ha : inR a) (hb : inR b) : ∀ l : Launch, MI l y_d_limit b_d_limit 6 .int ({ frames := 8, cells := 0, slots := 0, locals := 180 }) (td_ws q kz) (ty_k kz) [.ref (q 0), .int (iI a), .int (iI b)] S (fun r S' => TDI n S' ∧ S' 1 = S 1 ∧ S' 2 = S 2 ∧ lmP n (S 1) (S 2) a b r) := by
  refine mi_of (td_ok q kz) (by decide) (Nat.le_of_ble_eq_true rfl) (by simp [Value.category]) (Nat.le_of_ble_eq_true rfl) ?_
  intro X C hR
  show TW X (td_ws q kz) S 0 [some (.ref (q 0)), some (.int (iI a)), some (.int (iI b)), none, none, none] []
  have h7 := hT.1.2.1.2
  have h3n := hT.1.2.1.1
  refine tw_aload0 C d_d_limit_0 ?_
  refine tw_iload1 C d_d_limit_1 ?_
  refine tw_iload2 C d_d_limit_2 ?_
  refine tw_calli C (td_ok q kz) (c_d_bestWith (S := S) (n := n) (a := a) (b := b) hT ha hb) cs_d_d_bestWith ⟨⟨rfl, rfl⟩, by decide, by decide⟩ rfl rfl rfl rfl rfl (Nat.le_of_ble_eq_true rfl) d_d_limit_3 (fun r3 z3 hp3 => ?_)
  obtain ⟨v1, v2, v3, v4, v5, v6⟩ := hp3
  have hr3 := v6.rng h7 hT.1.2.2.1
  refine tw_istore3 C d_d_limit_6 ?_
  refine tw_iload3 C d_d_limit_7 ?_
  refine tw_if_ge C d_d_limit_8 (by omega) (fun u8 => ?_) (fun u8 => ?_)
  · obtain ⟨x, y, hxy⟩ : ∃ x y, lkE n a b x y := by rcases v6 with q | ⟨x, y, q, -⟩; exfalso; omega; exact ⟨x, y, q⟩
    obtain ⟨hx, hy, hne, rfl, rfl⟩ := id hxy
    refine tw_aload0 C d_d_limit_13 ?_
    refine tw_iload1 C d_d_limit_14 ?_
    refine tw_iload2 C d_d_limit_15 ?_
    refine tw_calli C (td_ok q kz) (c_d_bestWithout (S := z3) (n := n) (a := (x : Int)) (b := (y : Int)) v1 ha hb) cs_d_d_bestWithout ⟨⟨rfl, rfl⟩, by decide, by decide⟩ rfl rfl rfl rfl rfl (Nat.le_of_ble_eq_true rfl) d_d_limit_16 (fun r16 z16 hp16 => ?_)
    obtain ⟨y1, y2, y3, y4, y5, y6⟩ := hp16
    rw [v2, v3] at y6
    have hr16 := y6.rng h7 hT.1.2.2.1
    refine tw_istore4 C d_d_limit_19 ?_
    refine tw_iload3 C d_d_limit_21 ?_
    refine tw_aload0 C d_d_limit_22 ?_
    refine g_d1 C d_d_limit_23 ?_
    refine tw_iload1 C d_d_limit_26 ?_
    refine tw_bipush C d_d_limit_27 rfl ?_
    refine tw_imul C d_d_limit_29 ?_
    refine tw_iload2 C d_d_limit_30 ?_
    refine tw_iadd C d_d_limit_31 ?_
    refine al_d1 C (((x * 7) + y)) d_d_limit_32 (by omega) (by omega) (show _ = S 1 (x * 7 + y) by rw [y2, v2]) ?_
    have r1 := hT.1.2.2.1 (x * 7 + y)
    refine tw_isub C d_d_limit_33 ?_
    refine tw_istore5 C d_d_limit_34 ?_
    refine tw_iload4 C d_d_limit_36 ?_
    refine tw_if_lt C d_d_limit_38 (by omega) (fun u38 => ?_) (fun u38 => ?_)
    · refine tw_bipush C d_d_limit_51 rfl ?_
      exact hR _ _ _ _ _ d_d_limit_53 rfl (⟨y1, y2.trans v2, y3.trans v3, r3, v6, Or.inr ⟨u8, r16, y6, x, y, hxy, by unfold limF; rw [if_pos (by omega)]⟩⟩)
    · refine tw_iload4 C d_d_limit_41 ?_
      refine tw_iload5 C d_d_limit_43 ?_
      refine tw_isub C d_d_limit_45 ?_
      refine tw_bipush C d_d_limit_46 rfl ?_
      refine tw_icmp_le C d_d_limit_48 (by omega) (by omega) (fun u48 => ?_) (fun u48 => ?_)
      · refine tw_iload4 C d_d_limit_54 ?_
        refine tw_iload5 C d_d_limit_56 ?_
        refine tw_icmp_ge C d_d_limit_58 (by omega) (by omega) (fun u58 => ?_) (fun u58 => ?_)
        · refine tw_iload4 C d_d_limit_65 ?_
          refine tw_iload5 C d_d_limit_67 ?_
          refine tw_isub C d_d_limit_69 ?_
          exact hR _ _ _ _ _ d_d_limit_70 rfl (⟨y1, y2.trans v2, y3.trans v3, r3, v6, Or.inr ⟨u8, r16, y6, x, y, hxy, by unfold limF; rw [if_neg (by omega), if_neg (by omega)]⟩⟩)
        · refine tw_iconst C d_d_limit_61 ?_
          refine tw_goto C d_d_limit_62 ?_
          exact hR _ _ _ _ _ d_d_limit_70 rfl (⟨y1, y2.trans v2, y3.trans v3, r3, v6, Or.inr ⟨u8, r16, y6, x, y, hxy, by unfold limF; rw [if_neg (by omega), if_pos (by omega)]⟩⟩)
      · refine tw_bipush C d_d_limit_51 rfl ?_
        exact hR _ _ _ _ _ d_d_limit_53 rfl (⟨y1, y2.trans v2, y3.trans v3, r3, v6, Or.inr ⟨u8, r16, y6, x, y, hxy, by unfold limF; rw [if_pos (by omega)]⟩⟩)
  · refine tw_iconst C d_d_limit_11 ?_
    exact hR _ _ _ _ _ d_d_limit_12 rfl (⟨v1, v2, v3, r3, v6, Or.inl ⟨u8, rfl⟩⟩)
end
section
/-! ===== the plain form: tours in the dictionary order ===== -/
def nthG (set skip : Nat) : Nat → Nat → Nat → Nat
  | 0, _, _ => 0
  | f + 1, c, less => if bitN set c = 1 then (if less = skip then c else nthG set skip f (c + 1) (less + 1)) else nthG set skip f (c + 1) less
def fac : Nat → Nat
  | 0 => 1
  | k + 1 => (k + 1) * fac k
/-- rest, block, left, list behind k places -/
def spq (n t : Nat) : Nat → Nat × Nat × Nat × List Nat
  | 0 => (t, fac (n - 1), 2 ^ n - 2, [0])
  | j + 1 =>
    let p := spq n t j
    let blk := p.2.1 / (n - (j + 1))
    let skip := if 0 < blk then p.1 / blk else 0
    let c := nthG p.2.2.1 skip 7 0 0
    (if 0 < blk then p.1 % blk else 0, blk, p.2.2.1 - 2 ^ c * bitN p.2.2.1 c, p.2.2.2 ++ [c])
def spL (n t : Nat) : List Nat := (spq n t (n - 1)).2.2.2
def spT (n t : Nat) : Nat → Nat := fun k => (spL n t).getD k 0
def rkL (n : Nat) : List Nat → Nat → Nat
  | [], _ => 0
  | x :: l, k => (l.filter (fun y => y < x)).length * fac k + rkL n l (k - 1)
def rk (n : Nat) (l : List Nat) : Nat := rkL n l.tail (n - 2)
def ndB : List Nat → Bool
  | [] => true
  | x :: l => !(l.contains x) && ndB l
def okB (n t : Nat) : Bool := ((spL n t).length == n) && (((spL n t).head? == some 0) && ((spL n t).all (fun x => decide (x < n)) && ndB (spL n t)))
def lexB : List Nat → List Nat → Bool
  | x :: l, y :: m => decide (x < y) || (decide (x = y) && lexB l m)
  | _, _ => false
def cmB (n : Nat) : Nat → List Nat → Bool
  | 0, l => decide (rk n l < fac (n - 1)) && (spL n (rk n l) == l)
  | f + 1, l => (List.range n).all (fun x => l.contains x || cmB n f (l ++ [x]))
def chk (n : Nat) : Bool := (List.range (fac (n - 1))).all (okB n) && ((List.range (fac (n - 1) - 1)).all (fun t => lexB (spL n t) (spL n (t + 1))) && cmB n (n - 1) [0])
theorem chk3 : chk 3 = true := by decide +kernel
theorem chk4 : chk 4 = true := by decide +kernel
theorem chk5 : chk 5 = true := by decide +kernel
theorem chk6 : chk 6 = true := by decide +kernel
theorem chk7 : chk 7 = true := by decide +kernel
theorem chk_n {n : Nat} (h : 3 ≤ n ∧ n ≤ 7) : chk n = true := by
  have : n = 3 ∨ n = 4 ∨ n = 5 ∨ n = 6 ∨ n = 7 := by omega
  rcases this with rfl | rfl | rfl | rfl | rfl
  · exact chk3
  · exact chk4
  · exact chk5
  · exact chk6
  · exact chk7
end
section
/-! ===== what the check says: all tours, each once, in the dictionary order ===== -/
theorem ndB_inj : ∀ (l : List Nat), ndB l = true → ∀ (i j x : Nat), l[i]? = some x → l[j]? = some x → i = j := by
  intro l
  induction l with
  | nil => intro _ i j x h; simp at h
  | cons a l ih =>
    intro h i j x hi hj
    simp only [ndB, Bool.and_eq_true, Bool.not_eq_true'] at h
    have hc : ∀ k : Nat, l[k]? = some a → False := fun k hk => by
      have := List.mem_of_getElem? hk
      have h2 : l.contains a = true := List.contains_iff_mem.mpr this
      rw [h.1] at h2; exact absurd h2 (by decide)
    cases i with
    | zero =>
      cases j with
      | zero => rfl
      | succ j =>
        simp at hi hj
        subst hi
        exact absurd hj (fun q => hc j q)
    | succ i =>
      cases j with
      | zero =>
        simp at hi hj
        subst hj
        exact absurd hi (fun q => hc i q)
      | succ j =>
        simp at hi hj
        rw [ih h.2 i j x hi hj]
theorem spT_tour {n t : Nat} (hn : 3 ≤ n ∧ n ≤ 7) (ht : t < fac (n - 1)) : Tour n (spT n t) := by
  have h := chk_n hn
  simp only [chk, Bool.and_eq_true] at h
  have h1 := List.all_eq_true.mp h.1 t (List.mem_range.mpr ht)
  simp only [okB, Bool.and_eq_true, beq_iff_eq] at h1
  obtain ⟨hl, h0, ha, hd⟩ := h1
  have get : ∀ k, k < n → (spL n t)[k]? = some (spT n t k) := fun k hk => by
    unfold spT
    rw [List.getD_eq_getElem?_getD, List.getElem?_eq_getElem (by omega)]
    rfl
  refine ⟨?_, ?_, fun k hk => ?_, fun i j hi hj e => ?_⟩
  · unfold spT
    rw [List.getD_eq_getElem?_getD, ← List.head?_eq_getElem?, h0]
    rfl
  · unfold spT
    rw [List.getD_eq_getElem?_getD, List.getElem?_eq_none (by omega)]
    rfl
  · exact of_decide_eq_true (List.all_eq_true.mp ha _ (List.mem_of_getElem? (get k hk)))
  · have a := get i hi
    have b := get j hj
    rw [← e] at b
    exact ndB_inj _ hd i j _ a b
def lexlt (n : Nat) (c d : Nat → Nat) : Prop := ∃ j, j < n ∧ (∀ i, i < j → d i = c i) ∧ c j < d j
theorem lexlt.trans {n : Nat} {c d e : Nat → Nat} (h : lexlt n c d) (g : lexlt n d e) : lexlt n c e := by
  obtain ⟨i, i1, i2, i3⟩ := h
  obtain ⟨j, j1, j2, j3⟩ := g
  rcases Nat.lt_trichotomy i j with q | q | q
  · exact ⟨i, i1, fun k hk => by rw [j2 k (by omega), i2 k hk], by rw [j2 i q]; exact i3⟩
  · subst q
    exact ⟨i, i1, fun k hk => by rw [j2 k hk, i2 k hk], by omega⟩
  · exact ⟨j, j1, fun k hk => by rw [j2 k hk, i2 k (by omega)], by rw [← i2 j q]; exact j3⟩
theorem lexB_lt : ∀ (l m : List Nat), lexB l m = true → ∃ j, j < l.length ∧ (∀ i, i < j → m.getD i 0 = l.getD i 0) ∧ l.getD j 0 < m.getD j 0 := by
  intro l
  induction l with
  | nil => intro m h; simp [lexB] at h
  | cons x l ih =>
    intro m h
    cases m with
    | nil => simp [lexB] at h
    | cons y m =>
      simp only [lexB, Bool.or_eq_true, Bool.and_eq_true, decide_eq_true_eq] at h
      rcases h with h | ⟨rfl, h⟩
      · exact ⟨0, by simp, fun i hi => absurd hi (Nat.not_lt_zero _), by simpa using h⟩
      · obtain ⟨j, j1, j2, j3⟩ := ih m h
        refine ⟨j + 1, by simp; omega, fun i hi => ?_, by simpa using j3⟩
        cases i with
        | zero => simp
        | succ i => simpa using j2 i (by omega)
theorem spT_lex {n : Nat} (hn : 3 ≤ n ∧ n ≤ 7) {t : Nat} : ∀ {u : Nat}, t < u → u < fac (n - 1) → lexlt n (spT n t) (spT n u) := by
  have h := chk_n hn
  simp only [chk, Bool.and_eq_true] at h
  have step : ∀ t, t + 1 < fac (n - 1) → lexlt n (spT n t) (spT n (t + 1)) := fun t ht => by
    have h2 := List.all_eq_true.mp h.2.1 t (List.mem_range.mpr (by omega))
    obtain ⟨j, j1, j2, j3⟩ := lexB_lt _ _ h2
    have h1 := List.all_eq_true.mp h.1 t (List.mem_range.mpr (by omega))
    simp only [okB, Bool.and_eq_true, beq_iff_eq] at h1
    exact ⟨j, by rw [h1.1] at j1; exact j1, j2, j3⟩
  intro u
  induction u with
  | zero => intro h; omega
  | succ u ih =>
    intro h1 h2
    by_cases e : t = u
    · subst e; exact step t h2
    · exact (ih (by omega) (by omega)).trans (step u h2)
theorem cmB_all {n : Nat} {c : Nat → Nat} (ht : Tour n c) : ∀ (f m : Nat), m + f = n → cmB n f ((List.range m).map c) = true → ∃ t, t < fac (n - 1) ∧ spL n t = (List.range n).map c := by
  intro f
  induction f with
  | zero =>
    intro m hm h
    have e : m = n := by omega
    subst e
    simp only [cmB, Bool.and_eq_true, decide_eq_true_eq, beq_iff_eq] at h
    exact ⟨_, h.1, h.2⟩
  | succ f ih =>
    intro m hm h
    simp only [cmB] at h
    have h1 := List.all_eq_true.mp h (c m) (List.mem_range.mpr (ht.2.2.1 m (by omega)))
    rw [Bool.or_eq_true] at h1
    have hno : ¬ ((List.range m).map c).contains (c m) = true := fun q => by
      have := List.contains_iff_mem.mp q
      obtain ⟨i, hi, e⟩ := List.mem_map.mp this
      have hi := List.mem_range.mp hi
      have := ht.2.2.2 i m (by omega) (by omega) e
      omega
    refine ih (m + 1) (by omega) ?_
    rw [List.range_succ, List.map_append]
    exact h1.resolve_left hno
theorem spT_all {n : Nat} (hn : 3 ≤ n ∧ n ≤ 7) {c : Nat → Nat} (ht : Tour n c) : ∃ t, t < fac (n - 1) ∧ ∀ k, k ≤ n → spT n t k = c k := by
  have h := chk_n hn
  simp only [chk, Bool.and_eq_true] at h
  obtain ⟨t, h1, h2⟩ := cmB_all ht (n - 1) 1 (by omega) (by
    show cmB n (n - 1) [c 0] = true
    rw [ht.1]; exact h.2.2)
  refine ⟨t, h1, fun k hk => ?_⟩
  unfold spT
  rw [h2, List.getD_eq_getElem?_getD, List.getElem?_map]
  by_cases e : k = n
  · subst e
    rw [List.getElem?_eq_none (by simp), ht.2.1]; rfl
  · rw [List.getElem?_range (by omega)]; rfl
/-! tours that agree -/
def eqT (n : Nat) (c d : Nat → Nat) : Prop := ∀ k, k ≤ n → c k = d k
theorem eqT.adj {n : Nat} {c d : Nat → Nat} (h : eqT n c d) {a b : Nat} (g : Adj n c a b) : Adj n d a b := by
  obtain ⟨k, hk, e⟩ := g
  rw [h k (by omega), h (k + 1) (by omega)] at e
  exact ⟨k, hk, e⟩
theorem eqT.symm {n : Nat} {c d : Nat → Nat} (h : eqT n c d) : eqT n d c := fun k hk => (h k hk).symm
theorem eqT.fits {n : Nat} {c d : Nat → Nat} (h : eqT n c d) {R : Nat → Int} (g : Fits n R c) : Fits n R d :=
  ⟨fun k hk => by rw [← h k (by omega), ← h (k + 1) (by omega)]; exact g.1 k hk, fun a b hab hb e => h.adj (g.2 a b hab hb e)⟩
theorem eqT.cost {n : Nat} {c d : Nat → Nat} (h : eqT n c d) (M : Nat → Int) : Cost n M c = Cost n M d := sm_congr (fun k hk => by rw [h k (by omega), h (k + 1) (by omega)])
/-! allowed: bars and kept against due -/
/-- pairs b < a with P -/
noncomputable def dbl (P : Nat → Nat → Prop) (n : Nat) : Int := sm (fun a => cn (fun b => b < a ∧ P a b) n) n
theorem dbl_split (P Q : Nat → Nat → Prop) (n : Nat) : dbl P n = dbl (fun a b => P a b ∧ Q a b) n + dbl (fun a b => P a b ∧ ¬ Q a b) n := by
  unfold dbl
  rw [← sm_add]
  refine sm_congr (fun a ha => ?_)
  rw [cn_split (P := fun b => b < a ∧ P a b) (fun b => Q a b) n]
  congr 1
  · exact cn_congr (fun b _ => ⟨fun z => ⟨z.1.1, z.1.2, z.2⟩, fun z => ⟨⟨z.1, z.2.1⟩, z.2.2⟩⟩)
  · exact cn_congr (fun b _ => ⟨fun z => ⟨z.1.1, z.1.2, z.2⟩, fun z => ⟨⟨z.1, z.2.1⟩, z.2.2⟩⟩)
theorem dbl_nonneg (P : Nat → Nat → Prop) (n : Nat) : 0 ≤ dbl P n := sm_nonneg (fun a _ => cn_nonneg _ _)
theorem dbl_zero {P : Nat → Nat → Prop} {n : Nat} (h : dbl P n = 0) : ∀ a b, b < a → a < n → ¬ P a b := by
  intro a b hab ha hp
  have h1 := sm_all_zero (fun k _ => cn_nonneg (fun b => b < k ∧ P k b) n) h a ha
  have h2 : 1 ≤ cn (fun b => b < a ∧ P a b) n := cn_ex (show b < n by omega) ⟨hab, hp⟩
  omega
theorem dbl_none {P : Nat → Nat → Prop} {n : Nat} (h : ∀ a b, b < a → a < n → ¬ P a b) : dbl P n = 0 := by
  have e : sm (fun a => cn (fun b => b < a ∧ P a b) n) n = sm (fun _ => 0) n := sm_congr (fun a ha => si_none (fun b _ q => h a b q.1 ha q.2))
  unfold dbl
  rw [e, sm_zero]
/-- the links of a tour, counted as pairs or along it -/
theorem dbl_tour {n : Nat} {c : Nat → Nat} (hn : 3 ≤ n) (ht : Tour n c) {P : Nat → Nat → Prop} (hP : ∀ a b, P a b → P b a) : dbl (fun a b => P a b ∧ Adj n c a b) n = cn (fun k => P (c k) (c (k + 1))) n := by
  have h1 : dbl (fun a b => P a b ∧ Adj n c a b) n = sm (fun a => sm (fun b => sm (fun k => @ite Int ((b < a ∧ P a b) ∧ ((c k = a ∧ c (k + 1) = b) ∨ (c k = b ∧ c (k + 1) = a))) (Classical.propDecidable _) 1 0) n) n) n := by
    refine sm_congr (fun a ha => ?_)
    refine sm_congr (fun b hb => ?_)
    by_cases q : b < a ∧ (P a b ∧ Adj n c a b)
    · rw [if_pos q]
      obtain ⟨k0, hk0, he⟩ := q.2.2
      have : sm (fun k => @ite Int ((b < a ∧ P a b) ∧ ((c k = a ∧ c (k + 1) = b) ∨ (c k = b ∧ c (k + 1) = a))) (Classical.propDecidable _) 1 0) n = (fun k => @ite Int ((b < a ∧ P a b) ∧ ((c k = a ∧ c (k + 1) = b) ∨ (c k = b ∧ c (k + 1) = a))) (Classical.propDecidable _) 1 0) k0 := sm_single hk0 (fun k hk hne => if_neg (fun z => hne (ht.one hn hk hk0 (by
        rcases z.2 with ⟨z1, z2⟩ | ⟨z1, z2⟩ <;> rcases he with ⟨e1, e2⟩ | ⟨e1, e2⟩ <;> omega))))
      rw [this]
      exact (if_pos ⟨⟨q.1, q.2.1⟩, he⟩).symm
    · rw [if_neg q]
      rw [sm_congr (g := fun _ => 0) (fun k hk => if_neg (fun z => q ⟨z.1.1, z.1.2, k, hk, z.2⟩)), sm_zero]
  have h2 : cn (fun k => P (c k) (c (k + 1))) n = sm (fun k => sm (fun a => sm (fun b => @ite Int ((b < a ∧ P a b) ∧ ((c k = a ∧ c (k + 1) = b) ∨ (c k = b ∧ c (k + 1) = a))) (Classical.propDecidable _) 1 0) n) n) n := by
    refine sm_congr (fun k hk => ?_)
    have l1 := ht.lt (i := k) (by omega) (by omega)
    have l2 := ht.lt (i := k + 1) (by omega) (by omega)
    have ne := ht.ne hn hk
    obtain ⟨x, y, hx, hy, hyx, hxy⟩ : ∃ x y, x < n ∧ y < n ∧ y < x ∧ ((c k = x ∧ c (k + 1) = y) ∨ (c k = y ∧ c (k + 1) = x)) := by
      rcases Nat.lt_trichotomy (c k) (c (k + 1)) with g | g | g
      · exact ⟨c (k + 1), c k, l2, l1, g, Or.inr ⟨rfl, rfl⟩⟩
      · exact absurd g ne
      · exact ⟨c k, c (k + 1), l1, l2, g, Or.inl ⟨rfl, rfl⟩⟩
    have e1 : sm (fun a => sm (fun b => @ite Int ((b < a ∧ P a b) ∧ ((c k = a ∧ c (k + 1) = b) ∨ (c k = b ∧ c (k + 1) = a))) (Classical.propDecidable _) 1 0) n) n = (fun a => sm (fun b => @ite Int ((b < a ∧ P a b) ∧ ((c k = a ∧ c (k + 1) = b) ∨ (c k = b ∧ c (k + 1) = a))) (Classical.propDecidable _) 1 0) n) x := sm_single hx (fun a ha hne => by
      show sm (fun b => @ite Int ((b < a ∧ P a b) ∧ ((c k = a ∧ c (k + 1) = b) ∨ (c k = b ∧ c (k + 1) = a))) (Classical.propDecidable _) 1 0) n = 0
      rw [sm_congr (g := fun _ => 0) (fun b hb => if_neg (fun z => by omega)), sm_zero])
    rw [e1]
    have e2 : (fun a => sm (fun b => @ite Int ((b < a ∧ P a b) ∧ ((c k = a ∧ c (k + 1) = b) ∨ (c k = b ∧ c (k + 1) = a))) (Classical.propDecidable _) 1 0) n) x = (fun b => @ite Int ((b < x ∧ P x b) ∧ ((c k = x ∧ c (k + 1) = b) ∨ (c k = b ∧ c (k + 1) = x))) (Classical.propDecidable _) 1 0) y := sm_single hy (fun b hb hne => if_neg (fun z => by omega))
    rw [e2]
    by_cases q : P (c k) (c (k + 1))
    · rw [if_pos q]
      refine (if_pos ⟨⟨hyx, ?_⟩, hxy⟩).symm
      rcases hxy with ⟨z1, z2⟩ | ⟨z1, z2⟩
      · rw [z1, z2] at q; exact q
      · rw [z1, z2] at q; exact hP _ _ q
    · rw [if_neg q]
      refine (if_neg (fun z => q ?_)).symm
      rcases hxy with ⟨z1, z2⟩ | ⟨z1, z2⟩
      · rw [z1, z2]; exact z.1.2
      · rw [z1, z2]; exact hP _ _ z.1.2
  rw [h1, h2]
  have h3 : ∀ F : Nat → Nat → Nat → Int, sm (fun a => sm (fun b => sm (fun k => F a b k) n) n) n = sm (fun k => sm (fun a => sm (fun b => F a b k) n) n) n := by
    intro F
    rw [sm_congr (g := fun a => sm (fun k => sm (fun b => F a b k) n) n) (fun a _ => sm_swap (fun b k => F a b k) n n)]
    exact sm_swap (fun a k => sm (fun b => F a b k) n) n n
  exact h3 _
theorem allow_iff {n : Nat} {R : Nat → Int} {c : Nat → Nat} (hn : 3 ≤ n) (hs : Sy n R) (ht : Tour n c) : (cn (fun k => R (c k * 7 + c (k + 1)) = 2) n = 0 ∧ cn (fun k => R (c k * 7 + c (k + 1)) = 1) n = dbl (fun a b => R (a * 7 + b) = 1) n) ↔ Fits n R c := by
  have hd : dbl (fun a b => (a < n ∧ b < n ∧ R (a * 7 + b) = 1) ∧ Adj n c a b) n = cn (fun k => c k < n ∧ c (k + 1) < n ∧ R (c k * 7 + c (k + 1)) = 1) n := dbl_tour hn ht (P := fun a b => a < n ∧ b < n ∧ R (a * 7 + b) = 1) (fun a b q => ⟨q.2.1, q.1, by rw [hs b a q.2.1 q.1]; exact q.2.2⟩)
  have e1 : cn (fun k => c k < n ∧ c (k + 1) < n ∧ R (c k * 7 + c (k + 1)) = 1) n = cn (fun k => R (c k * 7 + c (k + 1)) = 1) n := cn_congr (fun k hk => ⟨fun z => z.2.2, fun z => ⟨ht.lt (by omega) (by omega), ht.lt (by omega) (by omega), z⟩⟩)
  have e2 : dbl (fun a b => R (a * 7 + b) = 1) n = dbl (fun a b => (a < n ∧ b < n ∧ R (a * 7 + b) = 1)) n := sm_congr (fun a ha => cn_congr (fun b hb => ⟨fun z => ⟨z.1, ha, hb, z.2⟩, fun z => ⟨z.1, z.2.2.2⟩⟩))
  have e3 := dbl_split (fun a b => a < n ∧ b < n ∧ R (a * 7 + b) = 1) (Adj n c) n
  have e4 := dbl_nonneg (fun a b => (a < n ∧ b < n ∧ R (a * 7 + b) = 1) ∧ ¬ Adj n c a b) n
  constructor
  · rintro ⟨h1, h2⟩
    refine ⟨fun k hk e => ?_, fun a b hab hb e => ?_⟩
    · have := cn_ex (P := fun k => R (c k * 7 + c (k + 1)) = 2) hk e
      omega
    · have z := dbl_zero (P := fun a b => (a < n ∧ b < n ∧ R (a * 7 + b) = 1) ∧ ¬ Adj n c a b) (n := n) (by omega) b a hab hb
      refine Classical.byContradiction (fun q => z ⟨⟨hb, by omega, by rw [hs b a hb (by omega)]; exact e⟩, fun w => q w.symm⟩)
  · intro h
    refine ⟨si_none (fun k hk => h.1 k hk), ?_⟩
    have z : dbl (fun a b => (a < n ∧ b < n ∧ R (a * 7 + b) = 1) ∧ ¬ Adj n c a b) n = 0 := dbl_none (fun a b hba ha q => q.2 ((h.2 b a hba ha (by rw [hs b a q.1.2.1 ha]; exact q.1.2.2)).symm))
    omega
end
section
/-! TourDeskModel, small methods -/
/-- the plain form at rest -/
def MD0 (n : Nat) (M : TS) : Prop := M 0 0 = (n : Int) ∧ (3 ≤ n ∧ n ≤ 7) ∧ (∀ j, 0 ≤ M 1 j ∧ M 1 j ≤ 99) ∧ (∀ j, 0 ≤ M 2 j ∧ M 2 j ≤ 2) ∧ Sy n (M 1) ∧ Sy n (M 2) ∧ M 4 0 = ((fac (n - 1) : Nat) : Int)
def mF (M M' : TS) : Prop := ∀ f, f ≠ 3 → M' f = M f
theorem MD0.keep {n : Nat} {M M' : TS} (h : MD0 n M) (hf : mF M M') : MD0 n M' := by
  obtain ⟨a0, a1, a2, a3, a4, a5, a6⟩ := h
  exact ⟨by rw [hf 0 (by decide)]; exact a0, a1, by rw [hf 1 (by decide)]; exact a2, by rw [hf 2 (by decide)]; exact a3, by rw [hf 1 (by decide)]; exact a4, by rw [hf 2 (by decide)]; exact a5, by rw [hf 4 (by decide)]; exact a6⟩
/-- the list holds the tour c -/
def hasT (n : Nat) (M : TS) (c : Nat → Nat) : Prop := (∀ k, k < n → M 3 k = (c k : Int)) ∧ Tour n c
def mpS (M : TS) (f x y : Nat) (v : Int) : TS := up (up M f (x * 7 + y) v) f (y * 7 + x) v
set_option maxRecDepth 20000 in
theorem c_m_link {q : Nat → Nat} {kz : ClassId × ClassId × ClassId} {S : TS} {n : Nat} {a b : Int} (hn : S 0 0 = (n : Int)) (h7 : n ≤ 7) (ha : inR a) (hb : inR b) : ∀ l : Launch, MI l y_m_link b_m_link 3 .boolean ({ frames := 0, cells := 0, slots := 0, locals := 0 }) (md_ws q kz) (ty_k kz) [.ref (q 0), .int (iI a), .int (iI b)] S (fun r S' => S' = S ∧ ((r = 1 ∧ lkI n a b) ∨ (r = 0 ∧ ¬ lkI n a b))) := by
  refine mi_of (md_ok q kz) (by decide) (Nat.le_of_ble_eq_true rfl) (by simp [Value.category]) (Nat.le_of_ble_eq_true rfl) ?_
  intro X C hR
  show TW X (md_ws q kz) S 0 [some (.ref (q 0)), some (.int (iI a)), some (.int (iI b))] []
  refine tw_iload1 C d_m_link_0 ?_
  refine tw_if_lt C d_m_link_1 (by omega) (fun u1 => ?_) (fun u1 => ?_)
  · refine tw_iconst C d_m_link_33 ?_
    exact hR _ _ _ _ _ d_m_link_34 rfl (⟨rfl, Or.inr ⟨rfl, by unfold lkI; omega⟩⟩)
  · refine tw_iload1 C d_m_link_4 ?_
    refine tw_aload0 C d_m_link_5 ?_
    refine g_m0 C d_m_link_6 hn ?_
    refine tw_icmp_ge C d_m_link_9 (by omega) (by omega) (fun u9 => ?_) (fun u9 => ?_)
    · refine tw_iconst C d_m_link_33 ?_
      exact hR _ _ _ _ _ d_m_link_34 rfl (⟨rfl, Or.inr ⟨rfl, by unfold lkI; omega⟩⟩)
    · refine tw_iload2 C d_m_link_12 ?_
      refine tw_if_lt C d_m_link_13 (by omega) (fun u13 => ?_) (fun u13 => ?_)
      · refine tw_iconst C d_m_link_33 ?_
        exact hR _ _ _ _ _ d_m_link_34 rfl (⟨rfl, Or.inr ⟨rfl, by unfold lkI; omega⟩⟩)
      · refine tw_iload2 C d_m_link_16 ?_
        refine tw_aload0 C d_m_link_17 ?_
        refine g_m0 C d_m_link_18 hn ?_
        refine tw_icmp_ge C d_m_link_21 (by omega) (by omega) (fun u21 => ?_) (fun u21 => ?_)
        · refine tw_iconst C d_m_link_33 ?_
          exact hR _ _ _ _ _ d_m_link_34 rfl (⟨rfl, Or.inr ⟨rfl, by unfold lkI; omega⟩⟩)
        · refine tw_iload1 C d_m_link_24 ?_
          refine tw_iload2 C d_m_link_25 ?_
          refine tw_icmp_eq C d_m_link_26 (by omega) (by omega) (fun u26 => ?_) (fun u26 => ?_)
          · refine tw_iconst C d_m_link_33 ?_
            exact hR _ _ _ _ _ d_m_link_34 rfl (⟨rfl, Or.inr ⟨rfl, by unfold lkI; omega⟩⟩)
          · refine tw_iconst C d_m_link_29 ?_
            refine tw_goto C d_m_link_30 ?_
            exact hR _ _ _ _ _ d_m_link_34 rfl (⟨rfl, Or.inl ⟨rfl, by unfold lkI; omega⟩⟩)
set_option maxRecDepth 20000 in
theorem c_m_setLength {q : Nat → Nat} {kz : ClassId × ClassId × ClassId} {S : TS} {n : Nat} (hT : MD0 n S) {a b d : Int} (ha : inR a) (hb : inR b) (hd : inR d) : ∀ l : Launch, MI l y_m_setLength b_m_setLength 4 .boolean ({ frames := 1, cells := 0, slots := 0, locals := 22 }) (md_ws q kz) (ty_k kz) [.ref (q 0), .int (iI a), .int (iI b), .int (iI d)] S (fun r S' => (r = 0 ∧ S' = S ∧ ¬ (lkI n a b ∧ (0 ≤ d ∧ d ≤ 99))) ∨ (r = 1 ∧ ∃ x y, lkE n a b x y ∧ (0 ≤ d ∧ d ≤ 99) ∧ S' = mpS S 1 x y d)) := by
  refine mi_of (md_ok q kz) (by decide) (Nat.le_of_ble_eq_true rfl) (by simp [Value.category]) (Nat.le_of_ble_eq_true rfl) ?_
  intro X C hR
  show TW X (md_ws q kz) S 0 [some (.ref (q 0)), some (.int (iI a)), some (.int (iI b)), some (.int (iI d))] []
  have h7 := hT.2.1.2
  have h3n := hT.2.1.1
  refine tw_aload0 C d_m_setLength_0 ?_
  refine tw_iload1 C d_m_setLength_1 ?_
  refine tw_iload2 C d_m_setLength_2 ?_
  refine tw_calli C (md_ok q kz) (c_m_link (S := S) (n := n) (a := a) (b := b) hT.1 h7 ha hb) cs_m_m_link ⟨⟨rfl, rfl⟩, by decide, by decide⟩ rfl rfl rfl rfl rfl (Nat.le_of_ble_eq_true rfl) d_m_setLength_3 (fun r3 z3 hp3 => ?_)
  obtain ⟨hz, hp3⟩ := hp3
  replace hz := hz.symm
  subst hz
  have hr3 : r3 = 0 ∨ r3 = 1 := hp3.elim (fun q => Or.inr q.1) (fun q => Or.inl q.1)
  refine tw_if_eq C d_m_setLength_6 (by omega) (fun u6 => ?_) (fun u6 => ?_)
  · refine tw_iconst C d_m_setLength_19 ?_
    exact hR _ _ _ _ _ d_m_setLength_20 rfl (Or.inl ⟨rfl, rfl, fun q => absurd q.1 (by rcases hp3 with q | q; exact absurd (u6.symm.trans q.1) (by decide); exact q.2)⟩)
  · refine tw_iload3 C d_m_setLength_9 ?_
    refine tw_if_lt C d_m_setLength_10 (by omega) (fun u10 => ?_) (fun u10 => ?_)
    · refine tw_iconst C d_m_setLength_19 ?_
      exact hR _ _ _ _ _ d_m_setLength_20 rfl (Or.inl ⟨rfl, rfl, fun q => by have := q.2; omega⟩)
    · refine tw_iload3 C d_m_setLength_13 ?_
      refine tw_bipush C d_m_setLength_14 rfl ?_
      refine tw_icmp_le C d_m_setLength_16 (by omega) (by omega) (fun u16 => ?_) (fun u16 => ?_)
      · obtain ⟨x, y, hxy⟩ : ∃ x y, lkE n a b x y := lkI.e (by rcases hp3 with q | q; exact q.2; exact absurd q.1 u6)
        obtain ⟨hx, hy, hne, rfl, rfl⟩ := id hxy
        refine tw_aload0 C d_m_setLength_21 ?_
        refine g_m1 C d_m_setLength_22 ?_
        refine tw_iload1 C d_m_setLength_25 ?_
        refine tw_bipush C d_m_setLength_26 rfl ?_
        refine tw_imul C d_m_setLength_28 ?_
        refine tw_iload2 C d_m_setLength_29 ?_
        refine tw_iadd C d_m_setLength_30 ?_
        refine tw_iload3 C d_m_setLength_31 ?_
        refine as_m1 C (((x * 7) + y)) d_m_setLength_32 (by omega) (by omega) ?_
        refine tw_aload0 C d_m_setLength_33 ?_
        refine g_m1 C d_m_setLength_34 ?_
        refine tw_iload2 C d_m_setLength_37 ?_
        refine tw_bipush C d_m_setLength_38 rfl ?_
        refine tw_imul C d_m_setLength_40 ?_
        refine tw_iload1 C d_m_setLength_41 ?_
        refine tw_iadd C d_m_setLength_42 ?_
        refine tw_iload3 C d_m_setLength_43 ?_
        refine as_m1 C (((y * 7) + x)) d_m_setLength_44 (by omega) (by omega) ?_
        refine tw_iconst C d_m_setLength_45 ?_
        exact hR _ _ _ _ _ d_m_setLength_46 rfl (Or.inr ⟨rfl, x, y, hxy, ⟨u10, u16⟩, rfl⟩)
      · refine tw_iconst C d_m_setLength_19 ?_
        exact hR _ _ _ _ _ d_m_setLength_20 rfl (Or.inl ⟨rfl, rfl, fun q => by have := q.2; omega⟩)
set_option maxRecDepth 20000 in
theorem c_m_setRule {q : Nat → Nat} {kz : ClassId × ClassId × ClassId} {S : TS} {n : Nat} (hT : MD0 n S) {a b d : Int} (ha : inR a) (hb : inR b) (hd : inR d) : ∀ l : Launch, MI l y_m_setRule b_m_setRule 4 .boolean ({ frames := 1, cells := 0, slots := 0, locals := 22 }) (md_ws q kz) (ty_k kz) [.ref (q 0), .int (iI a), .int (iI b), .int (iI d)] S (fun r S' => (r = 0 ∧ S' = S ∧ ¬ (lkI n a b ∧ (0 ≤ d ∧ d ≤ 2))) ∨ (r = 1 ∧ ∃ x y, lkE n a b x y ∧ (0 ≤ d ∧ d ≤ 2) ∧ S' = mpS S 2 x y d)) := by
  refine mi_of (md_ok q kz) (by decide) (Nat.le_of_ble_eq_true rfl) (by simp [Value.category]) (Nat.le_of_ble_eq_true rfl) ?_
  intro X C hR
  show TW X (md_ws q kz) S 0 [some (.ref (q 0)), some (.int (iI a)), some (.int (iI b)), some (.int (iI d))] []
  have h7 := hT.2.1.2
  have h3n := hT.2.1.1
  refine tw_aload0 C d_m_setRule_0 ?_
  refine tw_iload1 C d_m_setRule_1 ?_
  refine tw_iload2 C d_m_setRule_2 ?_
  refine tw_calli C (md_ok q kz) (c_m_link (S := S) (n := n) (a := a) (b := b) hT.1 h7 ha hb) cs_m_m_link ⟨⟨rfl, rfl⟩, by decide, by decide⟩ rfl rfl rfl rfl rfl (Nat.le_of_ble_eq_true rfl) d_m_setRule_3 (fun r3 z3 hp3 => ?_)
  obtain ⟨hz, hp3⟩ := hp3
  replace hz := hz.symm
  subst hz
  have hr3 : r3 = 0 ∨ r3 = 1 := hp3.elim (fun q => Or.inr q.1) (fun q => Or.inl q.1)
  refine tw_if_eq C d_m_setRule_6 (by omega) (fun u6 => ?_) (fun u6 => ?_)
  · refine tw_iconst C d_m_setRule_18 ?_
    exact hR _ _ _ _ _ d_m_setRule_19 rfl (Or.inl ⟨rfl, rfl, fun q => absurd q.1 (by rcases hp3 with q | q; exact absurd (u6.symm.trans q.1) (by decide); exact q.2)⟩)
  · refine tw_iload3 C d_m_setRule_9 ?_
    refine tw_if_lt C d_m_setRule_10 (by omega) (fun u10 => ?_) (fun u10 => ?_)
    · refine tw_iconst C d_m_setRule_18 ?_
      exact hR _ _ _ _ _ d_m_setRule_19 rfl (Or.inl ⟨rfl, rfl, fun q => by have := q.2; omega⟩)
    · refine tw_iload3 C d_m_setRule_13 ?_
      refine tw_iconst C d_m_setRule_14 ?_
      refine tw_icmp_le C d_m_setRule_15 (by omega) (by omega) (fun u15 => ?_) (fun u15 => ?_)
      · obtain ⟨x, y, hxy⟩ : ∃ x y, lkE n a b x y := lkI.e (by rcases hp3 with q | q; exact q.2; exact absurd q.1 u6)
        obtain ⟨hx, hy, hne, rfl, rfl⟩ := id hxy
        refine tw_aload0 C d_m_setRule_20 ?_
        refine g_m2 C d_m_setRule_21 ?_
        refine tw_iload1 C d_m_setRule_24 ?_
        refine tw_bipush C d_m_setRule_25 rfl ?_
        refine tw_imul C d_m_setRule_27 ?_
        refine tw_iload2 C d_m_setRule_28 ?_
        refine tw_iadd C d_m_setRule_29 ?_
        refine tw_iload3 C d_m_setRule_30 ?_
        refine as_m2 C (((x * 7) + y)) d_m_setRule_31 (by omega) (by omega) ?_
        refine tw_aload0 C d_m_setRule_32 ?_
        refine g_m2 C d_m_setRule_33 ?_
        refine tw_iload2 C d_m_setRule_36 ?_
        refine tw_bipush C d_m_setRule_37 rfl ?_
        refine tw_imul C d_m_setRule_39 ?_
        refine tw_iload1 C d_m_setRule_40 ?_
        refine tw_iadd C d_m_setRule_41 ?_
        refine tw_iload3 C d_m_setRule_42 ?_
        refine as_m2 C (((y * 7) + x)) d_m_setRule_43 (by omega) (by omega) ?_
        refine tw_iconst C d_m_setRule_44 ?_
        exact hR _ _ _ _ _ d_m_setRule_45 rfl (Or.inr ⟨rfl, x, y, hxy, ⟨u10, u15⟩, rfl⟩)
      · refine tw_iconst C d_m_setRule_18 ?_
        exact hR _ _ _ _ _ d_m_setRule_19 rfl (Or.inl ⟨rfl, rfl, fun q => by have := q.2; omega⟩)
set_option maxRecDepth 20000 in
theorem c_m_length {q : Nat → Nat} {kz : ClassId × ClassId × ClassId} {S : TS} {n : Nat} (hT : MD0 n S) {a b : Int} (ha : inR a) (hb : inR b) : ∀ l : Launch, MI l y_m_length b_m_length 3 .int ({ frames := 1, cells := 0, slots := 0, locals := 22 }) (md_ws q kz) (ty_k kz) [.ref (q 0), .int (iI a), .int (iI b)] S (fun r S' => S' = S ∧ ((¬ lkI n a b ∧ r = -1) ∨ ∃ x y, lkE n a b x y ∧ r = S 1 (x * 7 + y))) := by
  refine mi_of (md_ok q kz) (by decide) (Nat.le_of_ble_eq_true rfl) (by simp [Value.category]) (Nat.le_of_ble_eq_true rfl) ?_
  intro X C hR
  show TW X (md_ws q kz) S 0 [some (.ref (q 0)), some (.int (iI a)), some (.int (iI b))] []
  have h7 := hT.2.1.2
  have h3n := hT.2.1.1
  refine tw_aload0 C d_m_length_0 ?_
  refine tw_iload1 C d_m_length_1 ?_
  refine tw_iload2 C d_m_length_2 ?_
  refine tw_calli C (md_ok q kz) (c_m_link (S := S) (n := n) (a := a) (b := b) hT.1 h7 ha hb) cs_m_m_link ⟨⟨rfl, rfl⟩, by decide, by decide⟩ rfl rfl rfl rfl rfl (Nat.le_of_ble_eq_true rfl) d_m_length_3 (fun r3 z3 hp3 => ?_)
  obtain ⟨hz, hp3⟩ := hp3
  replace hz := hz.symm
  subst hz
  have hr3 : r3 = 0 ∨ r3 = 1 := hp3.elim (fun q => Or.inr q.1) (fun q => Or.inl q.1)
  refine tw_if_eq C d_m_length_6 (by omega) (fun u6 => ?_) (fun u6 => ?_)
  · refine tw_iconst C d_m_length_23 ?_
    exact hR _ _ _ _ _ d_m_length_24 rfl (⟨rfl, Or.inl ⟨(by rcases hp3 with q | q; exact absurd (u6.symm.trans q.1) (by decide); exact q.2), rfl⟩⟩)
  · obtain ⟨x, y, hxy⟩ : ∃ x y, lkE n a b x y := lkI.e (by rcases hp3 with q | q; exact q.2; exact absurd q.1 u6)
    obtain ⟨hx, hy, hne, rfl, rfl⟩ := id hxy
    refine tw_aload0 C d_m_length_9 ?_
    refine g_m1 C d_m_length_10 ?_
    refine tw_iload1 C d_m_length_13 ?_
    refine tw_bipush C d_m_length_14 rfl ?_
    refine tw_imul C d_m_length_16 ?_
    refine tw_iload2 C d_m_length_17 ?_
    refine tw_iadd C d_m_length_18 ?_
    refine al_m1 C (((x * 7) + y)) d_m_length_19 (by omega) (by omega) rfl ?_
    refine tw_goto C d_m_length_20 ?_
    exact hR _ _ _ _ _ d_m_length_24 rfl (⟨rfl, Or.inr ⟨x, y, hxy, rfl⟩⟩)
set_option maxRecDepth 20000 in
theorem c_m_rule {q : Nat → Nat} {kz : ClassId × ClassId × ClassId} {S : TS} {n : Nat} (hT : MD0 n S) {a b : Int} (ha : inR a) (hb : inR b) : ∀ l : Launch, MI l y_m_rule b_m_rule 3 .int ({ frames := 1, cells := 0, slots := 0, locals := 22 }) (md_ws q kz) (ty_k kz) [.ref (q 0), .int (iI a), .int (iI b)] S (fun r S' => S' = S ∧ ((¬ lkI n a b ∧ r = -1) ∨ ∃ x y, lkE n a b x y ∧ r = S 2 (x * 7 + y))) := by
  refine mi_of (md_ok q kz) (by decide) (Nat.le_of_ble_eq_true rfl) (by simp [Value.category]) (Nat.le_of_ble_eq_true rfl) ?_
  intro X C hR
  show TW X (md_ws q kz) S 0 [some (.ref (q 0)), some (.int (iI a)), some (.int (iI b))] []
  have h7 := hT.2.1.2
  have h3n := hT.2.1.1
  refine tw_aload0 C d_m_rule_0 ?_
  refine tw_iload1 C d_m_rule_1 ?_
  refine tw_iload2 C d_m_rule_2 ?_
  refine tw_calli C (md_ok q kz) (c_m_link (S := S) (n := n) (a := a) (b := b) hT.1 h7 ha hb) cs_m_m_link ⟨⟨rfl, rfl⟩, by decide, by decide⟩ rfl rfl rfl rfl rfl (Nat.le_of_ble_eq_true rfl) d_m_rule_3 (fun r3 z3 hp3 => ?_)
  obtain ⟨hz, hp3⟩ := hp3
  replace hz := hz.symm
  subst hz
  have hr3 : r3 = 0 ∨ r3 = 1 := hp3.elim (fun q => Or.inr q.1) (fun q => Or.inl q.1)
  refine tw_if_eq C d_m_rule_6 (by omega) (fun u6 => ?_) (fun u6 => ?_)
  · refine tw_iconst C d_m_rule_23 ?_
    exact hR _ _ _ _ _ d_m_rule_24 rfl (⟨rfl, Or.inl ⟨(by rcases hp3 with q | q; exact absurd (u6.symm.trans q.1) (by decide); exact q.2), rfl⟩⟩)
  · obtain ⟨x, y, hxy⟩ : ∃ x y, lkE n a b x y := lkI.e (by rcases hp3 with q | q; exact q.2; exact absurd q.1 u6)
    obtain ⟨hx, hy, hne, rfl, rfl⟩ := id hxy
    refine tw_aload0 C d_m_rule_9 ?_
    refine g_m2 C d_m_rule_10 ?_
    refine tw_iload1 C d_m_rule_13 ?_
    refine tw_bipush C d_m_rule_14 rfl ?_
    refine tw_imul C d_m_rule_16 ?_
    refine tw_iload2 C d_m_rule_17 ?_
    refine tw_iadd C d_m_rule_18 ?_
    refine al_m2 C (((x * 7) + y)) d_m_rule_19 (by omega) (by omega) rfl ?_
    refine tw_goto C d_m_rule_20 ?_
    exact hR _ _ _ _ _ d_m_rule_24 rfl (⟨rfl, Or.inr ⟨x, y, hxy, rfl⟩⟩)
def mshS (S : TS) (x : Nat) (d : Int) : Nat → TS
  | 0 => S
  | b + 1 => if b ≠ x ∧ 0 ≤ (sh (S 1) x d b).1 (x * 7 + b) + d ∧ (sh (S 1) x d b).1 (x * 7 + b) + d ≤ 99 then mpS (mshS S x d b) 1 x b ((sh (S 1) x d b).1 (x * 7 + b) + d) else mshS S x d b
theorem mshS_succ (S : TS) (x : Nat) (d : Int) (b : Nat) : mshS S x d (b + 1) = if b ≠ x ∧ 0 ≤ (sh (S 1) x d b).1 (x * 7 + b) + d ∧ (sh (S 1) x d b).1 (x * 7 + b) + d ≤ 99 then mpS (mshS S x d b) 1 x b ((sh (S 1) x d b).1 (x * 7 + b) + d) else mshS S x d b := rfl
theorem mshS_ok (S : TS) (x : Nat) (d : Int) : ∀ b, mshS S x d b 1 = (sh (S 1) x d b).1 ∧ ∀ f, f ≠ 1 → mshS S x d b f = S f := by
  intro b
  induction b with
  | zero => exact ⟨rfl, fun _ _ => rfl⟩
  | succ b ih =>
    obtain ⟨i1, i2⟩ := ih
    rw [mshS_succ, sh_succ]
    by_cases q : b ≠ x ∧ 0 ≤ (sh (S 1) x d b).1 (x * 7 + b) + d ∧ (sh (S 1) x d b).1 (x * 7 + b) + d ≤ 99
    · rw [if_pos q, if_pos q]
      refine ⟨?_, fun f h1 => ?_⟩
      · unfold mpS
        rw [up2_st2, i1]
      · unfold mpS
        rw [up_f _ h1, up_f _ h1]; exact i2 f h1
    · rw [if_neg q, if_neg q]
      exact ⟨i1, i2⟩
theorem msh_MD {n : Nat} {S : TS} (h : MD0 n S) {x : Nat} (hx : x < n) (d : Int) {b : Nat} (hb : b ≤ n) : MD0 n (mshS S x d b) ∧ mshS S x d b 1 = (sh (S 1) x d b).1 ∧ mshS S x d b 2 = S 2 := by
  obtain ⟨e1, ef⟩ := mshS_ok S x d b
  obtain ⟨a0, a1, a2, a3, a4, a5, a6⟩ := id h
  obtain ⟨o1, o2, -⟩ := sh_ok a1.2 hx d a2 a4 b hb
  exact ⟨⟨by rw [ef 0 (by decide)]; exact a0, a1, by rw [e1]; exact o1, by rw [ef 2 (by decide)]; exact a3, by rw [e1]; exact o2, by rw [ef 2 (by decide)]; exact a5, by rw [ef 4 (by decide)]; exact a6⟩, e1, ef 2 (by decide)⟩
theorem mp1_MD {n : Nat} {S : TS} (h : MD0 n S) {x y : Nat} (hx : x < n) (hy : y < n) {v : Int} (hv : 0 ≤ v ∧ v ≤ 99) : MD0 n (mpS S 1 x y v) ∧ mpS S 1 x y v 1 = st2 (S 1) x y v ∧ mpS S 1 x y v 2 = S 2 := by
  have e1 : mpS S 1 x y v 1 = st2 (S 1) x y v := up2_st2 S 1 x y v
  have ef : ∀ f, f ≠ 1 → mpS S 1 x y v f = S f := fun f q1 => by unfold mpS; rw [up_f _ q1, up_f _ q1]
  obtain ⟨a0, a1, a2, a3, a4, a5, a6⟩ := h
  exact ⟨⟨by rw [ef 0 (by decide)]; exact a0, a1, by rw [e1]; exact st2_rng hv a2, by rw [ef 2 (by decide)]; exact a3, by rw [e1]; exact st2_sy a1.2 hx hy v a4, by rw [ef 2 (by decide)]; exact a5, by rw [ef 4 (by decide)]; exact a6⟩, e1, ef 2 (by decide)⟩
theorem mp2_MD {n : Nat} {S : TS} (h : MD0 n S) {x y : Nat} (hx : x < n) (hy : y < n) {v : Int} (hv : 0 ≤ v ∧ v ≤ 2) : MD0 n (mpS S 2 x y v) ∧ mpS S 2 x y v 1 = S 1 ∧ mpS S 2 x y v 2 = st2 (S 2) x y v := by
  have e2 : mpS S 2 x y v 2 = st2 (S 2) x y v := up2_st2 S 2 x y v
  have ef : ∀ f, f ≠ 2 → mpS S 2 x y v f = S f := fun f q1 => by unfold mpS; rw [up_f _ q1, up_f _ q1]
  obtain ⟨a0, a1, a2, a3, a4, a5, a6⟩ := h
  exact ⟨⟨by rw [ef 0 (by decide)]; exact a0, a1, by rw [ef 1 (by decide)]; exact a2, by rw [e2]; exact st2_rng hv a3, by rw [ef 1 (by decide)]; exact a4, by rw [e2]; exact st2_sy a1.2 hx hy v a5, by rw [ef 4 (by decide)]; exact a6⟩, ef 1 (by decide), e2⟩
set_option maxRecDepth 20000 in
theorem c_m_shift {q : Nat → Nat} {kz : ClassId × ClassId × ClassId} {S : TS} {n : Nat} (hT : MD0 n S) {a d : Int} (ha : inR a) (hd : inR d) : ∀ l : Launch, MI l y_m_shift b_m_shift 5 .int ({ frames := 2, cells := 0, slots := 0, locals := 45 }) (md_ws q kz) (ty_k kz) [.ref (q 0), .int (iI a), .int (iI d)] S (fun r S' => (r = -1 ∧ S' = S ∧ ¬ ((0 ≤ a ∧ a < n) ∧ (-99 ≤ d ∧ d ≤ 99))) ∨ ∃ x : Nat, x < n ∧ a = (x : Int) ∧ (-99 ≤ d ∧ d ≤ 99) ∧ r = (sh (S 1) x d n).2 ∧ S' = mshS S x d n) := by
  refine mi_of (md_ok q kz) (by decide) (Nat.le_of_ble_eq_true rfl) (by simp [Value.category]) (Nat.le_of_ble_eq_true rfl) ?_
  intro X C hR
  show TW X (md_ws q kz) S 0 [some (.ref (q 0)), some (.int (iI a)), some (.int (iI d)), none, none] []
  have h7 := hT.2.1.2
  have h3n := hT.2.1.1
  refine tw_iload1 C d_m_shift_0 ?_
  refine tw_if_lt C d_m_shift_1 (by omega) (fun u1 => ?_) (fun u1 => ?_)
  · refine tw_iconst C d_m_shift_24 ?_
    exact hR _ _ _ _ _ d_m_shift_25 rfl (Or.inl ⟨rfl, rfl, by omega⟩)
  · refine tw_iload1 C d_m_shift_4 ?_
    refine tw_aload0 C d_m_shift_5 ?_
    refine g_m0 C d_m_shift_6 (show _ = (n : Int) from hT.1) ?_
    refine tw_icmp_ge C d_m_shift_9 (by omega) (by omega) (fun u9 => ?_) (fun u9 => ?_)
    · refine tw_iconst C d_m_shift_24 ?_
      exact hR _ _ _ _ _ d_m_shift_25 rfl (Or.inl ⟨rfl, rfl, by omega⟩)
    · refine tw_iload2 C d_m_shift_12 ?_
      refine tw_bipush C d_m_shift_13 rfl ?_
      refine tw_icmp_lt C d_m_shift_15 (by omega) (by omega) (fun u15 => ?_) (fun u15 => ?_)
      · refine tw_iconst C d_m_shift_24 ?_
        exact hR _ _ _ _ _ d_m_shift_25 rfl (Or.inl ⟨rfl, rfl, by omega⟩)
      · refine tw_iload2 C d_m_shift_18 ?_
        refine tw_bipush C d_m_shift_19 rfl ?_
        refine tw_icmp_le C d_m_shift_21 (by omega) (by omega) (fun u21 => ?_) (fun u21 => ?_)
        · obtain ⟨x, rfl⟩ : ∃ x : Nat, a = (x : Int) := ⟨a.toNat, by omega⟩
          have hx : x < n := by omega
          refine tw_iconst C d_m_shift_26 ?_
          refine tw_istore3 C d_m_shift_27 ?_
          refine tw_iconst C d_m_shift_28 ?_
          refine tw_istore4 C d_m_shift_29 ?_
          suffices hl31 : ∀ (f31 : Nat) (b : Nat), n < b + f31 → b ≤ n → TW X (md_ws q kz) (mshS S x d b) 31 [some (.ref (q 0)), some (.int (iI x)), some (.int (iI d)), some (.int (iI ((sh (S 1) x d b).2))), some (.int (iI b))] [] from hl31 (n + 1) 0 (by omega) (by omega)
          intro f31
          induction f31 with
          | zero => intro b h1 h2; exfalso; omega
          | succ f31 ih31 =>
            intro b h1 h2
            have hTb := msh_MD hT hx d h2
            refine tw_iload4 C d_m_shift_31 ?_
            refine tw_aload0 C d_m_shift_33 ?_
            refine g_m0 C d_m_shift_34 (show _ = (n : Int) from hTb.1.1) ?_
            refine tw_icmp_ge C d_m_shift_37 (by omega) (by omega) (fun u37 => ?_) (fun u37 => ?_)
            · refine tw_iload3 C d_m_shift_79 ?_
              exact hR _ _ _ _ _ d_m_shift_80 rfl (Or.inr ⟨x, hx, rfl, by omega, by rw [show b = n by omega], by rw [show b = n by omega]⟩)
            · refine tw_iload4 C d_m_shift_40 ?_
              refine tw_iload1 C d_m_shift_42 ?_
              refine tw_icmp_eq C d_m_shift_43 (by omega) (by omega) (fun u43 => ?_) (fun u43 => ?_)
              · refine tw_iinc4 C d_m_shift_73 ?_
                refine tw_goto C d_m_shift_76 ?_
                exact tw_S (by rw [mshS_succ, if_neg (fun q => q.1 (by omega))]) (tw_L (by rw [sh_succ, if_neg (fun q => q.1 (by omega))]; rfl) (ih31 (b + 1) (by omega) (by omega)))
              · refine tw_aload0 C d_m_shift_46 ?_
                refine tw_iload1 C d_m_shift_47 ?_
                refine tw_iload4 C d_m_shift_48 ?_
                refine tw_aload0 C d_m_shift_50 ?_
                refine g_m1 C d_m_shift_51 ?_
                refine tw_iload1 C d_m_shift_54 ?_
                refine tw_bipush C d_m_shift_55 rfl ?_
                refine tw_imul C d_m_shift_57 ?_
                refine tw_iload4 C d_m_shift_58 ?_
                refine tw_iadd C d_m_shift_60 ?_
                refine al_m1 C (((x * 7) + b)) d_m_shift_61 (by omega) (by omega) (show _ = (sh (S 1) x d b).1 (x * 7 + b) by rw [hTb.2.1]) ?_
                have hm := hTb.1.2.2.1 (x * 7 + b)
                rw [hTb.2.1] at hm
                refine tw_iload2 C d_m_shift_62 ?_
                refine tw_iadd C d_m_shift_63 ?_
                refine tw_calli C (md_ok q kz) (c_m_setLength (S := mshS S x d b) (n := n) (a := (x : Int)) (b := (b : Int)) (d := (sh (S 1) x d b).1 (x * 7 + b) + d) hTb.1 (by omega) (by omega) (by omega)) cs_m_m_setLength ⟨⟨rfl, rfl⟩, by decide, by decide⟩ rfl rfl rfl rfl rfl (Nat.le_of_ble_eq_true rfl) d_m_shift_64 (fun r64 z64 hp64 => ?_)
                have hr64 : r64 = 0 ∨ r64 = 1 := hp64.elim (fun q => Or.inl q.1) (fun q => Or.inr q.1)
                rcases hp64 with ⟨rfl, q2, q3⟩ | ⟨rfl, x2, y2, q2, q3, q4⟩
                · replace q2 := q2.symm
                  subst q2
                  have hno : ¬ (b ≠ x ∧ 0 ≤ (sh (S 1) x d b).1 (x * 7 + b) + d ∧ (sh (S 1) x d b).1 (x * 7 + b) + d ≤ 99) := fun q => q3 ⟨by unfold lkI; omega, q.2⟩
                  refine tw_if_eq C d_m_shift_67 (by decide) (fun _ => ?_) (fun h => absurd rfl h)
                  refine tw_iinc4 C d_m_shift_73 ?_
                  refine tw_goto C d_m_shift_76 ?_
                  exact tw_S (by rw [mshS_succ, if_neg hno]) (tw_L (by rw [sh_succ, if_neg hno]; rfl) (ih31 (b + 1) (by omega) (by omega)))
                · obtain ⟨z1, z2, z3, z4, z5⟩ := q2
                  obtain rfl : x2 = x := by omega
                  obtain rfl : y2 = b := by omega
                  subst q4
                  have hq : y2 ≠ x2 ∧ 0 ≤ (sh (S 1) x2 d y2).1 (x2 * 7 + y2) + d ∧ (sh (S 1) x2 d y2).1 (x2 * 7 + y2) + d ≤ 99 := ⟨by omega, q3⟩
                  refine tw_if_eq C d_m_shift_67 (by decide) (fun h => absurd h (by decide)) (fun _ => ?_)
                  refine tw_iinc3 C d_m_shift_70 ?_
                  refine tw_iinc4 C d_m_shift_73 ?_
                  refine tw_goto C d_m_shift_76 ?_
                  exact tw_S (by rw [mshS_succ, if_pos hq]) (tw_L (by rw [sh_succ, if_pos hq]; rfl) (ih31 (y2 + 1) (by omega) (by omega)))
        · refine tw_iconst C d_m_shift_24 ?_
          exact hR _ _ _ _ _ d_m_shift_25 rfl (Or.inl ⟨rfl, rfl, by omega⟩)
set_option maxRecDepth 20000 in
theorem c_m_next {q : Nat → Nat} {kz : ClassId × ClassId × ClassId} {S : TS} {n : Nat} (hT : MD0 n S) {c : Nat → Nat} {j : Nat} (hL : hasT n S c) (hj : j < n) : ∀ l : Launch, MI l y_m_next b_m_next 2 .int ({ frames := 0, cells := 0, slots := 0, locals := 0 }) (md_ws q kz) (ty_k kz) [.ref (q 0), .int (iI j)] S (fun r S' => r = (c (j + 1) : Int) ∧ S' = S) := by
  refine mi_of (md_ok q kz) (by decide) (Nat.le_of_ble_eq_true rfl) (by simp [Value.category]) (Nat.le_of_ble_eq_true rfl) ?_
  intro X C hR
  show TW X (md_ws q kz) S 0 [some (.ref (q 0)), some (.int (iI j))] []
  have h7 := hT.2.1.2
  have h3n := hT.2.1.1
  refine tw_iload1 C d_m_next_0 ?_
  refine tw_iconst C d_m_next_1 ?_
  refine tw_iadd C d_m_next_2 ?_
  refine tw_aload0 C d_m_next_3 ?_
  refine g_m0 C d_m_next_4 (show _ = (n : Int) from hT.1) ?_
  refine tw_icmp_ge C d_m_next_7 (by omega) (by omega) (fun u7 => ?_) (fun u7 => ?_)
  · refine tw_iconst C d_m_next_21 ?_
    exact hR _ _ _ _ _ d_m_next_22 rfl (⟨by rw [show j + 1 = n by omega, hL.2.2.1]; rfl, rfl⟩)
  · refine tw_aload0 C d_m_next_10 ?_
    refine g_m3 C d_m_next_11 ?_
    refine tw_iload1 C d_m_next_14 ?_
    refine tw_iconst C d_m_next_15 ?_
    refine tw_iadd C d_m_next_16 ?_
    refine al_m3 C ((j + 1)) d_m_next_17 (by omega) (by omega) (hL.1 (j + 1) (by omega)) ?_
    refine tw_goto C d_m_next_18 ?_
    exact hR _ _ _ _ _ d_m_next_22 rfl (⟨rfl, rfl⟩)
set_option maxRecDepth 20000 in
theorem c_m_cost {q : Nat → Nat} {kz : ClassId × ClassId × ClassId} {S : TS} {n : Nat} (hT : MD0 n S) {c : Nat → Nat} (hL : hasT n S c) : ∀ l : Launch, MI l y_m_cost b_m_cost 3 .int ({ frames := 1, cells := 0, slots := 0, locals := 21 }) (md_ws q kz) (ty_k kz) [.ref (q 0)] S (fun r S' => r = Cost n (S 1) c ∧ S' = S) := by
  refine mi_of (md_ok q kz) (by decide) (Nat.le_of_ble_eq_true rfl) (by simp [Value.category]) (Nat.le_of_ble_eq_true rfl) ?_
  intro X C hR
  show TW X (md_ws q kz) S 0 [some (.ref (q 0)), none, none] []
  refine tw_iconst C d_m_cost_0 ?_
  refine tw_istore1 C d_m_cost_1 ?_
  refine tw_iconst C d_m_cost_2 ?_
  refine tw_istore2 C d_m_cost_3 ?_
  have h7 := hT.2.1.2
  have h3n := hT.2.1.1
  suffices hl4 : ∀ (f4 : Nat) (j : Nat), n < j + f4 → j ≤ n → TW X (md_ws q kz) (S) 4 [some (.ref (q 0)), some (.int (iI (sm (fun k => S 1 (c k * 7 + c (k + 1))) j))), some (.int (iI j))] [] from hl4 (n + 1) 0 (by omega) (by omega)
  intro f4
  induction f4 with
  | zero => intro j h1 h2; exfalso; omega
  | succ f4 ih4 =>
    intro j h1 h2
    refine tw_iload2 C d_m_cost_4 ?_
    refine tw_aload0 C d_m_cost_5 ?_
    refine g_m0 C d_m_cost_6 (show _ = (n : Int) from hT.1) ?_
    refine tw_icmp_ge C d_m_cost_9 (by omega) (by omega) (fun u9 => ?_) (fun u9 => ?_)
    · refine tw_iload1 C d_m_cost_41 ?_
      exact hR _ _ _ _ _ d_m_cost_42 rfl (⟨by rw [show j = n by omega]; rfl, rfl⟩)
    · refine tw_iload1 C d_m_cost_12 ?_
      refine tw_aload0 C d_m_cost_13 ?_
      refine g_m1 C d_m_cost_14 ?_
      refine tw_aload0 C d_m_cost_17 ?_
      refine g_m3 C d_m_cost_18 ?_
      refine tw_iload2 C d_m_cost_21 ?_
      refine al_m3 C j d_m_cost_22 (by omega) (by omega) (hL.1 j (by omega)) ?_
      refine tw_bipush C d_m_cost_23 rfl ?_
      refine tw_imul C d_m_cost_25 ?_
      refine tw_aload0 C d_m_cost_26 ?_
      refine tw_iload2 C d_m_cost_27 ?_
      refine tw_calli C (md_ok q kz) (c_m_next (S := S) (n := n) (c := c) (j := j) hT hL (by omega)) cs_m_m_next ⟨⟨rfl, rfl⟩, by decide, by decide⟩ rfl rfl rfl rfl rfl (Nat.le_of_ble_eq_true rfl) d_m_cost_28 (fun r28 z28 hp28 => ?_)
      obtain ⟨rfl, hz⟩ := hp28
      replace hz := hz.symm
      subst hz
      have l1 := hL.2.lt (i := j) (by omega) (by omega)
      have l2 := hL.2.lt (i := j + 1) (by omega) (by omega)
      refine tw_iadd C d_m_cost_31 ?_
      refine al_m1 C ((((c j) * 7) + (c (j + 1)))) d_m_cost_32 (by omega) (by omega) rfl ?_
      refine tw_iadd C d_m_cost_33 ?_
      refine tw_istore1 C d_m_cost_34 ?_
      refine tw_iinc2 C d_m_cost_35 ?_
      refine tw_goto C d_m_cost_38 ?_
      exact ih4 (j + 1) (by omega) (by omega)
theorem nthG_s (set skip f c less : Nat) : nthG set skip (f + 1) c less = if bitN set c = 1 then (if less = skip then c else nthG set skip f (c + 1) (less + 1)) else nthG set skip f (c + 1) less := rfl
theorem nthG_lt (set skip : Nat) : ∀ (f c less : Nat), c + f ≤ 7 → nthG set skip f c less < 7 := by
  intro f
  induction f with
  | zero => intro c less _; show 0 < 7; decide
  | succ f ih =>
    intro c less h
    rw [nthG_s]
    by_cases q : bitN set c = 1
    · rw [if_pos q]
      by_cases q2 : less = skip
      · rw [if_pos q2]; omega
      · rw [if_neg q2]; exact ih (c + 1) (less + 1) (by omega)
    · rw [if_neg q]; exact ih (c + 1) less (by omega)
set_option maxRecDepth 20000 in
theorem c_m_nth {q : Nat → Nat} {kz : ClassId × ClassId × ClassId} {S : TS} {set skip : Nat} (hset : set < 128) (hskip : skip < 1000000) : ∀ l : Launch, MI l y_m_nth b_m_nth 5 .int ({ frames := 0, cells := 0, slots := 0, locals := 0 }) (md_ws q kz) (ty_k kz) [.ref (q 0), .int (iI set), .int (iI skip)] S (fun r S' => r = ((nthG set skip 7 0 0 : Nat) : Int) ∧ S' = S) := by
  refine mi_of (md_ok q kz) (by decide) (Nat.le_of_ble_eq_true rfl) (by simp [Value.category]) (Nat.le_of_ble_eq_true rfl) ?_
  intro X C hR
  show TW X (md_ws q kz) S 0 [some (.ref (q 0)), some (.int (iI set)), some (.int (iI skip)), none, none] []
  refine tw_iconst C d_m_nth_0 ?_
  refine tw_istore3 C d_m_nth_1 ?_
  refine tw_iconst C d_m_nth_2 ?_
  refine tw_istore4 C d_m_nth_3 ?_
  suffices hl5 : ∀ (f5 : Nat) (c less : Nat), 7 < c + f5 → c ≤ 7 → less ≤ c → nthG set skip (7 - c) c less = nthG set skip 7 0 0 → TW X (md_ws q kz) (S) 5 [some (.ref (q 0)), some (.int (iI set)), some (.int (iI skip)), some (.int (iI less)), some (.int (iI c))] [] from hl5 8 0 0 (by omega) (by omega) (by omega) rfl
  intro f5
  induction f5 with
  | zero => intro c less h1 h2 h3 hI; exfalso; omega
  | succ f5 ih5 =>
    intro c less h1 h2 h3 hI
    refine tw_iload4 C d_m_nth_5 ?_
    refine tw_bipush C d_m_nth_7 rfl ?_
    refine tw_icmp_ge C d_m_nth_9 (by omega) (by omega) (fun u9 => ?_) (fun u9 => ?_)
    · refine tw_iconst C d_m_nth_39 ?_
      exact hR _ _ _ _ _ d_m_nth_40 rfl (⟨by rw [show 7 - c = 0 by omega] at hI; rw [← hI]; rfl, rfl⟩)
    · rw [show 7 - c = (6 - c) + 1 by omega, nthG_s] at hI
      refine tw_iload1 C d_m_nth_12 ?_
      refine tw_iload4 C d_m_nth_13 ?_
      refine tw_ishr C d_m_nth_15 (sh_r set hset c (by omega)) ?_
      refine tw_iconst C d_m_nth_16 ?_
      refine tw_iand C d_m_nth_17 (show _ = iI ((bitN set c : Nat) : Int) from and_1 (set / 2 ^ c) (Nat.lt_of_le_of_lt (Nat.div_le_self _ _) hset)) ?_
      have hbt : bitN set c < 2 := Nat.mod_lt _ (by decide)
      refine tw_iconst C d_m_nth_18 ?_
      refine tw_icmp_ne C d_m_nth_19 (by omega) (by omega) (fun u19 => ?_) (fun u19 => ?_)
      · refine tw_iinc4 C d_m_nth_33 ?_
        refine tw_goto C d_m_nth_36 ?_
        exact ih5 (c + 1) less (by omega) (by omega) (by omega) (by rw [if_neg (by omega)] at hI; rw [show 7 - (c + 1) = 6 - c by omega]; exact hI)
      · refine tw_iload3 C d_m_nth_22 ?_
        refine tw_iload2 C d_m_nth_23 ?_
        refine tw_icmp_ne C d_m_nth_24 (by omega) (by omega) (fun u24 => ?_) (fun u24 => ?_)
        · refine tw_iinc3 C d_m_nth_30 ?_
          refine tw_iinc4 C d_m_nth_33 ?_
          refine tw_goto C d_m_nth_36 ?_
          exact ih5 (c + 1) (less + 1) (by omega) (by omega) (by omega) (by rw [if_pos (by omega), if_neg (by omega)] at hI; rw [show 7 - (c + 1) = 6 - c by omega]; exact hI)
        · refine tw_iload4 C d_m_nth_27 ?_
          exact hR _ _ _ _ _ d_m_nth_29 rfl (⟨by rw [if_pos (by omega), if_pos (by omega)] at hI; rw [← hI], rfl⟩)
def edg (c : Nat → Nat) (k x y : Nat) : Prop := (c k = x ∧ c (k + 1) = y) ∨ (c k = y ∧ c (k + 1) = x)
def hsI (c : Nat → Nat) (k x y : Nat) (fd : Int) : Prop := (fd = 1 ∧ ∃ i, i < k ∧ edg c i x y) ∨ (fd = 0 ∧ ∀ i, i < k → ¬ edg c i x y)
theorem hsI_1 {c : Nat → Nat} {k x y : Nat} {fd : Int} (h : hsI c k x y fd) (h0 : fd ≠ 0) : hsI c (k + 1) x y 1 := by
  rcases h with ⟨-, i, i1, i2⟩ | ⟨q, -⟩
  · exact Or.inl ⟨rfl, i, by omega, i2⟩
  · exact absurd q h0
theorem hsI_y {c : Nat → Nat} {k x y : Nat} (h : edg c k x y) : hsI c (k + 1) x y 1 := Or.inl ⟨rfl, k, by omega, h⟩
theorem hsI_n {c : Nat → Nat} {k x y : Nat} {fd : Int} (h : hsI c k x y fd) (h0 : fd = 0) (hn : ¬ edg c k x y) : hsI c (k + 1) x y 0 := by
  rcases h with ⟨q, -⟩ | ⟨-, q⟩
  · omega
  · exact Or.inr ⟨rfl, lt_s q hn⟩
set_option maxRecDepth 20000 in
theorem c_m_has {q : Nat → Nat} {kz : ClassId × ClassId × ClassId} {S : TS} {n : Nat} (hT : MD0 n S) {c : Nat → Nat} {x y : Nat} (hL : hasT n S c) (hx : x < 7) (hy : y < 7) : ∀ l : Launch, MI l y_m_has b_m_has 7 .boolean ({ frames := 1, cells := 0, slots := 0, locals := 21 }) (md_ws q kz) (ty_k kz) [.ref (q 0), .int (iI x), .int (iI y)] S (fun r S' => S' = S ∧ ((r = 1 ∧ Adj n c x y) ∨ (r = 0 ∧ ¬ Adj n c x y))) := by
  refine mi_of (md_ok q kz) (by decide) (Nat.le_of_ble_eq_true rfl) (by simp [Value.category]) (Nat.le_of_ble_eq_true rfl) ?_
  intro X C hR
  show TW X (md_ws q kz) S 0 [some (.ref (q 0)), some (.int (iI x)), some (.int (iI y)), none, none, none, none] []
  refine tw_iconst C d_m_has_0 ?_
  refine tw_istore3 C d_m_has_1 ?_
  refine tw_iconst C d_m_has_2 ?_
  refine tw_istore4 C d_m_has_3 ?_
  have h7 := hT.2.1.2
  have h3n := hT.2.1.1
  suffices hl5 : ∀ (f5 : Nat) (j : Nat) (fd : Int), n < j + f5 → j ≤ n → hsI c j x y fd → TW X (md_ws q kz) (S) 5 [some (.ref (q 0)), some (.int (iI x)), some (.int (iI y)), some (.int (iI fd)), some (.int (iI j)), none, none] [] from hl5 (n + 1) 0 0 (by omega) (by omega) (Or.inr ⟨rfl, fun _ h => absurd h (Nat.not_lt_zero _)⟩)
  intro f5
  induction f5 with
  | zero => intro j fd h1 h2 hI; exfalso; omega
  | succ f5 ih5 =>
    intro j fd h1 h2 hI
    refine tw_iload4 C d_m_has_5 ?_
    refine tw_aload0 C d_m_has_7 ?_
    refine g_m0 C d_m_has_8 (show _ = (n : Int) from hT.1) ?_
    refine tw_icmp_ge C d_m_has_11 (by omega) (by omega) (fun u11 => ?_) (fun u11 => ?_)
    · have hfr : fd = 0 ∨ fd = 1 := hI.elim (fun q => Or.inr q.1) (fun q => Or.inl q.1)
      refine tw_iload3 C d_m_has_71 ?_
      exact hR _ _ _ _ _ d_m_has_72 (iI_nz (by omega)) (⟨rfl, by rcases hI with ⟨q, i, i1, i2⟩ | ⟨q, q2⟩; exact Or.inl ⟨q, i, by omega, i2⟩; exact Or.inr ⟨q, fun ⟨i, i1, i2⟩ => q2 i (by omega) i2⟩⟩)
    · refine tw_aload0 C d_m_has_14 ?_
      refine g_m3 C d_m_has_15 ?_
      refine tw_iload4 C d_m_has_18 ?_
      refine al_m3 C j d_m_has_20 (by omega) (by omega) (hL.1 j (by omega)) ?_
      refine tw_istore5 C d_m_has_21 ?_
      refine tw_aload0 C d_m_has_23 ?_
      refine tw_iload4 C d_m_has_24 ?_
      refine tw_calli C (md_ok q kz) (c_m_next (S := S) (n := n) (c := c) (j := j) hT hL (by omega)) cs_m_m_next ⟨⟨rfl, rfl⟩, by decide, by decide⟩ rfl rfl rfl rfl rfl (Nat.le_of_ble_eq_true rfl) d_m_has_26 (fun r26 z26 hp26 => ?_)
      obtain ⟨rfl, hz⟩ := hp26
      replace hz := hz.symm
      subst hz
      have l1 := hL.2.lt (i := j) (by omega) (by omega)
      have l2 := hL.2.lt (i := j + 1) (by omega) (by omega)
      refine tw_istore6 C d_m_has_29 ?_
      have hfr : fd = 0 ∨ fd = 1 := hI.elim (fun q => Or.inr q.1) (fun q => Or.inl q.1)
      refine tw_iload3 C d_m_has_31 ?_
      refine tw_if_ne C d_m_has_32 (by omega) (fun u32 => ?_) (fun u32 => ?_)
      · refine tw_iconst C d_m_has_59 ?_
        refine tw_goto C d_m_has_60 ?_
        refine tw_istore3 C d_m_has_64 ?_
        refine tw_iinc4 C d_m_has_65 ?_
        refine tw_goto C d_m_has_68 ?_
        exact tw_drop 5 (tw_drop 6 (ih5 (j + 1) 1 (by omega) (by omega) (hsI_1 hI u32)))
      · refine tw_iload5 C d_m_has_35 ?_
        refine tw_iload1 C d_m_has_37 ?_
        refine tw_icmp_ne C d_m_has_38 (by omega) (by omega) (fun u38 => ?_) (fun u38 => ?_)
        · refine tw_iload5 C d_m_has_47 ?_
          refine tw_iload2 C d_m_has_49 ?_
          refine tw_icmp_ne C d_m_has_50 (by omega) (by omega) (fun u50 => ?_) (fun u50 => ?_)
          · refine tw_iconst C d_m_has_63 ?_
            refine tw_istore3 C d_m_has_64 ?_
            refine tw_iinc4 C d_m_has_65 ?_
            refine tw_goto C d_m_has_68 ?_
            exact tw_drop 5 (tw_drop 6 (ih5 (j + 1) 0 (by omega) (by omega) (hsI_n hI u32 (by unfold edg; omega))))
          · refine tw_iload6 C d_m_has_53 ?_
            refine tw_iload1 C d_m_has_55 ?_
            refine tw_icmp_ne C d_m_has_56 (by omega) (by omega) (fun u56 => ?_) (fun u56 => ?_)
            · refine tw_iconst C d_m_has_63 ?_
              refine tw_istore3 C d_m_has_64 ?_
              refine tw_iinc4 C d_m_has_65 ?_
              refine tw_goto C d_m_has_68 ?_
              exact tw_drop 5 (tw_drop 6 (ih5 (j + 1) 0 (by omega) (by omega) (hsI_n hI u32 (by unfold edg; omega))))
            · refine tw_iconst C d_m_has_59 ?_
              refine tw_goto C d_m_has_60 ?_
              refine tw_istore3 C d_m_has_64 ?_
              refine tw_iinc4 C d_m_has_65 ?_
              refine tw_goto C d_m_has_68 ?_
              exact tw_drop 5 (tw_drop 6 (ih5 (j + 1) 1 (by omega) (by omega) (hsI_y (by unfold edg; omega))))
        · refine tw_iload6 C d_m_has_41 ?_
          refine tw_iload2 C d_m_has_43 ?_
          refine tw_icmp_eq C d_m_has_44 (by omega) (by omega) (fun u44 => ?_) (fun u44 => ?_)
          · refine tw_iconst C d_m_has_59 ?_
            refine tw_goto C d_m_has_60 ?_
            refine tw_istore3 C d_m_has_64 ?_
            refine tw_iinc4 C d_m_has_65 ?_
            refine tw_goto C d_m_has_68 ?_
            exact tw_drop 5 (tw_drop 6 (ih5 (j + 1) 1 (by omega) (by omega) (hsI_y (by unfold edg; omega))))
          · refine tw_iload5 C d_m_has_47 ?_
            refine tw_iload2 C d_m_has_49 ?_
            refine tw_icmp_ne C d_m_has_50 (by omega) (by omega) (fun u50 => ?_) (fun u50 => ?_)
            · refine tw_iconst C d_m_has_63 ?_
              refine tw_istore3 C d_m_has_64 ?_
              refine tw_iinc4 C d_m_has_65 ?_
              refine tw_goto C d_m_has_68 ?_
              exact tw_drop 5 (tw_drop 6 (ih5 (j + 1) 0 (by omega) (by omega) (hsI_n hI u32 (by unfold edg; omega))))
            · refine tw_iload6 C d_m_has_53 ?_
              refine tw_iload1 C d_m_has_55 ?_
              refine tw_icmp_ne C d_m_has_56 (by omega) (by omega) (fun u56 => ?_) (fun u56 => ?_)
              · refine tw_iconst C d_m_has_63 ?_
                refine tw_istore3 C d_m_has_64 ?_
                refine tw_iinc4 C d_m_has_65 ?_
                refine tw_goto C d_m_has_68 ?_
                exact tw_drop 5 (tw_drop 6 (ih5 (j + 1) 0 (by omega) (by omega) (hsI_n hI u32 (by unfold edg; omega))))
              · refine tw_iconst C d_m_has_59 ?_
                refine tw_goto C d_m_has_60 ?_
                refine tw_istore3 C d_m_has_64 ?_
                refine tw_iinc4 C d_m_has_65 ?_
                refine tw_goto C d_m_has_68 ?_
                exact tw_drop 5 (tw_drop 6 (ih5 (j + 1) 1 (by omega) (by omega) (hsI_y (by unfold edg; omega))))
end
section
/-! TourDeskModel: allowed, spell -/
/-! allowed -/
def bkF (R : Nat → Int) (c : Nat → Nat) (v : Int) : Nat → Int := fun k => if R (c k * 7 + c (k + 1)) = v then 1 else 0
def duF (R : Nat → Int) (a : Nat) : Nat → Int := fun b => if R (a * 7 + b) = 1 then 1 else 0
theorem sm_t {f : Nat → Int} {k : Nat} {v : Int} (h : f k = v) : sm f (k + 1) = sm f k + v := by show sm f k + f k = _; rw [h]
theorem sm_01 {f : Nat → Int} : ∀ {n : Nat}, (∀ k, k < n → f k = 0 ∨ f k = 1) → 0 ≤ sm f n ∧ sm f n ≤ n := by
  intro n
  induction n with
  | zero => intro _; exact ⟨Int.le_refl _, Int.le_refl _⟩
  | succ n ih =>
    intro h
    have a := ih (fun k hk => h k (by omega))
    have b := h n (by omega)
    show 0 ≤ sm f n + f n ∧ sm f n + f n ≤ ((n + 1 : Nat) : Int)
    omega
theorem bk_01 (R : Nat → Int) (c : Nat → Nat) (v : Int) (k : Nat) : bkF R c v k = 0 ∨ bkF R c v k = 1 := by
  unfold bkF
  by_cases q : R (c k * 7 + c (k + 1)) = v
  · rw [if_pos q]; exact Or.inr rfl
  · rw [if_neg q]; exact Or.inl rfl
theorem du_01 (R : Nat → Int) (a k : Nat) : duF R a k = 0 ∨ duF R a k = 1 := by
  unfold duF
  by_cases q : R (a * 7 + k) = 1
  · rw [if_pos q]; exact Or.inr rfl
  · rw [if_neg q]; exact Or.inl rfl
theorem bk_cn (R : Nat → Int) (c : Nat → Nat) (v : Int) (n : Nat) : sm (bkF R c v) n = cn (fun k => R (c k * 7 + c (k + 1)) = v) n := by
  refine sm_congr (fun k hk => ?_)
  unfold bkF
  by_cases q : R (c k * 7 + c (k + 1)) = v
  · rw [if_pos q, if_pos q]
  · rw [if_neg q, if_neg q]
theorem sm_trunc (P : Nat → Prop) (f : Nat → Int) (a : Nat) (hf : ∀ b, b < a → f b = @ite Int (P b) (Classical.propDecidable _) 1 0) : ∀ n, a ≤ n → sm f a = cn (fun b => b < a ∧ P b) n := by
  intro n
  induction n with
  | zero =>
    intro h
    rw [show a = 0 by omega]; rfl
  | succ n ih =>
    intro h
    have e : cn (fun b => b < a ∧ P b) (n + 1) = cn (fun b => b < a ∧ P b) n + @ite Int (n < a ∧ P n) (Classical.propDecidable _) 1 0 := rfl
    by_cases q : a = n + 1
    · subst q
      rw [e]
      show sm f n + f n = _
      rw [hf n (by omega)]
      have e2 : sm f n = cn (fun b => b < n + 1 ∧ P b) n := by
        refine sm_congr (fun k hk => ?_)
        rw [hf k (by omega)]
        by_cases w : P k
        · rw [if_pos w, if_pos ⟨by omega, w⟩]
        · rw [if_neg w, if_neg (fun z => w z.2)]
      rw [e2]
      congr 1
      by_cases w : P n
      · rw [if_pos w, if_pos ⟨by omega, w⟩]
      · rw [if_neg w, if_neg (fun z => w z.2)]
    · rw [e, if_neg (fun z => by omega), ih (by omega)]; omega
theorem du_dbl (R : Nat → Int) (n : Nat) : sm (fun a => sm (duF R a) a) n = dbl (fun a b => R (a * 7 + b) = 1) n := by
  refine sm_congr (fun a ha => ?_)
  refine sm_trunc (fun b => R (a * 7 + b) = 1) (duF R a) a (fun b _ => ?_) n (by omega)
  unfold duF
  by_cases q : R (a * 7 + b) = 1
  · rw [if_pos q, if_pos q]
  · rw [if_neg q, if_neg q]
theorem du_rng (R : Nat → Int) {n : Nat} (h7 : n ≤ 7) : ∀ {a : Nat}, a ≤ n → 0 ≤ sm (fun a => sm (duF R a) a) a ∧ sm (fun a => sm (duF R a) a) a ≤ 7 * a := by
  intro a
  induction a with
  | zero => intro _; exact ⟨Int.le_refl _, Int.le_refl _⟩
  | succ a ih =>
    intro h
    have x := ih (by omega)
    have y := sm_01 (f := duF R a) (n := a) (fun k _ => du_01 R a k)
    show 0 ≤ sm (fun a => sm (duF R a) a) a + sm (duF R a) a ∧ sm (fun a => sm (duF R a) a) a + sm (duF R a) a ≤ 7 * ((a + 1 : Nat) : Int)
    omega
set_option maxRecDepth 20000 in
theorem c_m_allowed {q : Nat → Nat} {kz : ClassId × ClassId × ClassId} {S : TS} {n : Nat} (hT : MD0 n S) {c : Nat → Nat} (hL : hasT n S c) : ∀ l : Launch, MI l y_m_allowed b_m_allowed 6 .boolean ({ frames := 1, cells := 0, slots := 0, locals := 21 }) (md_ws q kz) (ty_k kz) [.ref (q 0)] S (fun r S' => S' = S ∧ ((r = 1 ∧ Fits n (S 2) c) ∨ (r = 0 ∧ ¬ Fits n (S 2) c))) := by
  refine mi_of (md_ok q kz) (by decide) (Nat.le_of_ble_eq_true rfl) (by simp [Value.category]) (Nat.le_of_ble_eq_true rfl) ?_
  intro X C hR
  show TW X (md_ws q kz) S 0 [some (.ref (q 0)), none, none, none, none, none] []
  refine tw_iconst C d_m_allowed_0 ?_
  refine tw_istore1 C d_m_allowed_1 ?_
  refine tw_iconst C d_m_allowed_2 ?_
  refine tw_istore2 C d_m_allowed_3 ?_
  refine tw_iconst C d_m_allowed_4 ?_
  refine tw_istore3 C d_m_allowed_5 ?_
  have h7 := hT.2.1.2
  have h3n := hT.2.1.1
  suffices hl6 : ∀ (f6 : Nat) (j : Nat), n < j + f6 → j ≤ n → TW X (md_ws q kz) (S) 6 [some (.ref (q 0)), some (.int (iI (sm (bkF (S 2) c 2) j))), some (.int (iI (sm (bkF (S 2) c 1) j))), some (.int (iI j)), none, none] [] from hl6 (n + 1) 0 (by omega) (by omega)
  intro f6
  induction f6 with
  | zero => intro j h1 h2; exfalso; omega
  | succ f6 ih6 =>
    intro j h1 h2
    refine tw_iload3 C d_m_allowed_6 ?_
    refine tw_aload0 C d_m_allowed_7 ?_
    refine g_m0 C d_m_allowed_8 (show _ = (n : Int) from hT.1) ?_
    refine tw_icmp_ge C d_m_allowed_11 (by omega) (by omega) (fun u11 => ?_) (fun u11 => ?_)
    · refine tw_iconst C d_m_allowed_70 ?_
      refine tw_istore3 C d_m_allowed_71 ?_
      refine tw_iconst C d_m_allowed_72 ?_
      refine tw_istore4 C d_m_allowed_73 ?_
      suffices hl75 : ∀ (f75 : Nat) (a : Nat), n < a + f75 → a ≤ n → TW X (md_ws q kz) (S) 75 [some (.ref (q 0)), some (.int (iI (sm (bkF (S 2) c 2) n))), some (.int (iI (sm (bkF (S 2) c 1) n))), some (.int (iI (sm (fun a => sm (duF (S 2) a) a) a))), some (.int (iI a)), none] [] from tw_L (by rw [show j = n by omega]; rfl) (hl75 (n + 1) 0 (by omega) (by omega))
      intro f75
      induction f75 with
      | zero => intro a k1 k2; exfalso; omega
      | succ f75 ih75 =>
        intro a k1 k2
        refine tw_iload4 C d_m_allowed_75 ?_
        refine tw_aload0 C d_m_allowed_77 ?_
        refine g_m0 C d_m_allowed_78 (show _ = (n : Int) from hT.1) ?_
        refine tw_icmp_ge C d_m_allowed_81 (by omega) (by omega) (fun u81 => ?_) (fun u81 => ?_)
        · have g1 := sm_01 (f := bkF (S 2) c 2) (n := n) (fun k _ => bk_01 _ _ _ k)
          have g2 := sm_01 (f := bkF (S 2) c 1) (n := n) (fun k _ => bk_01 _ _ _ k)
          have g3 := du_rng (S 2) h7 (a := a) (by omega)
          have hal := allow_iff h3n hT.2.2.2.2.2.1 hL.2
          rw [← bk_cn, ← bk_cn, ← du_dbl] at hal
          refine tw_iload1 C d_m_allowed_131 ?_
          refine tw_if_ne C d_m_allowed_132 (by omega) (fun u132 => ?_) (fun u132 => ?_)
          · refine tw_iconst C d_m_allowed_144 ?_
            exact hR _ _ _ _ _ d_m_allowed_145 rfl (⟨rfl, Or.inr ⟨rfl, fun q => u132 (hal.mpr q).1⟩⟩)
          · refine tw_iload2 C d_m_allowed_135 ?_
            refine tw_iload3 C d_m_allowed_136 ?_
            refine tw_icmp_ne C d_m_allowed_137 (by omega) (by omega) (fun u137 => ?_) (fun u137 => ?_)
            · refine tw_iconst C d_m_allowed_144 ?_
              exact hR _ _ _ _ _ d_m_allowed_145 rfl (⟨rfl, Or.inr ⟨rfl, fun q => u137 (by rw [show a = n by omega]; exact (hal.mpr q).2)⟩⟩)
            · refine tw_iconst C d_m_allowed_140 ?_
              refine tw_goto C d_m_allowed_141 ?_
              exact hR _ _ _ _ _ d_m_allowed_145 rfl (⟨rfl, Or.inl ⟨rfl, hal.mp ⟨u132, by rw [show a = n by omega] at u137; exact u137⟩⟩⟩)
        · refine tw_iconst C d_m_allowed_84 ?_
          refine tw_istore5 C d_m_allowed_85 ?_
          suffices hl87 : ∀ (f87 : Nat) (b : Nat), a < b + f87 → b ≤ a → TW X (md_ws q kz) (S) 87 [some (.ref (q 0)), some (.int (iI (sm (bkF (S 2) c 2) n))), some (.int (iI (sm (bkF (S 2) c 1) n))), some (.int (iI (sm (fun a => sm (duF (S 2) a) a) a + sm (duF (S 2) a) b))), some (.int (iI a)), some (.int (iI b))] [] from tw_L (by rw [show sm (duF (S 2) a) 0 = 0 from rfl, Int.add_zero]; rfl) (hl87 (a + 1) 0 (by omega) (by omega))
          intro f87
          induction f87 with
          | zero => intro b m1 m2; exfalso; omega
          | succ f87 ih87 =>
            intro b m1 m2
            refine tw_iload5 C d_m_allowed_87 ?_
            refine tw_iload4 C d_m_allowed_89 ?_
            refine tw_icmp_ge C d_m_allowed_91 (by omega) (by omega) (fun u91 => ?_) (fun u91 => ?_)
            · refine tw_iinc4 C d_m_allowed_125 ?_
              refine tw_goto C d_m_allowed_128 ?_
              exact tw_drop 5 (tw_L (by rw [show b = a by omega]; rfl) (ih75 (a + 1) (by omega) (by omega)))
            · refine tw_iload3 C d_m_allowed_94 ?_
              refine tw_aload0 C d_m_allowed_95 ?_
              refine g_m2 C d_m_allowed_96 ?_
              refine tw_iload4 C d_m_allowed_99 ?_
              refine tw_bipush C d_m_allowed_101 rfl ?_
              refine tw_imul C d_m_allowed_103 ?_
              refine tw_iload5 C d_m_allowed_104 ?_
              refine tw_iadd C d_m_allowed_106 ?_
              refine al_m2 C (((a * 7) + b)) d_m_allowed_107 (by omega) (by omega) rfl ?_
              have r2 := hT.2.2.2.1 (a * 7 + b)
              refine tw_iconst C d_m_allowed_108 ?_
              refine tw_icmp_ne C d_m_allowed_109 (by omega) (by omega) (fun u109 => ?_) (fun u109 => ?_)
              · refine tw_iconst C d_m_allowed_116 ?_
                refine tw_iadd C d_m_allowed_117 ?_
                refine tw_istore3 C d_m_allowed_118 ?_
                refine tw_iinc5 C d_m_allowed_119 ?_
                refine tw_goto C d_m_allowed_122 ?_
                exact tw_L (by rw [sm_t (f := duF (S 2) a) (if_neg u109), ← Int.add_assoc]; rfl) (ih87 (b + 1) (by omega) (by omega))
              · refine tw_iconst C d_m_allowed_112 ?_
                refine tw_goto C d_m_allowed_113 ?_
                refine tw_iadd C d_m_allowed_117 ?_
                refine tw_istore3 C d_m_allowed_118 ?_
                refine tw_iinc5 C d_m_allowed_119 ?_
                refine tw_goto C d_m_allowed_122 ?_
                exact tw_L (by rw [sm_t (f := duF (S 2) a) (if_pos u109), ← Int.add_assoc]; rfl) (ih87 (b + 1) (by omega) (by omega))
    · refine tw_aload0 C d_m_allowed_14 ?_
      refine g_m2 C d_m_allowed_15 ?_
      refine tw_aload0 C d_m_allowed_18 ?_
      refine g_m3 C d_m_allowed_19 ?_
      refine tw_iload3 C d_m_allowed_22 ?_
      refine al_m3 C j d_m_allowed_23 (by omega) (by omega) (hL.1 j (by omega)) ?_
      refine tw_bipush C d_m_allowed_24 rfl ?_
      refine tw_imul C d_m_allowed_26 ?_
      refine tw_aload0 C d_m_allowed_27 ?_
      refine tw_iload3 C d_m_allowed_28 ?_
      refine tw_calli C (md_ok q kz) (c_m_next (S := S) (n := n) (c := c) (j := j) hT hL (by omega)) cs_m_m_next ⟨⟨rfl, rfl⟩, by decide, by decide⟩ rfl rfl rfl rfl rfl (Nat.le_of_ble_eq_true rfl) d_m_allowed_29 (fun r29 z29 hp29 => ?_)
      obtain ⟨rfl, hz⟩ := hp29
      replace hz := hz.symm
      subst hz
      have l1 := hL.2.lt (i := j) (by omega) (by omega)
      have l2 := hL.2.lt (i := j + 1) (by omega) (by omega)
      refine tw_iadd C d_m_allowed_32 ?_
      refine al_m2 C ((((c j) * 7) + (c (j + 1)))) d_m_allowed_33 (by omega) (by omega) rfl ?_
      have r2 := hT.2.2.2.1 (c j * 7 + c (j + 1))
      refine tw_istore4 C d_m_allowed_34 ?_
      refine tw_iload1 C d_m_allowed_36 ?_
      refine tw_iload4 C d_m_allowed_37 ?_
      refine tw_iconst C d_m_allowed_39 ?_
      refine tw_icmp_ne C d_m_allowed_40 (by omega) (by omega) (fun u40 => ?_) (fun u40 => ?_)
      · refine tw_iconst C d_m_allowed_47 ?_
        refine tw_iadd C d_m_allowed_48 ?_
        refine tw_istore1 C d_m_allowed_49 ?_
        refine tw_iload2 C d_m_allowed_50 ?_
        refine tw_iload4 C d_m_allowed_51 ?_
        refine tw_iconst C d_m_allowed_53 ?_
        refine tw_icmp_ne C d_m_allowed_54 (by omega) (by omega) (fun u54 => ?_) (fun u54 => ?_)
        · refine tw_iconst C d_m_allowed_61 ?_
          refine tw_iadd C d_m_allowed_62 ?_
          refine tw_istore2 C d_m_allowed_63 ?_
          refine tw_iinc3 C d_m_allowed_64 ?_
          refine tw_goto C d_m_allowed_67 ?_
          exact tw_drop 4 (tw_L (by rw [sm_t (f := bkF (S 2) c 2) (if_neg u40), sm_t (f := bkF (S 2) c 1) (if_neg u54)]; rfl) (ih6 (j + 1) (by omega) (by omega)))
        · refine tw_iconst C d_m_allowed_57 ?_
          refine tw_goto C d_m_allowed_58 ?_
          refine tw_iadd C d_m_allowed_62 ?_
          refine tw_istore2 C d_m_allowed_63 ?_
          refine tw_iinc3 C d_m_allowed_64 ?_
          refine tw_goto C d_m_allowed_67 ?_
          exact tw_drop 4 (tw_L (by rw [sm_t (f := bkF (S 2) c 2) (if_neg u40), sm_t (f := bkF (S 2) c 1) (if_pos u54)]; rfl) (ih6 (j + 1) (by omega) (by omega)))
      · refine tw_iconst C d_m_allowed_43 ?_
        refine tw_goto C d_m_allowed_44 ?_
        refine tw_iadd C d_m_allowed_48 ?_
        refine tw_istore1 C d_m_allowed_49 ?_
        refine tw_iload2 C d_m_allowed_50 ?_
        refine tw_iload4 C d_m_allowed_51 ?_
        refine tw_iconst C d_m_allowed_53 ?_
        refine tw_icmp_ne C d_m_allowed_54 (by omega) (by omega) (fun u54 => ?_) (fun u54 => ?_)
        · refine tw_iconst C d_m_allowed_61 ?_
          refine tw_iadd C d_m_allowed_62 ?_
          refine tw_istore2 C d_m_allowed_63 ?_
          refine tw_iinc3 C d_m_allowed_64 ?_
          refine tw_goto C d_m_allowed_67 ?_
          exact tw_drop 4 (tw_L (by rw [sm_t (f := bkF (S 2) c 2) (if_pos u40), sm_t (f := bkF (S 2) c 1) (if_neg u54)]; rfl) (ih6 (j + 1) (by omega) (by omega)))
        · refine tw_iconst C d_m_allowed_57 ?_
          refine tw_goto C d_m_allowed_58 ?_
          refine tw_iadd C d_m_allowed_62 ?_
          refine tw_istore2 C d_m_allowed_63 ?_
          refine tw_iinc3 C d_m_allowed_64 ?_
          refine tw_goto C d_m_allowed_67 ?_
          exact tw_drop 4 (tw_L (by rw [sm_t (f := bkF (S 2) c 2) (if_pos u40), sm_t (f := bkF (S 2) c 1) (if_pos u54)]; rfl) (ih6 (j + 1) (by omega) (by omega)))
/-! spell -/
theorem sh_l8 : ∀ b : Nat, b < 8 → iI 1 <<< (iI (b : Int) &&& 31) = iI ((2 ^ b : Nat) : Int) := by decide +kernel
theorem clr : ∀ m : Nat, m < 128 → ∀ c : Nat, c < 7 → iI (m : Int) &&& (iI ((2 ^ c : Nat) : Int) ^^^ iI (-1)) = iI ((m - 2 ^ c * bitN m c : Nat) : Int) := by decide +kernel
theorem spq_s (n t j : Nat) : spq n t (j + 1) = (if 0 < (spq n t j).2.1 / (n - (j + 1)) then (spq n t j).1 % ((spq n t j).2.1 / (n - (j + 1))) else 0, (spq n t j).2.1 / (n - (j + 1)), (spq n t j).2.2.1 - 2 ^ (nthG (spq n t j).2.2.1 (if 0 < (spq n t j).2.1 / (n - (j + 1)) then (spq n t j).1 / ((spq n t j).2.1 / (n - (j + 1))) else 0) 7 0 0) * bitN (spq n t j).2.2.1 (nthG (spq n t j).2.2.1 (if 0 < (spq n t j).2.1 / (n - (j + 1)) then (spq n t j).1 / ((spq n t j).2.1 / (n - (j + 1))) else 0) 7 0 0), (spq n t j).2.2.2 ++ [nthG (spq n t j).2.2.1 (if 0 < (spq n t j).2.1 / (n - (j + 1)) then (spq n t j).1 / ((spq n t j).2.1 / (n - (j + 1))) else 0) 7 0 0]) := rfl
theorem fac_le {n : Nat} (h : n ≤ 7) : 1 ≤ fac (n - 1) ∧ fac (n - 1) ≤ 720 := by
  have : n = 0 ∨ n = 1 ∨ n = 2 ∨ n = 3 ∨ n = 4 ∨ n = 5 ∨ n = 6 ∨ n = 7 := by omega
  rcases this with rfl | rfl | rfl | rfl | rfl | rfl | rfl | rfl <;> decide
theorem pow_le {n : Nat} (h : n ≤ 7) (h3 : 3 ≤ n) : 2 ≤ 2 ^ n ∧ 2 ^ n ≤ 128 := by
  have : n = 3 ∨ n = 4 ∨ n = 5 ∨ n = 6 ∨ n = 7 := by omega
  rcases this with rfl | rfl | rfl | rfl | rfl <;> decide
theorem spq_rng {n t : Nat} (h7 : n ≤ 7) (h3 : 3 ≤ n) : ∀ j, (spq n t j).1 ≤ t ∧ (spq n t j).2.1 ≤ 720 ∧ (spq n t j).2.2.1 < 128 ∧ (spq n t j).2.2.2.length = j + 1 := by
  intro j
  induction j with
  | zero =>
    have a := pow_le h7 h3
    have b := fac_le h7
    exact ⟨Nat.le_refl _, b.2, by show 2 ^ n - 2 < 128; omega, rfl⟩
  | succ j ih =>
    obtain ⟨i1, i2, i3, i4⟩ := ih
    rw [spq_s]
    refine ⟨?_, ?_, ?_, ?_⟩
    · show (if 0 < (spq n t j).2.1 / (n - (j + 1)) then (spq n t j).1 % ((spq n t j).2.1 / (n - (j + 1))) else 0) ≤ t
      by_cases q : 0 < (spq n t j).2.1 / (n - (j + 1))
      · rw [if_pos q]; exact Nat.le_trans (Nat.mod_le _ _) i1
      · rw [if_neg q]; exact Nat.zero_le _
    · exact Nat.le_trans (Nat.div_le_self _ _) i2
    · exact Nat.lt_of_le_of_lt (Nat.sub_le _ _) i3
    · show ((spq n t j).2.2.2 ++ [_]).length = j + 1 + 1
      rw [List.length_append, i4]; rfl
/-- j + 1 places spelled -/
def spI (n t : Nat) (S S1 : TS) (j : Nat) : Prop := mF S S1 ∧ ∀ i, i ≤ j → S1 3 i = (((spq n t j).2.2.2.getD i 0 : Nat) : Int)
theorem spI_step {n t j : Nat} {S S1 : TS} {c : Nat} (h7 : n ≤ 7) (h3 : 3 ≤ n) (h : spI n t S S1 j) (hc : (spq n t (j + 1)).2.2.2 = (spq n t j).2.2.2 ++ [c]) : spI n t S (up S1 3 (j + 1) (c : Int)) (j + 1) := by
  refine ⟨fun f hf => by rw [up_f _ hf]; exact h.1 f hf, fun i hi => ?_⟩
  have hl := (spq_rng (t := t) h7 h3 j).2.2.2
  rw [up_at, hc]
  by_cases e : i = j + 1
  · rw [if_pos e, e, List.getD_eq_getElem?_getD, List.getElem?_append_right (by omega), hl, Nat.sub_self]; rfl
  · rw [if_neg e, h.2 i (by omega), List.getD_eq_getElem?_getD, List.getD_eq_getElem?_getD, List.getElem?_append_left (by omega)]
set_option maxRecDepth 20000 in
theorem c_m_spell {q : Nat → Nat} {kz : ClassId × ClassId × ClassId} {S : TS} {n : Nat} (hT : MD0 n S) {t : Nat} (ht : t < fac (n - 1)) : ∀ l : Launch, MV l y_m_spell b_m_spell 8 ({ frames := 1, cells := 0, slots := 0, locals := 24 }) (md_ws q kz) (ty_k kz) [.ref (q 0), .int (iI t)] S (fun S' => mF S S' ∧ ∀ i, i < n → S' 3 i = (spT n t i : Int)) := by
  refine mv_of (md_ok q kz) (by decide) (Nat.le_of_ble_eq_true rfl) (by simp [Value.category]) (Nat.le_of_ble_eq_true rfl) ?_
  intro X C hR
  show TW X (md_ws q kz) S 0 [some (.ref (q 0)), some (.int (iI t)), none, none, none, none, none, none] []
  have hfl := fac_le hT.2.1.2
  refine tw_iload1 C d_m_spell_0 ?_
  refine tw_istore2 C d_m_spell_1 ?_
  refine tw_aload0 C d_m_spell_2 ?_
  refine g_m4 C d_m_spell_3 (show _ = ((fac (n - 1) : Nat) : Int) from hT.2.2.2.2.2.2) ?_
  refine tw_istore3 C d_m_spell_6 ?_
  refine tw_iconst C d_m_spell_7 ?_
  refine tw_aload0 C d_m_spell_8 ?_
  refine g_m0 C d_m_spell_9 (show _ = (n : Int) from hT.1) ?_
  have h7 := hT.2.1.2
  have h3n := hT.2.1.1
  refine tw_ishl C d_m_spell_12 (sh_l8 n (by omega)) ?_
  refine tw_iconst C d_m_spell_13 ?_
  refine tw_isub C d_m_spell_14 ?_
  have hpw := pow_le h7 h3n
  refine tw_eq (show _ = iI ((2 ^ n - 2 : Nat) : Int) by congr 1; omega) ?_
  refine tw_istore4 C d_m_spell_15 ?_
  refine tw_aload0 C d_m_spell_17 ?_
  refine g_m3 C d_m_spell_18 ?_
  refine tw_iconst C d_m_spell_21 ?_
  refine tw_iconst C d_m_spell_22 ?_
  refine as_m3 C 0 d_m_spell_23 (by omega) (by omega) ?_
  refine tw_iconst C d_m_spell_24 ?_
  refine tw_istore5 C d_m_spell_25 ?_
  suffices hl27 : ∀ (f27 : Nat) (j : Nat) (S1 : TS), n < j + 1 + f27 → j + 1 ≤ n → spI n t S S1 j → TW X (md_ws q kz) (S1) 27 [some (.ref (q 0)), some (.int (iI t)), some (.int (iI ((spq n t j).1))), some (.int (iI ((spq n t j).2.1))), some (.int (iI ((spq n t j).2.2.1))), some (.int (iI ((j + 1 : Nat)))), none, none] [] from hl27 n 0 _ (by omega) (by omega) ⟨fun f hf => up_f _ hf, fun i hi => by rw [show i = 0 by omega, up_s]; rfl⟩
  intro f27
  induction f27 with
  | zero => intro j S1 h1 h2 hI; exfalso; omega
  | succ f27 ih27 =>
    intro j S1 h1 h2 hI
    have hrg := spq_rng (t := t) h7 h3n j
    have hnS : S1 0 0 = (n : Int) := by rw [hI.1 0 (by decide)]; exact hT.1
    have hbl : ((spq n t j).2.1 / (n - (j + 1))) ≤ 720 := Nat.le_trans (Nat.div_le_self _ _) hrg.2.1
    have hb0 : (0 : Int) ≤ ((((spq n t j).2.1 / (n - (j + 1))) : Nat) : Int) := Int.natCast_nonneg _
    refine tw_iload5 C d_m_spell_27 ?_
    refine tw_aload0 C d_m_spell_29 ?_
    refine g_m0 C d_m_spell_30 hnS ?_
    refine tw_icmp_ge C d_m_spell_33 (by omega) (by omega) (fun u33 => ?_) (fun u33 => ?_)
    · exact hR _ _ _ _ d_m_spell_120 (⟨hI.1, fun i hi => by rw [hI.2 i (by omega)]; unfold spT spL; rw [show n - 1 = j by omega]⟩)
    · refine tw_iload5 C d_m_spell_36 ?_
      refine tw_aload0 C d_m_spell_38 ?_
      refine g_m0 C d_m_spell_39 hnS ?_
      refine tw_icmp_ge C d_m_spell_42 (by omega) (by omega) (fun u42 => ?_) (fun u42 => ?_)
      · exfalso; omega
      · refine tw_iload3 C d_m_spell_45 ?_
        refine tw_aload0 C d_m_spell_46 ?_
        refine g_m0 C d_m_spell_47 hnS ?_
        refine tw_iload5 C d_m_spell_50 ?_
        refine tw_isub C d_m_spell_52 ?_
        refine tw_idiv C ((spq n t j).2.1) (n - (j + 1)) d_m_spell_53 (by omega) (by omega) (by omega) (by omega) (by omega) ?_
        refine tw_goto C d_m_spell_54 ?_
        refine tw_istore3 C d_m_spell_58 ?_
        refine tw_iload3 C d_m_spell_59 ?_
        refine tw_if_le C d_m_spell_60 (by omega) (fun u60 => ?_) (fun u60 => ?_)
        · refine tw_iconst C d_m_spell_69 ?_
          refine tw_istore6 C d_m_spell_70 ?_
          refine tw_iload3 C d_m_spell_72 ?_
          refine tw_if_le C d_m_spell_73 (by omega) (fun u73 => ?_) (fun u73 => ?_)
          · refine tw_iconst C d_m_spell_82 ?_
            refine tw_istore2 C d_m_spell_83 ?_
            have hcc : (nthG (spq n t j).2.2.1 (if 0 < ((spq n t j).2.1 / (n - (j + 1))) then (spq n t j).1 / ((spq n t j).2.1 / (n - (j + 1))) else 0) 7 0 0) < 7 := nthG_lt _ _ 7 0 0 (by decide)
            have hsk : (if 0 < ((spq n t j).2.1 / (n - (j + 1))) then (spq n t j).1 / ((spq n t j).2.1 / (n - (j + 1))) else 0) < 1000000 := by
              by_cases q : 0 < ((spq n t j).2.1 / (n - (j + 1)))
              · rw [if_pos q]; exact Nat.lt_of_le_of_lt (Nat.div_le_self _ _) (by omega)
              · rw [if_neg q]; decide
            refine tw_L (show _ = [some (.ref (q 0)), some (.int (iI (t : Int))), some (.int (iI ((if 0 < ((spq n t j).2.1 / (n - (j + 1))) then (spq n t j).1 % ((spq n t j).2.1 / (n - (j + 1))) else 0 : Nat) : Int))), some (.int (iI ((((spq n t j).2.1 / (n - (j + 1))) : Nat) : Int))), some (.int (iI ((spq n t j).2.2.1 : Int))), some (.int (iI ((j + 1 : Nat) : Int))), some (.int (iI (((if 0 < ((spq n t j).2.1 / (n - (j + 1))) then (spq n t j).1 / ((spq n t j).2.1 / (n - (j + 1))) else 0) : Nat) : Int))), none] by rw [if_neg (by omega), if_neg (by omega)]; rfl) ?_
            refine tw_aload0 C d_m_spell_84 ?_
            refine tw_iload4 C d_m_spell_85 ?_
            refine tw_iload6 C d_m_spell_87 ?_
            refine tw_calli C (md_ok q kz) (c_m_nth (set := (spq n t j).2.2.1) (skip := (if 0 < ((spq n t j).2.1 / (n - (j + 1))) then (spq n t j).1 / ((spq n t j).2.1 / (n - (j + 1))) else 0)) hrg.2.2.1 hsk) cs_m_m_nth ⟨⟨rfl, rfl⟩, by decide, by decide⟩ rfl rfl rfl rfl rfl (Nat.le_of_ble_eq_true rfl) d_m_spell_89 (fun r89 z89 hp89 => ?_)
            obtain ⟨rfl, hz⟩ := hp89
            replace hz := hz.symm
            subst hz
            refine tw_istore7 C d_m_spell_92 ?_
            refine tw_aload0 C d_m_spell_94 ?_
            refine g_m3 C d_m_spell_95 ?_
            refine tw_iload5 C d_m_spell_98 ?_
            refine tw_iload7 C d_m_spell_100 ?_
            refine as_m3 C ((j + 1)) d_m_spell_102 (by omega) (by omega) ?_
            refine tw_iload4 C d_m_spell_103 ?_
            refine tw_iconst C d_m_spell_105 ?_
            refine tw_iload7 C d_m_spell_106 ?_
            refine tw_ishl C d_m_spell_108 (sh_l (nthG (spq n t j).2.2.1 (if 0 < ((spq n t j).2.1 / (n - (j + 1))) then (spq n t j).1 / ((spq n t j).2.1 / (n - (j + 1))) else 0) 7 0 0) hcc) ?_
            refine tw_iconst C d_m_spell_109 ?_
            refine tw_ixor C d_m_spell_110 rfl ?_
            refine tw_iand C d_m_spell_111 (clr (spq n t j).2.2.1 hrg.2.2.1 (nthG (spq n t j).2.2.1 (if 0 < ((spq n t j).2.1 / (n - (j + 1))) then (spq n t j).1 / ((spq n t j).2.1 / (n - (j + 1))) else 0) 7 0 0) hcc) ?_
            refine tw_istore4 C d_m_spell_112 ?_
            refine tw_iinc5 C d_m_spell_114 ?_
            refine tw_goto C d_m_spell_117 ?_
            exact tw_drop 6 (tw_drop 7 (ih27 (j + 1) _ (by omega) (by omega) (spI_step h7 h3n hI rfl)))
          · exfalso; omega
        · refine tw_iload2 C d_m_spell_63 ?_
          refine tw_iload3 C d_m_spell_64 ?_
          refine tw_idiv C ((spq n t j).1) ((spq n t j).2.1 / (n - (j + 1))) d_m_spell_65 (by omega) (by omega) (by omega) (by omega) (by omega) ?_
          refine tw_goto C d_m_spell_66 ?_
          refine tw_istore6 C d_m_spell_70 ?_
          refine tw_iload3 C d_m_spell_72 ?_
          refine tw_if_le C d_m_spell_73 (by omega) (fun u73 => ?_) (fun u73 => ?_)
          · exfalso; omega
          · refine tw_iload2 C d_m_spell_76 ?_
            refine tw_iload3 C d_m_spell_77 ?_
            refine tw_irem C ((spq n t j).1) ((spq n t j).2.1 / (n - (j + 1))) d_m_spell_78 (by omega) (by omega) (by omega) (by omega) (by omega) ?_
            refine tw_goto C d_m_spell_79 ?_
            refine tw_istore2 C d_m_spell_83 ?_
            have hcc : (nthG (spq n t j).2.2.1 (if 0 < ((spq n t j).2.1 / (n - (j + 1))) then (spq n t j).1 / ((spq n t j).2.1 / (n - (j + 1))) else 0) 7 0 0) < 7 := nthG_lt _ _ 7 0 0 (by decide)
            have hsk : (if 0 < ((spq n t j).2.1 / (n - (j + 1))) then (spq n t j).1 / ((spq n t j).2.1 / (n - (j + 1))) else 0) < 1000000 := by
              by_cases q : 0 < ((spq n t j).2.1 / (n - (j + 1)))
              · rw [if_pos q]; exact Nat.lt_of_le_of_lt (Nat.div_le_self _ _) (by omega)
              · rw [if_neg q]; decide
            refine tw_L (show _ = [some (.ref (q 0)), some (.int (iI (t : Int))), some (.int (iI ((if 0 < ((spq n t j).2.1 / (n - (j + 1))) then (spq n t j).1 % ((spq n t j).2.1 / (n - (j + 1))) else 0 : Nat) : Int))), some (.int (iI ((((spq n t j).2.1 / (n - (j + 1))) : Nat) : Int))), some (.int (iI ((spq n t j).2.2.1 : Int))), some (.int (iI ((j + 1 : Nat) : Int))), some (.int (iI (((if 0 < ((spq n t j).2.1 / (n - (j + 1))) then (spq n t j).1 / ((spq n t j).2.1 / (n - (j + 1))) else 0) : Nat) : Int))), none] by rw [if_pos (by omega), if_pos (by omega)]) ?_
            refine tw_aload0 C d_m_spell_84 ?_
            refine tw_iload4 C d_m_spell_85 ?_
            refine tw_iload6 C d_m_spell_87 ?_
            refine tw_calli C (md_ok q kz) (c_m_nth (set := (spq n t j).2.2.1) (skip := (if 0 < ((spq n t j).2.1 / (n - (j + 1))) then (spq n t j).1 / ((spq n t j).2.1 / (n - (j + 1))) else 0)) hrg.2.2.1 hsk) cs_m_m_nth ⟨⟨rfl, rfl⟩, by decide, by decide⟩ rfl rfl rfl rfl rfl (Nat.le_of_ble_eq_true rfl) d_m_spell_89 (fun r89 z89 hp89 => ?_)
            obtain ⟨rfl, hz⟩ := hp89
            replace hz := hz.symm
            subst hz
            refine tw_istore7 C d_m_spell_92 ?_
            refine tw_aload0 C d_m_spell_94 ?_
            refine g_m3 C d_m_spell_95 ?_
            refine tw_iload5 C d_m_spell_98 ?_
            refine tw_iload7 C d_m_spell_100 ?_
            refine as_m3 C ((j + 1)) d_m_spell_102 (by omega) (by omega) ?_
            refine tw_iload4 C d_m_spell_103 ?_
            refine tw_iconst C d_m_spell_105 ?_
            refine tw_iload7 C d_m_spell_106 ?_
            refine tw_ishl C d_m_spell_108 (sh_l (nthG (spq n t j).2.2.1 (if 0 < ((spq n t j).2.1 / (n - (j + 1))) then (spq n t j).1 / ((spq n t j).2.1 / (n - (j + 1))) else 0) 7 0 0) hcc) ?_
            refine tw_iconst C d_m_spell_109 ?_
            refine tw_ixor C d_m_spell_110 rfl ?_
            refine tw_iand C d_m_spell_111 (clr (spq n t j).2.2.1 hrg.2.2.1 (nthG (spq n t j).2.2.1 (if 0 < ((spq n t j).2.1 / (n - (j + 1))) then (spq n t j).1 / ((spq n t j).2.1 / (n - (j + 1))) else 0) 7 0 0) hcc) ?_
            refine tw_istore4 C d_m_spell_112 ?_
            refine tw_iinc5 C d_m_spell_114 ?_
            refine tw_goto C d_m_spell_117 ?_
            exact tw_drop 6 (tw_drop 7 (ih27 (j + 1) _ (by omega) (by omega) (spI_step h7 h3n hI rfl)))
end
section
/-! TourDeskModel: least and the questions -/
theorem mF.tr {M M1 M2 : TS} (h : mF M M1) (h2 : mF M1 M2) : mF M M2 := fun f hf => by rw [h2 f hf]; exact h f hf
def lsC (n : Nat) (R : Nat → Int) (x y : Nat) (wv : Int) (c : Nat → Nat) : Prop := (wv = 2 ∨ (Adj n c x y ↔ wv = 1)) ∧ Fits n R c
theorem lsC.eq {n : Nat} {R : Nat → Int} {x y : Nat} {wv : Int} {c d : Nat → Nat} (h : eqT n c d) (g : lsC n R x y wv c) : lsC n R x y wv d :=
  ⟨g.1.imp id (fun q => ⟨fun w => q.mp (h.symm.adj w), fun w => h.adj (q.mpr w)⟩), h.fits g.2⟩
def lsI (n : Nat) (M : Nat → Int) (P : (Nat → Nat) → Prop) (t : Nat) (lv : Int) : Prop := (lv = -1 ∧ ∀ u, u < t → ¬ P (spT n u)) ∨ (0 ≤ lv ∧ (∃ u, u < t ∧ P (spT n u) ∧ Cost n M (spT n u) = lv) ∧ ∀ u, u < t → P (spT n u) → lv ≤ Cost n M (spT n u))
section LS
variable {n : Nat} {M : Nat → Int} {P : (Nat → Nat) → Prop} {t : Nat} {lv : Int}
theorem lsI_skip (h : lsI n M P t lv) (hp : ¬ P (spT n t)) : lsI n M P (t + 1) lv := by
  rcases h with ⟨h1, h2⟩ | ⟨h1, ⟨u, u1, u2, u3⟩, h3⟩
  · exact Or.inl ⟨h1, lt_s h2 hp⟩
  · exact Or.inr ⟨h1, ⟨u, by omega, u2, u3⟩, lt_s h3 (fun q => absurd q hp)⟩
theorem lsI_keep (h : lsI n M P t lv) (h0 : 0 ≤ lv) (hc : lv ≤ Cost n M (spT n t)) : lsI n M P (t + 1) lv := by
  rcases h with ⟨h1, h2⟩ | ⟨h1, ⟨u, u1, u2, u3⟩, h3⟩
  · omega
  · exact Or.inr ⟨h1, ⟨u, by omega, u2, u3⟩, lt_s h3 (fun _ => hc)⟩
theorem lsI_take (h : lsI n M P t lv) (hp : P (spT n t)) (h0 : 0 ≤ Cost n M (spT n t)) (hc : lv < 0 ∨ Cost n M (spT n t) < lv) : lsI n M P (t + 1) (Cost n M (spT n t)) := by
  refine Or.inr ⟨h0, ⟨t, by omega, hp, rfl⟩, ?_⟩
  rcases h with ⟨h1, h2⟩ | ⟨h1, ⟨u, u1, u2, u3⟩, h3⟩
  · exact lt_s (fun u hu q => absurd q (h2 u hu)) (fun _ => Int.le_refl _)
  · exact lt_s (fun u hu q => by have := h3 u hu q; omega) (fun _ => Int.le_refl _)
theorem lsI_rng (h7 : n ≤ 7) (hM : ∀ j, 0 ≤ M j ∧ M j ≤ 99) (h : lsI n M P t lv) : -1 ≤ lv ∧ lv ≤ 693 := by
  rcases h with ⟨h1, -⟩ | ⟨h1, ⟨u, -, -, u3⟩, -⟩
  · omega
  · have := cost_rng (n := n) (M := M) (c := spT n u) h7 hM; omega
theorem lsI_end (hn : 3 ≤ n ∧ n ≤ 7) (hP : ∀ c d, eqT n c d → P c → P d) (h : lsI n M P (fac (n - 1)) lv) : OptP n M P lv := by
  rcases h with ⟨h1, h2⟩ | ⟨h1, ⟨u, u1, u2, u3⟩, h3⟩
  · refine Or.inl ⟨h1, fun c ht q => ?_⟩
    obtain ⟨t, t1, t2⟩ := spT_all hn ht
    exact h2 t t1 (hP c _ (fun k hk => (t2 k hk).symm) q)
  · refine Or.inr ⟨h1, ⟨_, spT_tour hn u1, u2, u3⟩, fun c ht q => ?_⟩
    obtain ⟨t, t1, t2⟩ := spT_all hn ht
    have e : eqT n c (spT n t) := fun k hk => (t2 k hk).symm
    have := h3 t t1 (hP c _ e q)
    rw [← e.cost] at this; exact this
end LS
set_option maxRecDepth 20000 in
theorem c_m_least {q : Nat → Nat} {kz : ClassId × ClassId × ClassId} {S : TS} {n : Nat} (hT : MD0 n S) {x y : Nat} {wv : Int} (hx : x < 7) (hy : y < 7) (hw : wv = 0 ∨ wv = 1 ∨ wv = 2) : ∀ l : Launch, MI l y_m_least b_m_least 7 .int ({ frames := 2, cells := 0, slots := 0, locals := 51 }) (md_ws q kz) (ty_k kz) [.ref (q 0), .int (iI x), .int (iI y), .int (iI wv)] S (fun r S' => mF S S' ∧ OptP n (S 1) (lsC n (S 2) x y wv) r) := by
  refine mi_of (md_ok q kz) (by decide) (Nat.le_of_ble_eq_true rfl) (by simp [Value.category]) (Nat.le_of_ble_eq_true rfl) ?_
  intro X C hR
  show TW X (md_ws q kz) S 0 [some (.ref (q 0)), some (.int (iI x)), some (.int (iI y)), some (.int (iI wv)), none, none, none] []
  refine tw_iconst C d_m_least_0 ?_
  refine tw_istore4 C d_m_least_1 ?_
  refine tw_iconst C d_m_least_3 ?_
  refine tw_istore5 C d_m_least_4 ?_
  have h7 := hT.2.1.2
  have h3n := hT.2.1.1
  have hfl := fac_le h7
  suffices hl6 : ∀ (f6 : Nat) (t : Nat) (lv : Int) (S1 : TS), fac (n - 1) < t + f6 → t ≤ fac (n - 1) → mF S S1 → lsI n (S 1) (lsC n (S 2) x y wv) t lv → TW X (md_ws q kz) (S1) 6 [some (.ref (q 0)), some (.int (iI x)), some (.int (iI y)), some (.int (iI wv)), some (.int (iI lv)), some (.int (iI t)), none] [] from hl6 (fac (n - 1) + 1) 0 (-1) S (by omega) (by omega) (fun _ _ => rfl) (Or.inl ⟨rfl, fun _ h => absurd h (Nat.not_lt_zero _)⟩)
  intro f6
  induction f6 with
  | zero => intro t lv S1 h1 h2 hF hI; exfalso; omega
  | succ f6 ih6 =>
    intro t lv S1 h1 h2 hF hI
    have hlr := lsI_rng h7 hT.2.2.1 hI
    refine tw_iload5 C d_m_least_6 ?_
    refine tw_aload0 C d_m_least_8 ?_
    refine g_m4 C d_m_least_9 (show _ = ((fac (n - 1) : Nat) : Int) by rw [hF 4 (by decide)]; exact hT.2.2.2.2.2.2) ?_
    refine tw_icmp_ge C d_m_least_12 (by omega) (by omega) (fun u12 => ?_) (fun u12 => ?_)
    · refine tw_iload4 C d_m_least_93 ?_
      exact hR _ _ _ _ _ d_m_least_95 rfl (⟨hF, lsI_end hT.2.1 (fun c d e g => g.eq e) (by rw [show t = fac (n - 1) by omega] at hI; exact hI)⟩)
    · refine tw_iload5 C d_m_least_15 ?_
      refine tw_sipush C d_m_least_17 rfl ?_
      refine tw_icmp_ge C d_m_least_20 (by omega) (by omega) (fun u20 => ?_) (fun u20 => ?_)
      · exfalso; omega
      · refine tw_aload0 C d_m_least_23 ?_
        refine tw_iload5 C d_m_least_24 ?_
        refine tw_callv C (md_ok q kz) (c_m_spell (S := S1) (n := n) (t := t) (hT.keep hF) (by omega)) cs_m_m_spell ⟨⟨rfl, rfl⟩, by decide, by decide⟩ rfl rfl rfl rfl rfl (Nat.le_of_ble_eq_true rfl) d_m_least_26 (fun z26 hp26 => ?_)
        have hF2 : mF S z26 := hF.tr hp26.1
        have hT2 := hT.keep hF2
        have hL : hasT n z26 (spT n t) := ⟨hp26.2, spT_tour hT.2.1 (by omega)⟩
        have e1 : z26 1 = S 1 := hF2 1 (by decide)
        have e2 : z26 2 = S 2 := hF2 2 (by decide)
        refine tw_iload3 C d_m_least_29 ?_
        refine tw_iconst C d_m_least_30 ?_
        refine tw_icmp_eq C d_m_least_31 (by omega) (by omega) (fun u31 => ?_) (fun u31 => ?_)
        · have hcw : wv = 2 ∨ (Adj n (spT n t) x y ↔ wv = 1) := by
            first
            | exact Or.inl u31
            | exact Or.inr (by rcases hp37 with ⟨q1, q2⟩ | ⟨q1, q2⟩; exact ⟨fun _ => by omega, fun _ => q2⟩; exact ⟨fun h => absurd h q2, fun h => by exfalso; omega⟩)
          refine tw_aload0 C d_m_least_53 ?_
          refine tw_calli C (md_ok q kz) (c_m_allowed (S := z26) (n := n) (c := spT n t) hT2 hL) cs_m_m_allowed ⟨⟨rfl, rfl⟩, by decide, by decide⟩ rfl rfl rfl rfl rfl (Nat.le_of_ble_eq_true rfl) d_m_least_54 (fun r54 z54 hp54 => ?_)
          obtain ⟨hz, hp54⟩ := hp54
          replace hz := hz.symm
          subst hz
          have hr54 : r54 = 0 ∨ r54 = 1 := hp54.elim (fun q => Or.inr q.1) (fun q => Or.inl q.1)
          rw [e2] at hp54
          refine tw_if_eq C d_m_least_57 (by omega) (fun u57 => ?_) (fun u57 => ?_)
          · refine tw_iinc5 C d_m_least_87 ?_
            refine tw_goto C d_m_least_90 ?_
            exact tw_drop 6 (ih6 (t + 1) lv z26 (by omega) (by omega) hF2 (lsI_skip hI (fun hc => by rcases hp54 with q | q; exact absurd (u57.symm.trans q.1) (by decide); exact q.2 hc.2)))
          · have hcd : lsC n (S 2) x y wv (spT n t) := ⟨hcw, by rcases hp54 with q | q; exact q.2; exact absurd q.1 u57⟩
            refine tw_aload0 C d_m_least_60 ?_
            refine tw_calli C (md_ok q kz) (c_m_cost (S := z26) (n := n) (c := spT n t) hT2 hL) cs_m_m_cost ⟨⟨rfl, rfl⟩, by decide, by decide⟩ rfl rfl rfl rfl rfl (Nat.le_of_ble_eq_true rfl) d_m_least_61 (fun r61 z61 hp61 => ?_)
            obtain ⟨hr61, hz⟩ := hp61
            replace hz := hz.symm
            subst hz
            rw [e1] at hr61
            subst hr61
            have hcr := cost_rng (n := n) (M := S 1) (c := spT n t) h7 hT.2.2.1
            refine tw_istore6 C d_m_least_64 ?_
            refine tw_iload4 C d_m_least_66 ?_
            refine tw_if_lt C d_m_least_68 (by omega) (fun u68 => ?_) (fun u68 => ?_)
            · refine tw_iload6 C d_m_least_78 ?_
              refine tw_goto C d_m_least_80 ?_
              refine tw_istore4 C d_m_least_85 ?_
              refine tw_iinc5 C d_m_least_87 ?_
              refine tw_goto C d_m_least_90 ?_
              exact tw_drop 6 (ih6 (t + 1) _ z26 (by omega) (by omega) hF2 (lsI_take hI hcd hcr.1 (Or.inl u68)))
            · refine tw_iload6 C d_m_least_71 ?_
              refine tw_iload4 C d_m_least_73 ?_
              refine tw_icmp_ge C d_m_least_75 (by omega) (by omega) (fun u75 => ?_) (fun u75 => ?_)
              · refine tw_iload4 C d_m_least_83 ?_
                refine tw_istore4 C d_m_least_85 ?_
                refine tw_iinc5 C d_m_least_87 ?_
                refine tw_goto C d_m_least_90 ?_
                exact tw_drop 6 (ih6 (t + 1) lv z26 (by omega) (by omega) hF2 (lsI_keep hI (by omega) u75))
              · refine tw_iload6 C d_m_least_78 ?_
                refine tw_goto C d_m_least_80 ?_
                refine tw_istore4 C d_m_least_85 ?_
                refine tw_iinc5 C d_m_least_87 ?_
                refine tw_goto C d_m_least_90 ?_
                exact tw_drop 6 (ih6 (t + 1) _ z26 (by omega) (by omega) hF2 (lsI_take hI hcd hcr.1 (Or.inr u75)))
        · refine tw_aload0 C d_m_least_34 ?_
          refine tw_iload1 C d_m_least_35 ?_
          refine tw_iload2 C d_m_least_36 ?_
          refine tw_calli C (md_ok q kz) (c_m_has (S := z26) (n := n) (c := spT n t) (x := x) (y := y) hT2 hL (by omega) (by omega)) cs_m_m_has ⟨⟨rfl, rfl⟩, by decide, by decide⟩ rfl rfl rfl rfl rfl (Nat.le_of_ble_eq_true rfl) d_m_least_37 (fun r37 z37 hp37 => ?_)
          obtain ⟨hz, hp37⟩ := hp37
          replace hz := hz.symm
          subst hz
          have hr37 : r37 = 0 ∨ r37 = 1 := hp37.elim (fun q => Or.inr q.1) (fun q => Or.inl q.1)
          refine tw_iload3 C d_m_least_40 ?_
          refine tw_iconst C d_m_least_41 ?_
          refine tw_icmp_ne C d_m_least_42 (by omega) (by omega) (fun u42 => ?_) (fun u42 => ?_)
          · refine tw_iconst C d_m_least_49 ?_
            refine tw_icmp_ne C d_m_least_50 (by omega) (by omega) (fun u50 => ?_) (fun u50 => ?_)
            · refine tw_iinc5 C d_m_least_87 ?_
              refine tw_goto C d_m_least_90 ?_
              exact tw_drop 6 (ih6 (t + 1) lv z26 (by omega) (by omega) hF2 (lsI_skip hI (fun hc => by rcases hc.1 with h | h; exact absurd h u31; rcases hp37 with ⟨q1, q2⟩ | ⟨q1, q2⟩; have := h.mp q2; omega; exact q2 (h.mpr (by omega)))))
            · have hcw : wv = 2 ∨ (Adj n (spT n t) x y ↔ wv = 1) := by
                first
                | exact Or.inl u31
                | exact Or.inr (by rcases hp37 with ⟨q1, q2⟩ | ⟨q1, q2⟩; exact ⟨fun _ => by omega, fun _ => q2⟩; exact ⟨fun h => absurd h q2, fun h => by exfalso; omega⟩)
              refine tw_aload0 C d_m_least_53 ?_
              refine tw_calli C (md_ok q kz) (c_m_allowed (S := z26) (n := n) (c := spT n t) hT2 hL) cs_m_m_allowed ⟨⟨rfl, rfl⟩, by decide, by decide⟩ rfl rfl rfl rfl rfl (Nat.le_of_ble_eq_true rfl) d_m_least_54 (fun r54 z54 hp54 => ?_)
              obtain ⟨hz, hp54⟩ := hp54
              replace hz := hz.symm
              subst hz
              have hr54 : r54 = 0 ∨ r54 = 1 := hp54.elim (fun q => Or.inr q.1) (fun q => Or.inl q.1)
              rw [e2] at hp54
              refine tw_if_eq C d_m_least_57 (by omega) (fun u57 => ?_) (fun u57 => ?_)
              · refine tw_iinc5 C d_m_least_87 ?_
                refine tw_goto C d_m_least_90 ?_
                exact tw_drop 6 (ih6 (t + 1) lv z26 (by omega) (by omega) hF2 (lsI_skip hI (fun hc => by rcases hp54 with q | q; exact absurd (u57.symm.trans q.1) (by decide); exact q.2 hc.2)))
              · have hcd : lsC n (S 2) x y wv (spT n t) := ⟨hcw, by rcases hp54 with q | q; exact q.2; exact absurd q.1 u57⟩
                refine tw_aload0 C d_m_least_60 ?_
                refine tw_calli C (md_ok q kz) (c_m_cost (S := z26) (n := n) (c := spT n t) hT2 hL) cs_m_m_cost ⟨⟨rfl, rfl⟩, by decide, by decide⟩ rfl rfl rfl rfl rfl (Nat.le_of_ble_eq_true rfl) d_m_least_61 (fun r61 z61 hp61 => ?_)
                obtain ⟨hr61, hz⟩ := hp61
                replace hz := hz.symm
                subst hz
                rw [e1] at hr61
                subst hr61
                have hcr := cost_rng (n := n) (M := S 1) (c := spT n t) h7 hT.2.2.1
                refine tw_istore6 C d_m_least_64 ?_
                refine tw_iload4 C d_m_least_66 ?_
                refine tw_if_lt C d_m_least_68 (by omega) (fun u68 => ?_) (fun u68 => ?_)
                · refine tw_iload6 C d_m_least_78 ?_
                  refine tw_goto C d_m_least_80 ?_
                  refine tw_istore4 C d_m_least_85 ?_
                  refine tw_iinc5 C d_m_least_87 ?_
                  refine tw_goto C d_m_least_90 ?_
                  exact tw_drop 6 (ih6 (t + 1) _ z26 (by omega) (by omega) hF2 (lsI_take hI hcd hcr.1 (Or.inl u68)))
                · refine tw_iload6 C d_m_least_71 ?_
                  refine tw_iload4 C d_m_least_73 ?_
                  refine tw_icmp_ge C d_m_least_75 (by omega) (by omega) (fun u75 => ?_) (fun u75 => ?_)
                  · refine tw_iload4 C d_m_least_83 ?_
                    refine tw_istore4 C d_m_least_85 ?_
                    refine tw_iinc5 C d_m_least_87 ?_
                    refine tw_goto C d_m_least_90 ?_
                    exact tw_drop 6 (ih6 (t + 1) lv z26 (by omega) (by omega) hF2 (lsI_keep hI (by omega) u75))
                  · refine tw_iload6 C d_m_least_78 ?_
                    refine tw_goto C d_m_least_80 ?_
                    refine tw_istore4 C d_m_least_85 ?_
                    refine tw_iinc5 C d_m_least_87 ?_
                    refine tw_goto C d_m_least_90 ?_
                    exact tw_drop 6 (ih6 (t + 1) _ z26 (by omega) (by omega) hF2 (lsI_take hI hcd hcr.1 (Or.inr u75)))
          · refine tw_iconst C d_m_least_45 ?_
            refine tw_goto C d_m_least_46 ?_
            refine tw_icmp_ne C d_m_least_50 (by omega) (by omega) (fun u50 => ?_) (fun u50 => ?_)
            · refine tw_iinc5 C d_m_least_87 ?_
              refine tw_goto C d_m_least_90 ?_
              exact tw_drop 6 (ih6 (t + 1) lv z26 (by omega) (by omega) hF2 (lsI_skip hI (fun hc => by rcases hc.1 with h | h; exact absurd h u31; rcases hp37 with ⟨q1, q2⟩ | ⟨q1, q2⟩; have := h.mp q2; omega; exact q2 (h.mpr (by omega)))))
            · have hcw : wv = 2 ∨ (Adj n (spT n t) x y ↔ wv = 1) := by
                first
                | exact Or.inl u31
                | exact Or.inr (by rcases hp37 with ⟨q1, q2⟩ | ⟨q1, q2⟩; exact ⟨fun _ => by omega, fun _ => q2⟩; exact ⟨fun h => absurd h q2, fun h => by exfalso; omega⟩)
              refine tw_aload0 C d_m_least_53 ?_
              refine tw_calli C (md_ok q kz) (c_m_allowed (S := z26) (n := n) (c := spT n t) hT2 hL) cs_m_m_allowed ⟨⟨rfl, rfl⟩, by decide, by decide⟩ rfl rfl rfl rfl rfl (Nat.le_of_ble_eq_true rfl) d_m_least_54 (fun r54 z54 hp54 => ?_)
              obtain ⟨hz, hp54⟩ := hp54
              replace hz := hz.symm
              subst hz
              have hr54 : r54 = 0 ∨ r54 = 1 := hp54.elim (fun q => Or.inr q.1) (fun q => Or.inl q.1)
              rw [e2] at hp54
              refine tw_if_eq C d_m_least_57 (by omega) (fun u57 => ?_) (fun u57 => ?_)
              · refine tw_iinc5 C d_m_least_87 ?_
                refine tw_goto C d_m_least_90 ?_
                exact tw_drop 6 (ih6 (t + 1) lv z26 (by omega) (by omega) hF2 (lsI_skip hI (fun hc => by rcases hp54 with q | q; exact absurd (u57.symm.trans q.1) (by decide); exact q.2 hc.2)))
              · have hcd : lsC n (S 2) x y wv (spT n t) := ⟨hcw, by rcases hp54 with q | q; exact q.2; exact absurd q.1 u57⟩
                refine tw_aload0 C d_m_least_60 ?_
                refine tw_calli C (md_ok q kz) (c_m_cost (S := z26) (n := n) (c := spT n t) hT2 hL) cs_m_m_cost ⟨⟨rfl, rfl⟩, by decide, by decide⟩ rfl rfl rfl rfl rfl (Nat.le_of_ble_eq_true rfl) d_m_least_61 (fun r61 z61 hp61 => ?_)
                obtain ⟨hr61, hz⟩ := hp61
                replace hz := hz.symm
                subst hz
                rw [e1] at hr61
                subst hr61
                have hcr := cost_rng (n := n) (M := S 1) (c := spT n t) h7 hT.2.2.1
                refine tw_istore6 C d_m_least_64 ?_
                refine tw_iload4 C d_m_least_66 ?_
                refine tw_if_lt C d_m_least_68 (by omega) (fun u68 => ?_) (fun u68 => ?_)
                · refine tw_iload6 C d_m_least_78 ?_
                  refine tw_goto C d_m_least_80 ?_
                  refine tw_istore4 C d_m_least_85 ?_
                  refine tw_iinc5 C d_m_least_87 ?_
                  refine tw_goto C d_m_least_90 ?_
                  exact tw_drop 6 (ih6 (t + 1) _ z26 (by omega) (by omega) hF2 (lsI_take hI hcd hcr.1 (Or.inl u68)))
                · refine tw_iload6 C d_m_least_71 ?_
                  refine tw_iload4 C d_m_least_73 ?_
                  refine tw_icmp_ge C d_m_least_75 (by omega) (by omega) (fun u75 => ?_) (fun u75 => ?_)
                  · refine tw_iload4 C d_m_least_83 ?_
                    refine tw_istore4 C d_m_least_85 ?_
                    refine tw_iinc5 C d_m_least_87 ?_
                    refine tw_goto C d_m_least_90 ?_
                    exact tw_drop 6 (ih6 (t + 1) lv z26 (by omega) (by omega) hF2 (lsI_keep hI (by omega) u75))
                  · refine tw_iload6 C d_m_least_78 ?_
                    refine tw_goto C d_m_least_80 ?_
                    refine tw_istore4 C d_m_least_85 ?_
                    refine tw_iinc5 C d_m_least_87 ?_
                    refine tw_goto C d_m_least_90 ?_
                    exact tw_drop 6 (ih6 (t + 1) _ z26 (by omega) (by omega) hF2 (lsI_take hI hcd hcr.1 (Or.inr u75)))
set_option maxRecDepth 20000 in
theorem c_m_best {q : Nat → Nat} {kz : ClassId × ClassId × ClassId} {S : TS} {n : Nat} (hT : MD0 n S)  : ∀ l : Launch, MI l y_m_best b_m_best 1 .int ({ frames := 3, cells := 0, slots := 0, locals := 77 }) (md_ws q kz) (ty_k kz) [.ref (q 0)] S (fun r S' => mF S S' ∧ Opt n (S 1) (S 2) r) := by
  refine mi_of (md_ok q kz) (by decide) (Nat.le_of_ble_eq_true rfl) (by simp [Value.category]) (Nat.le_of_ble_eq_true rfl) ?_
  intro X C hR
  show TW X (md_ws q kz) S 0 [some (.ref (q 0))] []
  refine tw_aload0 C d_m_best_0 ?_
  refine tw_iconst C d_m_best_1 ?_
  refine tw_iconst C d_m_best_2 ?_
  refine tw_iconst C d_m_best_3 ?_
  refine tw_calli C (md_ok q kz) (c_m_least (S := S) (n := n) (x := 0) (y := 0) (wv := 2) hT (by decide) (by decide) (Or.inr (Or.inr rfl))) cs_m_m_least ⟨⟨rfl, rfl⟩, by decide, by decide⟩ rfl rfl rfl rfl rfl (Nat.le_of_ble_eq_true rfl) d_m_best_4 (fun r4 z4 hp4 => ?_)
  exact hR _ _ _ _ _ d_m_best_7 rfl (⟨hp4.1, OptP.congr hp4.2 (fun c ht => ⟨fun q => q.2, fun q => ⟨Or.inl rfl, q⟩⟩)⟩)
set_option maxRecDepth 20000 in
theorem c_m_bestWith {q : Nat → Nat} {kz : ClassId × ClassId × ClassId} {S : TS} {n : Nat} (hT : MD0 n S) {a b : Int} (ha : inR a) (hb : inR b) : ∀ l : Launch, MI l y_m_bestWith b_m_bestWith 3 .int ({ frames := 3, cells := 0, slots := 0, locals := 77 }) (md_ws q kz) (ty_k kz) [.ref (q 0), .int (iI a), .int (iI b)] S (fun r S' => mF S S' ∧ bwP n (S 1) (S 2) a b r) := by
  refine mi_of (md_ok q kz) (by decide) (Nat.le_of_ble_eq_true rfl) (by simp [Value.category]) (Nat.le_of_ble_eq_true rfl) ?_
  intro X C hR
  show TW X (md_ws q kz) S 0 [some (.ref (q 0)), some (.int (iI a)), some (.int (iI b))] []
  have h7 := hT.2.1.2
  have h3n := hT.2.1.1
  refine tw_aload0 C d_m_bestWith_0 ?_
  refine tw_iload1 C d_m_bestWith_1 ?_
  refine tw_iload2 C d_m_bestWith_2 ?_
  refine tw_calli C (md_ok q kz) (c_m_link (S := S) (n := n) (a := a) (b := b) hT.1 h7 ha hb) cs_m_m_link ⟨⟨rfl, rfl⟩, by decide, by decide⟩ rfl rfl rfl rfl rfl (Nat.le_of_ble_eq_true rfl) d_m_bestWith_3 (fun r3 z3 hp3 => ?_)
  obtain ⟨hz, hp3⟩ := hp3
  replace hz := hz.symm
  subst hz
  have hr3 : r3 = 0 ∨ r3 = 1 := hp3.elim (fun q => Or.inr q.1) (fun q => Or.inl q.1)
  refine tw_if_eq C d_m_bestWith_6 (by omega) (fun u6 => ?_) (fun u6 => ?_)
  · refine tw_iconst C d_m_bestWith_19 ?_
    exact hR _ _ _ _ _ d_m_bestWith_20 rfl (⟨fun _ _ => rfl, Or.inl ⟨(by rcases hp3 with q | q; exact absurd (u6.symm.trans q.1) (by decide); exact q.2), rfl⟩⟩)
  · obtain ⟨x, y, hxy⟩ : ∃ x y, lkE n a b x y := lkI.e (by rcases hp3 with q | q; exact q.2; exact absurd q.1 u6)
    obtain ⟨hx, hy, hne, rfl, rfl⟩ := id hxy
    refine tw_aload0 C d_m_bestWith_9 ?_
    refine tw_iload1 C d_m_bestWith_10 ?_
    refine tw_iload2 C d_m_bestWith_11 ?_
    refine tw_iconst C d_m_bestWith_12 ?_
    refine tw_calli C (md_ok q kz) (c_m_least (S := S) (n := n) (x := x) (y := y) (wv := 1) hT (by omega) (by omega) (by decide)) cs_m_m_least ⟨⟨rfl, rfl⟩, by decide, by decide⟩ rfl rfl rfl rfl rfl (Nat.le_of_ble_eq_true rfl) d_m_bestWith_13 (fun r13 z13 hp13 => ?_)
    refine tw_goto C d_m_bestWith_16 ?_
    exact hR _ _ _ _ _ d_m_bestWith_20 rfl (⟨hp13.1, Or.inr ⟨x, y, hxy, OptP.congr hp13.2 (fun c ht => ⟨fun q => ⟨q.2, (q.1.resolve_left (by decide)).mpr rfl⟩, fun q => ⟨Or.inr ⟨fun _ => rfl, fun _ => q.2⟩, q.1⟩⟩)⟩⟩)
set_option maxRecDepth 20000 in
theorem c_m_bestWithout {q : Nat → Nat} {kz : ClassId × ClassId × ClassId} {S : TS} {n : Nat} (hT : MD0 n S) {a b : Int} (ha : inR a) (hb : inR b) : ∀ l : Launch, MI l y_m_bestWithout b_m_bestWithout 3 .int ({ frames := 3, cells := 0, slots := 0, locals := 77 }) (md_ws q kz) (ty_k kz) [.ref (q 0), .int (iI a), .int (iI b)] S (fun r S' => mF S S' ∧ boP n (S 1) (S 2) a b r) := by
  refine mi_of (md_ok q kz) (by decide) (Nat.le_of_ble_eq_true rfl) (by simp [Value.category]) (Nat.le_of_ble_eq_true rfl) ?_
  intro X C hR
  show TW X (md_ws q kz) S 0 [some (.ref (q 0)), some (.int (iI a)), some (.int (iI b))] []
  have h7 := hT.2.1.2
  have h3n := hT.2.1.1
  refine tw_aload0 C d_m_bestWithout_0 ?_
  refine tw_iload1 C d_m_bestWithout_1 ?_
  refine tw_iload2 C d_m_bestWithout_2 ?_
  refine tw_calli C (md_ok q kz) (c_m_link (S := S) (n := n) (a := a) (b := b) hT.1 h7 ha hb) cs_m_m_link ⟨⟨rfl, rfl⟩, by decide, by decide⟩ rfl rfl rfl rfl rfl (Nat.le_of_ble_eq_true rfl) d_m_bestWithout_3 (fun r3 z3 hp3 => ?_)
  obtain ⟨hz, hp3⟩ := hp3
  replace hz := hz.symm
  subst hz
  have hr3 : r3 = 0 ∨ r3 = 1 := hp3.elim (fun q => Or.inr q.1) (fun q => Or.inl q.1)
  refine tw_if_eq C d_m_bestWithout_6 (by omega) (fun u6 => ?_) (fun u6 => ?_)
  · refine tw_iconst C d_m_bestWithout_19 ?_
    exact hR _ _ _ _ _ d_m_bestWithout_20 rfl (⟨fun _ _ => rfl, Or.inl ⟨(by rcases hp3 with q | q; exact absurd (u6.symm.trans q.1) (by decide); exact q.2), rfl⟩⟩)
  · obtain ⟨x, y, hxy⟩ : ∃ x y, lkE n a b x y := lkI.e (by rcases hp3 with q | q; exact q.2; exact absurd q.1 u6)
    obtain ⟨hx, hy, hne, rfl, rfl⟩ := id hxy
    refine tw_aload0 C d_m_bestWithout_9 ?_
    refine tw_iload1 C d_m_bestWithout_10 ?_
    refine tw_iload2 C d_m_bestWithout_11 ?_
    refine tw_iconst C d_m_bestWithout_12 ?_
    refine tw_calli C (md_ok q kz) (c_m_least (S := S) (n := n) (x := x) (y := y) (wv := 0) hT (by omega) (by omega) (by decide)) cs_m_m_least ⟨⟨rfl, rfl⟩, by decide, by decide⟩ rfl rfl rfl rfl rfl (Nat.le_of_ble_eq_true rfl) d_m_bestWithout_13 (fun r13 z13 hp13 => ?_)
    refine tw_goto C d_m_bestWithout_16 ?_
    exact hR _ _ _ _ _ d_m_bestWithout_20 rfl (⟨hp13.1, Or.inr ⟨x, y, hxy, OptP.congr hp13.2 (fun c ht => ⟨fun q => ⟨q.2, fun w => absurd ((q.1.resolve_left (by decide)).mp w) (by decide)⟩, fun q => ⟨Or.inr ⟨fun w => absurd w q.2, fun w => absurd w (by decide)⟩, q.1⟩⟩)⟩⟩)
theorem first_lex {n : Nat} {M R : Nat → Int} {o : Int} {t : Nat} (hn : 3 ≤ n ∧ n ≤ 7) (ht : t < fac (n - 1)) (h0 : 0 ≤ o) (ho : Opt n M R o) (hno : ∀ u, u < t → ¬ (Cost n M (spT n u) = o ∧ Fits n R (spT n u))) (hc : Cost n M (spT n t) = o) (hf : Fits n R (spT n t)) : LexOpt n M R (spT n t) := by
  have hall : ∀ c, Tour n c → Fits n R c → o ≤ Cost n M c := by
    rcases ho with q | q
    · omega
    · exact q.2.2
  refine ⟨spT_tour hn ht, hf, fun c h1 h2 => by rw [hc]; exact hall c h1 h2, fun c h1 h2 h3 => ?_⟩
  obtain ⟨u, u1, u2⟩ := spT_all hn h1
  have e : eqT n c (spT n u) := fun k hk => (u2 k hk).symm
  rcases Nat.lt_trichotomy u t with g | g | g
  · exfalso
    exact hno u g ⟨by rw [← e.cost, h3]; exact hc, e.fits h2⟩
  · subst g
    exact Or.inl (fun k hk => e k (by omega))
  · obtain ⟨j, j1, j2, j3⟩ := spT_lex hn g u1
    exact Or.inr ⟨j, j1, fun i hi => by rw [e i (by omega)]; exact j2 i hi, by rw [e j (by omega)]; exact j3⟩
set_option maxRecDepth 20000 in
theorem c_m_cityAt {q : Nat → Nat} {kz : ClassId × ClassId × ClassId} {S : TS} {n : Nat} (hT : MD0 n S) {kq : Int} (hq : inR kq) : ∀ l : Launch, MI l y_m_cityAt b_m_cityAt 4 .int ({ frames := 4, cells := 0, slots := 0, locals := 97 }) (md_ws q kz) (ty_k kz) [.ref (q 0), .int (iI kq)] S (fun r S' => mF S S' ∧ caP n (S 1) (S 2) kq r) := by
  refine mi_of (md_ok q kz) (by decide) (Nat.le_of_ble_eq_true rfl) (by simp [Value.category]) (Nat.le_of_ble_eq_true rfl) ?_
  intro X C hR
  show TW X (md_ws q kz) S 0 [some (.ref (q 0)), some (.int (iI kq)), none, none] []
  have h7 := hT.2.1.2
  have h3n := hT.2.1.1
  have hfl := fac_le h7
  refine tw_aload0 C d_m_cityAt_0 ?_
  refine tw_calli C (md_ok q kz) (c_m_best (S := S) (n := n) hT) cs_m_m_best ⟨⟨rfl, rfl⟩, by decide, by decide⟩ rfl rfl rfl rfl rfl (Nat.le_of_ble_eq_true rfl) d_m_cityAt_1 (fun r1 z1 hp1 => ?_)
  obtain ⟨hF1, hop⟩ := hp1
  have hr1 := OptP.rng h7 hT.2.2.1 hop
  refine tw_istore2 C d_m_cityAt_4 ?_
  refine tw_iload2 C d_m_cityAt_5 ?_
  refine tw_if_lt C d_m_cityAt_6 (by omega) (fun u6 => ?_) (fun u6 => ?_)
  · refine tw_iconst C d_m_cityAt_21 ?_
    exact hR _ _ _ _ _ d_m_cityAt_22 rfl (⟨hF1, Or.inl ⟨rfl, Or.inl (fun c ht hf => by rcases hop with q | q; exact q.2 c ht hf; omega)⟩⟩)
  · refine tw_iload1 C d_m_cityAt_9 ?_
    refine tw_if_lt C d_m_cityAt_10 (by omega) (fun u10 => ?_) (fun u10 => ?_)
    · refine tw_iconst C d_m_cityAt_21 ?_
      exact hR _ _ _ _ _ d_m_cityAt_22 rfl (⟨hF1, Or.inl ⟨rfl, by omega⟩⟩)
    · refine tw_iload1 C d_m_cityAt_13 ?_
      refine tw_aload0 C d_m_cityAt_14 ?_
      refine g_m0 C d_m_cityAt_15 (show _ = (n : Int) by rw [hF1 0 (by decide)]; exact hT.1) ?_
      refine tw_icmp_lt C d_m_cityAt_18 (by omega) (by omega) (fun u18 => ?_) (fun u18 => ?_)
      · obtain ⟨i, rfl⟩ : ∃ i : Nat, kq = (i : Int) := ⟨kq.toNat, by omega⟩
        refine tw_iconst C d_m_cityAt_23 ?_
        refine tw_istore3 C d_m_cityAt_24 ?_
        suffices hl25 : ∀ (f25 : Nat) (t : Nat) (S1 : TS), fac (n - 1) < t + f25 → t ≤ fac (n - 1) → mF S S1 → (∀ u, u < t → ¬ (Cost n (S 1) (spT n u) = r1 ∧ Fits n (S 2) (spT n u))) → TW X (md_ws q kz) (S1) 25 [some (.ref (q 0)), some (.int (iI i)), some (.int (iI r1)), some (.int (iI t))] [] from hl25 (fac (n - 1) + 1) 0 z1 (by omega) (by omega) hF1 (fun _ h => absurd h (Nat.not_lt_zero _))
        intro f25
        induction f25 with
        | zero => intro t S1 h1 h2 hF hI; exfalso; omega
        | succ f25 ih25 =>
          intro t S1 h1 h2 hF hI
          refine tw_iload3 C d_m_cityAt_25 ?_
          refine tw_aload0 C d_m_cityAt_26 ?_
          refine g_m4 C d_m_cityAt_27 (show _ = ((fac (n - 1) : Nat) : Int) by rw [hF 4 (by decide)]; exact hT.2.2.2.2.2.2) ?_
          refine tw_icmp_ge C d_m_cityAt_30 (by omega) (by omega) (fun u30 => ?_) (fun u30 => ?_)
          · refine tw_iconst C d_m_cityAt_73 ?_
            exact hR _ _ _ _ _ d_m_cityAt_74 rfl (⟨hF, by exfalso; rcases hop with q | ⟨q, ⟨c, c1, c2, c3⟩, -⟩; omega; obtain ⟨u, k1, k2⟩ := spT_all hT.2.1 c1; have e : eqT n c (spT n u) := fun k hk => (k2 k hk).symm; exact hI u (by omega) ⟨by rw [← e.cost]; exact c3, e.fits c2⟩⟩)
          · refine tw_iload3 C d_m_cityAt_33 ?_
            refine tw_sipush C d_m_cityAt_34 rfl ?_
            refine tw_icmp_ge C d_m_cityAt_37 (by omega) (by omega) (fun u37 => ?_) (fun u37 => ?_)
            · exfalso; omega
            · refine tw_aload0 C d_m_cityAt_40 ?_
              refine tw_iload3 C d_m_cityAt_41 ?_
              refine tw_callv C (md_ok q kz) (c_m_spell (S := S1) (n := n) (t := t) (hT.keep hF) (by omega)) cs_m_m_spell ⟨⟨rfl, rfl⟩, by decide, by decide⟩ rfl rfl rfl rfl rfl (Nat.le_of_ble_eq_true rfl) d_m_cityAt_42 (fun z42 hp42 => ?_)
              have hF2 : mF S z42 := hF.tr hp42.1
              have hT2 := hT.keep hF2
              have hL : hasT n z42 (spT n t) := ⟨hp42.2, spT_tour hT.2.1 (by omega)⟩
              have e1 : z42 1 = S 1 := hF2 1 (by decide)
              have e2 : z42 2 = S 2 := hF2 2 (by decide)
              refine tw_aload0 C d_m_cityAt_45 ?_
              refine tw_calli C (md_ok q kz) (c_m_cost (S := z42) (n := n) (c := spT n t) hT2 hL) cs_m_m_cost ⟨⟨rfl, rfl⟩, by decide, by decide⟩ rfl rfl rfl rfl rfl (Nat.le_of_ble_eq_true rfl) d_m_cityAt_46 (fun r46 z46 hp46 => ?_)
              obtain ⟨hr46, hz⟩ := hp46
              replace hz := hz.symm
              subst hz
              rw [e1] at hr46
              subst hr46
              have hcr := cost_rng (n := n) (M := S 1) (c := spT n t) h7 hT.2.2.1
              refine tw_iload2 C d_m_cityAt_49 ?_
              refine tw_icmp_ne C d_m_cityAt_50 (by omega) (by omega) (fun u50 => ?_) (fun u50 => ?_)
              · refine tw_iinc3 C d_m_cityAt_67 ?_
                refine tw_goto C d_m_cityAt_70 ?_
                exact ih25 (t + 1) z42 (by omega) (by omega) hF2 (lt_s hI (fun q => u50 q.1))
              · refine tw_aload0 C d_m_cityAt_53 ?_
                refine tw_calli C (md_ok q kz) (c_m_allowed (S := z42) (n := n) (c := spT n t) hT2 hL) cs_m_m_allowed ⟨⟨rfl, rfl⟩, by decide, by decide⟩ rfl rfl rfl rfl rfl (Nat.le_of_ble_eq_true rfl) d_m_cityAt_54 (fun r54 z54 hp54 => ?_)
                obtain ⟨hz, hp54⟩ := hp54
                replace hz := hz.symm
                subst hz
                have hr54 : r54 = 0 ∨ r54 = 1 := hp54.elim (fun q => Or.inr q.1) (fun q => Or.inl q.1)
                rw [e2] at hp54
                refine tw_if_eq C d_m_cityAt_57 (by omega) (fun u57 => ?_) (fun u57 => ?_)
                · refine tw_iinc3 C d_m_cityAt_67 ?_
                  refine tw_goto C d_m_cityAt_70 ?_
                  exact ih25 (t + 1) z42 (by omega) (by omega) hF2 (lt_s hI (fun q => by rcases hp54 with w | w; exact absurd (u57.symm.trans w.1) (by decide); exact w.2 q.2))
                · have hfit : Fits n (S 2) (spT n t) := by rcases hp54 with q | q; exact q.2; exact absurd q.1 u57
                  refine tw_aload0 C d_m_cityAt_60 ?_
                  refine g_m3 C d_m_cityAt_61 ?_
                  refine tw_iload1 C d_m_cityAt_64 ?_
                  refine al_m3 C i d_m_cityAt_65 (by omega) (by omega) (hL.1 i (by omega)) ?_
                  exact hR _ _ _ _ _ d_m_cityAt_66 rfl (⟨hF2, Or.inr ⟨i, spT n t, by omega, rfl, first_lex hT.2.1 (by omega) u6 hop hI u50 hfit, rfl⟩⟩)
      · refine tw_iconst C d_m_cityAt_21 ?_
        exact hR _ _ _ _ _ d_m_cityAt_22 rfl (⟨hF1, Or.inl ⟨rfl, by omega⟩⟩)
/-- bits of the cities beside x in the best tours looked at: all those ahead of t, and of t the places under b -/
def mnI (n : Nat) (M R : Nat → Int) (o : Int) (x t b m : Nat) : Prop := m < 128 ∧ ∀ i, i < 7 → (bitN m i = 1 ↔ (i < n ∧ ((∃ u, u < t ∧ (Cost n M (spT n u) = o ∧ Fits n R (spT n u)) ∧ Adj n (spT n u) x i) ∨ (i < b ∧ (Cost n M (spT n t) = o ∧ Fits n R (spT n t)) ∧ Adj n (spT n t) x i))))
theorem mnI_0 (n : Nat) (M R : Nat → Int) (o : Int) (x : Nat) : mnI n M R o x 0 0 0 := ⟨by decide, fun i hi => by
  rw [bit_0 i hi]
  exact ⟨fun q => absurd q (by decide), fun q => by rcases q.2 with ⟨u, u1, -⟩ | ⟨w, -⟩ <;> omega⟩⟩
theorem mnI_skip {n : Nat} {M R : Nat → Int} {o : Int} {x t m : Nat} (h : mnI n M R o x t 0 m) (hq : ¬ (Cost n M (spT n t) = o ∧ Fits n R (spT n t))) : mnI n M R o x (t + 1) 0 m := by
  refine ⟨h.1, fun i hi => ?_⟩
  rw [h.2 i hi]
  constructor
  · rintro ⟨a, ⟨u, u1, u2⟩ | ⟨w, -⟩⟩
    · exact ⟨a, Or.inl ⟨u, by omega, u2⟩⟩
    · omega
  · rintro ⟨a, ⟨u, u1, u2, u3⟩ | ⟨w, -⟩⟩
    · by_cases e : u = t
      · subst e; exact absurd u2 hq
      · exact ⟨a, Or.inl ⟨u, by omega, u2, u3⟩⟩
    · omega
theorem mnI_next {n : Nat} {M R : Nat → Int} {o : Int} {x t m : Nat} (h : mnI n M R o x t n m) : mnI n M R o x (t + 1) 0 m := by
  refine ⟨h.1, fun i hi => ?_⟩
  rw [h.2 i hi]
  constructor
  · rintro ⟨a, ⟨u, u1, u2⟩ | ⟨w, w2⟩⟩
    · exact ⟨a, Or.inl ⟨u, by omega, u2⟩⟩
    · exact ⟨a, Or.inl ⟨t, by omega, w2⟩⟩
  · rintro ⟨a, ⟨u, u1, u2⟩ | ⟨w, -⟩⟩
    · by_cases e : u = t
      · subst e; exact ⟨a, Or.inr ⟨a, u2⟩⟩
      · exact ⟨a, Or.inl ⟨u, by omega, u2⟩⟩
    · omega
theorem mnI_no {n : Nat} {M R : Nat → Int} {o : Int} {x t b m : Nat} (h : mnI n M R o x t b m) (hq : ¬ Adj n (spT n t) x b) : mnI n M R o x t (b + 1) m := by
  refine ⟨h.1, fun i hi => ?_⟩
  rw [h.2 i hi]
  constructor
  · rintro ⟨a, q | ⟨w, w2⟩⟩
    · exact ⟨a, Or.inl q⟩
    · exact ⟨a, Or.inr ⟨by omega, w2⟩⟩
  · rintro ⟨a, q | ⟨w, w2⟩⟩
    · exact ⟨a, Or.inl q⟩
    · by_cases e : i = b
      · subst e; exact absurd w2.2 hq
      · exact ⟨a, Or.inr ⟨by omega, w2⟩⟩
theorem mnI_yes {n : Nat} {M R : Nat → Int} {o : Int} {x t b m : Nat} (hb : b < 7) (hbn : b < n) (h : mnI n M R o x t b m) (hc : Cost n M (spT n t) = o ∧ Fits n R (spT n t)) (hq : Adj n (spT n t) x b) : mnI n M R o x t (b + 1) (m ||| 2 ^ b) := by
  obtain ⟨b1, b2⟩ := bit_or h.1 hb
  refine ⟨b1, fun i hi => ?_⟩
  rw [b2 i hi]
  by_cases e : i = b
  · subst e
    rw [if_pos rfl]
    exact ⟨fun _ => ⟨hbn, Or.inr ⟨by omega, hc, hq⟩⟩, fun _ => rfl⟩
  · rw [if_neg e, h.2 i hi]
    constructor
    · rintro ⟨a, q | ⟨w, w2⟩⟩
      · exact ⟨a, Or.inl q⟩
      · exact ⟨a, Or.inr ⟨by omega, w2⟩⟩
    · rintro ⟨a, q | ⟨w, w2⟩⟩
      · exact ⟨a, Or.inl q⟩
      · exact ⟨a, Or.inr ⟨by omega, w2⟩⟩
theorem mnI_end {n : Nat} {M R : Nat → Int} {o : Int} {x m : Nat} (hn : 3 ≤ n ∧ n ≤ 7) (h : mnI n M R o x (fac (n - 1)) 0 m) : ∀ i, i < 7 → (bitN m i = 1 ↔ (i < n ∧ ∃ c, Tour n c ∧ Fits n R c ∧ Cost n M c = o ∧ Adj n c x i)) := by
  intro i hi
  rw [h.2 i hi]
  constructor
  · rintro ⟨a, ⟨u, u1, u2, u3⟩ | ⟨w, -⟩⟩
    · exact ⟨a, spT n u, spT_tour hn u1, u2.2, u2.1, u3⟩
    · omega
  · rintro ⟨a, c, c1, c2, c3, c4⟩
    obtain ⟨u, u1, u2⟩ := spT_all hn c1
    have e : eqT n c (spT n u) := fun k hk => (u2 k hk).symm
    exact ⟨a, Or.inl ⟨u, u1, ⟨by rw [← e.cost]; exact c3, e.fits c2⟩, e.adj c4⟩⟩
set_option maxRecDepth 20000 in
theorem c_m_neighbours {q : Nat → Nat} {kz : ClassId × ClassId × ClassId} {S : TS} {n : Nat} (hT : MD0 n S) {a : Int} (ha : inR a) : ∀ l : Launch, MI l y_m_neighbours b_m_neighbours 6 .int ({ frames := 4, cells := 0, slots := 0, locals := 97 }) (md_ws q kz) (ty_k kz) [.ref (q 0), .int (iI a)] S (fun r S' => mF S S' ∧ nbP n (S 1) (S 2) a r) := by
  refine mi_of (md_ok q kz) (by decide) (Nat.le_of_ble_eq_true rfl) (by simp [Value.category]) (Nat.le_of_ble_eq_true rfl) ?_
  intro X C hR
  show TW X (md_ws q kz) S 0 [some (.ref (q 0)), some (.int (iI a)), none, none, none, none] []
  have h7 := hT.2.1.2
  have h3n := hT.2.1.1
  have hfl := fac_le h7
  refine tw_aload0 C d_m_neighbours_0 ?_
  refine tw_calli C (md_ok q kz) (c_m_best (S := S) (n := n) hT) cs_m_m_best ⟨⟨rfl, rfl⟩, by decide, by decide⟩ rfl rfl rfl rfl rfl (Nat.le_of_ble_eq_true rfl) d_m_neighbours_1 (fun r1 z1 hp1 => ?_)
  obtain ⟨hF1, hop⟩ := hp1
  have hr1 := OptP.rng h7 hT.2.2.1 hop
  refine tw_istore2 C d_m_neighbours_4 ?_
  refine tw_iconst C d_m_neighbours_5 ?_
  refine tw_istore3 C d_m_neighbours_6 ?_
  refine tw_iload2 C d_m_neighbours_7 ?_
  refine tw_if_lt C d_m_neighbours_8 (by omega) (fun u8 => ?_) (fun u8 => ?_)
  · refine tw_iconst C d_m_neighbours_23 ?_
    exact hR _ _ _ _ _ d_m_neighbours_24 rfl (⟨hF1, Or.inl ⟨rfl, Or.inl (fun c ht hf => by rcases hop with q | q; exact q.2 c ht hf; omega)⟩⟩)
  · refine tw_iload1 C d_m_neighbours_11 ?_
    refine tw_if_lt C d_m_neighbours_12 (by omega) (fun u12 => ?_) (fun u12 => ?_)
    · refine tw_iconst C d_m_neighbours_23 ?_
      exact hR _ _ _ _ _ d_m_neighbours_24 rfl (⟨hF1, Or.inl ⟨rfl, by omega⟩⟩)
    · refine tw_iload1 C d_m_neighbours_15 ?_
      refine tw_aload0 C d_m_neighbours_16 ?_
      refine g_m0 C d_m_neighbours_17 (show _ = (n : Int) by rw [hF1 0 (by decide)]; exact hT.1) ?_
      refine tw_icmp_lt C d_m_neighbours_20 (by omega) (by omega) (fun u20 => ?_) (fun u20 => ?_)
      · obtain ⟨x, rfl⟩ : ∃ x : Nat, a = (x : Int) := ⟨a.toNat, by omega⟩
        refine tw_iconst C d_m_neighbours_25 ?_
        refine tw_istore4 C d_m_neighbours_26 ?_
        suffices hl28 : ∀ (f28 : Nat) (t m : Nat) (S1 : TS), fac (n - 1) < t + f28 → t ≤ fac (n - 1) → mF S S1 → mnI n (S 1) (S 2) r1 x t 0 m → TW X (md_ws q kz) (S1) 28 [some (.ref (q 0)), some (.int (iI x)), some (.int (iI r1)), some (.int (iI m)), some (.int (iI t)), none] [] from hl28 (fac (n - 1) + 1) 0 0 z1 (by omega) (by omega) hF1 (mnI_0 _ _ _ _ _)
        intro f28
        induction f28 with
        | zero => intro t m S1 h1 h2 hF hI; exfalso; omega
        | succ f28 ih28 =>
          intro t m S1 h1 h2 hF hI
          refine tw_iload4 C d_m_neighbours_28 ?_
          refine tw_aload0 C d_m_neighbours_30 ?_
          refine g_m4 C d_m_neighbours_31 (show _ = ((fac (n - 1) : Nat) : Int) by rw [hF 4 (by decide)]; exact hT.2.2.2.2.2.2) ?_
          refine tw_icmp_ge C d_m_neighbours_34 (by omega) (by omega) (fun u34 => ?_) (fun u34 => ?_)
          · refine tw_iload3 C d_m_neighbours_111 ?_
            exact hR _ _ _ _ _ d_m_neighbours_112 rfl (⟨hF, Or.inr ⟨x, m, r1, by omega, rfl, rfl, hI.1, u8, hop, mnI_end hT.2.1 (by rw [show t = fac (n - 1) by omega] at hI; exact hI)⟩⟩)
          · refine tw_iload4 C d_m_neighbours_37 ?_
            refine tw_sipush C d_m_neighbours_39 rfl ?_
            refine tw_icmp_ge C d_m_neighbours_42 (by omega) (by omega) (fun u42 => ?_) (fun u42 => ?_)
            · exfalso; omega
            · refine tw_aload0 C d_m_neighbours_45 ?_
              refine tw_iload4 C d_m_neighbours_46 ?_
              refine tw_callv C (md_ok q kz) (c_m_spell (S := S1) (n := n) (t := t) (hT.keep hF) (by omega)) cs_m_m_spell ⟨⟨rfl, rfl⟩, by decide, by decide⟩ rfl rfl rfl rfl rfl (Nat.le_of_ble_eq_true rfl) d_m_neighbours_48 (fun z48 hp48 => ?_)
              have hF2 : mF S z48 := hF.tr hp48.1
              have hT2 := hT.keep hF2
              have hL : hasT n z48 (spT n t) := ⟨hp48.2, spT_tour hT.2.1 (by omega)⟩
              have e1 : z48 1 = S 1 := hF2 1 (by decide)
              have e2 : z48 2 = S 2 := hF2 2 (by decide)
              refine tw_aload0 C d_m_neighbours_51 ?_
              refine tw_calli C (md_ok q kz) (c_m_cost (S := z48) (n := n) (c := spT n t) hT2 hL) cs_m_m_cost ⟨⟨rfl, rfl⟩, by decide, by decide⟩ rfl rfl rfl rfl rfl (Nat.le_of_ble_eq_true rfl) d_m_neighbours_52 (fun r52 z52 hp52 => ?_)
              obtain ⟨hr52, hz⟩ := hp52
              replace hz := hz.symm
              subst hz
              rw [e1] at hr52
              subst hr52
              have hcr := cost_rng (n := n) (M := S 1) (c := spT n t) h7 hT.2.2.1
              refine tw_iload2 C d_m_neighbours_55 ?_
              refine tw_icmp_ne C d_m_neighbours_56 (by omega) (by omega) (fun u56 => ?_) (fun u56 => ?_)
              · refine tw_iinc4 C d_m_neighbours_105 ?_
                refine tw_goto C d_m_neighbours_108 ?_
                exact ih28 (t + 1) m z48 (by omega) (by omega) hF2 (mnI_skip hI (fun q => u56 q.1))
              · refine tw_aload0 C d_m_neighbours_59 ?_
                refine tw_calli C (md_ok q kz) (c_m_allowed (S := z48) (n := n) (c := spT n t) hT2 hL) cs_m_m_allowed ⟨⟨rfl, rfl⟩, by decide, by decide⟩ rfl rfl rfl rfl rfl (Nat.le_of_ble_eq_true rfl) d_m_neighbours_60 (fun r60 z60 hp60 => ?_)
                obtain ⟨hz, hp60⟩ := hp60
                replace hz := hz.symm
                subst hz
                have hr60 : r60 = 0 ∨ r60 = 1 := hp60.elim (fun q => Or.inr q.1) (fun q => Or.inl q.1)
                rw [e2] at hp60
                refine tw_if_eq C d_m_neighbours_63 (by omega) (fun u63 => ?_) (fun u63 => ?_)
                · refine tw_iinc4 C d_m_neighbours_105 ?_
                  refine tw_goto C d_m_neighbours_108 ?_
                  exact ih28 (t + 1) m z48 (by omega) (by omega) hF2 (mnI_skip hI (fun q => by rcases hp60 with w | w; exact absurd (u63.symm.trans w.1) (by decide); exact w.2 q.2))
                · have hfit : Cost n (S 1) (spT n t) = r1 ∧ Fits n (S 2) (spT n t) := ⟨u56, by rcases hp60 with q | q; exact q.2; exact absurd q.1 u63⟩
                  refine tw_iconst C d_m_neighbours_66 ?_
                  refine tw_istore5 C d_m_neighbours_67 ?_
                  suffices hl69 : ∀ (f69 : Nat) (b m2 : Nat), n < b + f69 → b ≤ n → mnI n (S 1) (S 2) r1 x t b m2 → TW X (md_ws q kz) (z48) 69 [some (.ref (q 0)), some (.int (iI x)), some (.int (iI r1)), some (.int (iI m2)), some (.int (iI t)), some (.int (iI b))] [] from hl69 (n + 1) 0 m (by omega) (by omega) hI
                  intro f69
                  induction f69 with
                  | zero => intro b m2 k1 k2 hJ; exfalso; omega
                  | succ f69 ih69 =>
                    intro b m2 k1 k2 hJ
                    refine tw_iload5 C d_m_neighbours_69 ?_
                    refine tw_aload0 C d_m_neighbours_71 ?_
                    refine g_m0 C d_m_neighbours_72 (show _ = (n : Int) by rw [hF2 0 (by decide)]; exact hT.1) ?_
                    refine tw_icmp_ge C d_m_neighbours_75 (by omega) (by omega) (fun u75 => ?_) (fun u75 => ?_)
                    · refine tw_iinc4 C d_m_neighbours_105 ?_
                      refine tw_goto C d_m_neighbours_108 ?_
                      exact tw_drop 5 (ih28 (t + 1) m2 z48 (by omega) (by omega) hF2 (mnI_next (by rw [show b = n by omega] at hJ; exact hJ)))
                    · refine tw_aload0 C d_m_neighbours_78 ?_
                      refine tw_iload1 C d_m_neighbours_79 ?_
                      refine tw_iload5 C d_m_neighbours_80 ?_
                      refine tw_calli C (md_ok q kz) (c_m_has (S := z48) (n := n) (c := spT n t) (x := x) (y := b) hT2 hL (by omega) (by omega)) cs_m_m_has ⟨⟨rfl, rfl⟩, by decide, by decide⟩ rfl rfl rfl rfl rfl (Nat.le_of_ble_eq_true rfl) d_m_neighbours_82 (fun r82 z82 hp82 => ?_)
                      obtain ⟨hz, hp82⟩ := hp82
                      replace hz := hz.symm
                      subst hz
                      have hr82 : r82 = 0 ∨ r82 = 1 := hp82.elim (fun q => Or.inr q.1) (fun q => Or.inl q.1)
                      refine tw_if_eq C d_m_neighbours_85 (by omega) (fun u85 => ?_) (fun u85 => ?_)
                      · refine tw_iload3 C d_m_neighbours_97 ?_
                        refine tw_istore3 C d_m_neighbours_98 ?_
                        refine tw_iinc5 C d_m_neighbours_99 ?_
                        refine tw_goto C d_m_neighbours_102 ?_
                        exact ih69 (b + 1) m2 (by omega) (by omega) (mnI_no hJ (by rcases hp82 with q | q; exact absurd (u85.symm.trans q.1) (by decide); exact q.2))
                      · refine tw_iload3 C d_m_neighbours_88 ?_
                        refine tw_iconst C d_m_neighbours_89 ?_
                        refine tw_iload5 C d_m_neighbours_90 ?_
                        refine tw_ishl C d_m_neighbours_92 (sh_l b (by omega)) ?_
                        refine tw_ior C d_m_neighbours_93 (or_b m2 hJ.1 b (by omega)) ?_
                        refine tw_goto C d_m_neighbours_94 ?_
                        refine tw_istore3 C d_m_neighbours_98 ?_
                        refine tw_iinc5 C d_m_neighbours_99 ?_
                        refine tw_goto C d_m_neighbours_102 ?_
                        exact ih69 (b + 1) _ (by omega) (by omega) (mnI_yes (by omega) (by omega) hJ hfit (by rcases hp82 with q | q; exact q.2; exact absurd q.1 u85))
      · refine tw_iconst C d_m_neighbours_23 ?_
        exact hR _ _ _ _ _ d_m_neighbours_24 rfl (⟨hF1, Or.inl ⟨rfl, by omega⟩⟩)
set_option maxRecDepth 20000 in
theorem c_m_limit {q : Nat → Nat} {kz : ClassId × ClassId × ClassId} {S : TS} {n : Nat} (hT : MD0 n S) {a b : Int} (ha : inR a) (hb : inR b) : ∀ l : Launch, MI l y_m_limit b_m_limit 7 .int ({ frames := 4, cells := 0, slots := 0, locals := 99 }) (md_ws q kz) (ty_k kz) [.ref (q 0), .int (iI a), .int (iI b)] S (fun r S' => mF S S' ∧ lmP n (S 1) (S 2) a b r) := by
  refine mi_of (md_ok q kz) (by decide) (Nat.le_of_ble_eq_true rfl) (by simp [Value.category]) (Nat.le_of_ble_eq_true rfl) ?_
  intro X C hR
  show TW X (md_ws q kz) S 0 [some (.ref (q 0)), some (.int (iI a)), some (.int (iI b)), none, none, none, none] []
  have h7 := hT.2.1.2
  have h3n := hT.2.1.1
  refine tw_aload0 C d_m_limit_0 ?_
  refine tw_iload1 C d_m_limit_1 ?_
  refine tw_iload2 C d_m_limit_2 ?_
  refine tw_calli C (md_ok q kz) (c_m_bestWith (S := S) (n := n) (a := a) (b := b) hT ha hb) cs_m_m_bestWith ⟨⟨rfl, rfl⟩, by decide, by decide⟩ rfl rfl rfl rfl rfl (Nat.le_of_ble_eq_true rfl) d_m_limit_3 (fun r3 z3 hp3 => ?_)
  obtain ⟨hF3, b3⟩ := hp3
  have hr3 := b3.rng h7 hT.2.2.1
  refine tw_istore3 C d_m_limit_6 ?_
  refine tw_aload0 C d_m_limit_7 ?_
  refine tw_iload1 C d_m_limit_8 ?_
  refine tw_iload2 C d_m_limit_9 ?_
  refine tw_calli C (md_ok q kz) (c_m_bestWithout (S := z3) (n := n) (a := a) (b := b) (hT.keep hF3) ha hb) cs_m_m_bestWithout ⟨⟨rfl, rfl⟩, by decide, by decide⟩ rfl rfl rfl rfl rfl (Nat.le_of_ble_eq_true rfl) d_m_limit_10 (fun r10 z10 hp10 => ?_)
  obtain ⟨hF10, b10⟩ := hp10
  have hF := hF3.tr hF10
  rw [hF3 1 (by decide), hF3 2 (by decide)] at b10
  have hr10 := b10.rng h7 hT.2.2.1
  refine tw_istore4 C d_m_limit_13 ?_
  refine tw_iload3 C d_m_limit_15 ?_
  refine tw_if_ge C d_m_limit_16 (by omega) (fun u16 => ?_) (fun u16 => ?_)
  · obtain ⟨x, y, hxy⟩ : ∃ x y, lkE n a b x y := by rcases b3 with q | ⟨x, y, q, -⟩; exfalso; omega; exact ⟨x, y, q⟩
    obtain ⟨hx, hy, hne, rfl, rfl⟩ := id hxy
    have rl := hT.2.2.1 (x * 7 + y)
    refine tw_bipush C d_m_limit_21 rfl ?_
    refine tw_istore5 C d_m_limit_23 ?_
    suffices hl25 : ∀ (f25 : Nat) (d : Int), d + 1 < f25 → -1 ≤ d → d ≤ 99 → (d = 99 ∨ (0 ≤ r10 ∧ r10 < r3 - S 1 (x * 7 + y) + (d + 1))) → TW X (md_ws q kz) (z10) 25 [some (.ref (q 0)), some (.int (iI x)), some (.int (iI y)), some (.int (iI r3)), some (.int (iI r10)), some (.int (iI d)), none] [] from hl25 101 99 (by omega) (by omega) (by omega) (Or.inl rfl)
    intro f25
    induction f25 with
    | zero => intro d h1 h2 h3 hI; exfalso; omega
    | succ f25 ih25 =>
      intro d h1 h2 h3 hI
      refine tw_iload5 C d_m_limit_25 ?_
      refine tw_if_lt C d_m_limit_27 (by omega) (fun u27 => ?_) (fun u27 => ?_)
      · refine tw_iconst C d_m_limit_69 ?_
        exact hR _ _ _ _ _ d_m_limit_70 rfl (⟨hF, r3, b3, Or.inr ⟨by omega, r10, b10, x, y, hxy, by unfold limF; rw [if_neg (by omega), if_pos (by omega)]⟩⟩)
      · refine tw_iload3 C d_m_limit_30 ?_
        refine tw_aload0 C d_m_limit_31 ?_
        refine g_m1 C d_m_limit_32 ?_
        refine tw_iload1 C d_m_limit_35 ?_
        refine tw_bipush C d_m_limit_36 rfl ?_
        refine tw_imul C d_m_limit_38 ?_
        refine tw_iload2 C d_m_limit_39 ?_
        refine tw_iadd C d_m_limit_40 ?_
        refine al_m1 C (((x * 7) + y)) d_m_limit_41 (by omega) (by omega) (show _ = S 1 (x * 7 + y) by rw [hF 1 (by decide)]) ?_
        refine tw_isub C d_m_limit_42 ?_
        refine tw_iload5 C d_m_limit_43 ?_
        refine tw_iadd C d_m_limit_45 ?_
        refine tw_istore6 C d_m_limit_46 ?_
        refine tw_iload4 C d_m_limit_48 ?_
        refine tw_if_lt C d_m_limit_50 (by omega) (fun u50 => ?_) (fun u50 => ?_)
        · refine tw_iload5 C d_m_limit_60 ?_
          exact hR _ _ _ _ _ d_m_limit_62 rfl (⟨hF, r3, b3, Or.inr ⟨by omega, r10, b10, x, y, hxy, by unfold limF; rw [if_pos (by omega)]; omega⟩⟩)
        · refine tw_iload6 C d_m_limit_53 ?_
          refine tw_iload4 C d_m_limit_55 ?_
          refine tw_icmp_gt C d_m_limit_57 (by omega) (by omega) (fun u57 => ?_) (fun u57 => ?_)
          · refine tw_iinc5 C d_m_limit_63 ?_
            refine tw_goto C d_m_limit_66 ?_
            exact tw_drop 6 (ih25 (d + (-1)) (by omega) (by omega) (by omega) (Or.inr (by omega)))
          · refine tw_iload5 C d_m_limit_60 ?_
            exact hR _ _ _ _ _ d_m_limit_62 rfl (⟨hF, r3, b3, Or.inr ⟨by omega, r10, b10, x, y, hxy, by unfold limF; by_cases q : r10 < 0 ∨ 99 < r10 - (r3 - S 1 (x * 7 + y)); rw [if_pos q]; omega; rw [if_neg q, if_neg (by omega)]; omega⟩⟩)
  · refine tw_iconst C d_m_limit_19 ?_
    exact hR _ _ _ _ _ d_m_limit_20 rfl (⟨hF, r3, b3, Or.inl ⟨u16, rfl⟩⟩)
end
section
/-! ===== the two constructors ===== -/
def cl37 (a : Int) : Nat := if a < 3 then 3 else if 7 < a then 7 else a.toNat
def cl99 (d : Int) : Int := if d < 0 then 0 else if 99 < d then 99 else d
theorem cl37_rng (a : Int) : 3 ≤ cl37 a ∧ cl37 a ≤ 7 := by
  unfold cl37
  by_cases q : a < 3
  · rw [if_pos q]; decide
  · rw [if_neg q]
    by_cases q2 : 7 < a
    · rw [if_pos q2]; decide
    · rw [if_neg q2]; omega
theorem cl99_rng (d : Int) : 0 ≤ cl99 d ∧ cl99 d ≤ 99 := by
  unfold cl99
  by_cases q : d < 0
  · rw [if_pos q]; decide
  · rw [if_neg q]
    by_cases q2 : 99 < d
    · rw [if_pos q2]; decide
    · rw [if_neg q2]; omega
/-- a new desk (or plain form): its cities, and the first c lengths laid -/
def ciS (n : Nat) (d : Int) (c : Nat) : TS := fun f j => if f = 0 ∧ j = 0 then (n : Int) else if f = 1 ∧ j < c then d else 0
theorem ciS_0 (n : Nat) (d : Int) : ciS n d 0 = up (fun _ _ => 0) 0 0 (n : Int) := by
  funext f j; simp [ciS, up]
theorem ciS_put (n : Nat) (d : Int) (c : Nat) : ciS n d (c + 1) = up (ciS n d c) 1 c d := by
  funext f j
  unfold ciS up
  by_cases hf : f = 1
  · subst hf
    by_cases hj : j = c
    · subst hj; simp
    · have e : (j < c + 1) = (j < c) := by apply propext; omega
      simp [hj, e]
  · simp [hf]
def qF (l : List Nat) : Nat → Nat := fun i => l.getD i 0
theorem na_b (N : Nat) (cA : ClassId) : vp_cell cA (N, .inl (fun _ => iI 0)) = arrV cA N (fun _ => defaultValue .byte) := by rw [vp_cell_i, iI_0]; rfl
theorem na_n (N : Nat) (cA : ClassId) : vp_cell cA (N, .inl (fun _ => iI 0)) = arrV cA N (fun _ => defaultValue .int) := by rw [vp_cell_i, iI_0]; rfl
theorem na_z (N : Nat) (cA : ClassId) : vp_cell cA (N, .inl (fun _ => iI 0)) = arrV cA N (fun _ => defaultValue .boolean) := by rw [vp_cell_i, iI_0]; rfl
/-- a constructor's contract from its body's walk -/
theorem mc_of {l : Launch} {y : MethodName} {cc : ByteArray} {mL mc ms : Nat} {rm : Room} {Pc : Array Value → State → Prop} {Qc : Array Value → State → Outcome → State → Prop} {free : Addr → Prop} (hy : plainName y.cls = true)
    (H : ∀ (p : Program) (e : Env) (s : State) (m : MethodId) (args : Array Value) (below : List Frame) (meth : Method) (c : Code), p.tables.exec = Jvm.exec → c.code = cc → meth.sig.returnType = none → c.maxLocals = mL → s.vm.findClass y.cls = some m.cls → (∀ x ∈ tb, x.before args s = true) → meth.locks = false → meth.name = y.name → Pc args s →
      W p l e rm s m args below meth c s.heap [] 0 0 (MQ below Qc args s mc ms free) (entryFrame m args mL)) : Met l y (Cond.code y cc mL none :: tb) rm Pc Qc mc ms free := by
  refine Met.ofW (cc := cc) (maxL := mL) (ret := none) hy rfl ?_
  intro p e s m args below meth c s₁ B hml hv
  have hts := atoms_spec (ws := Cond.code y cc mL none :: tb) B.pre
  exact H p e s m args below meth c B.exec B.bytes B.returns hml (findClass_of_methodNamed B.named) (fun x h => hts x (List.mem_cons_of_mem _ h)) B.notSynchronized (name_of_methodNamed B.named B.method).1 hv
abbrev bl_d : List Value := [.int 0, .null, .null, .null, .null, .null, .null, .null, .int 0, .null, .null, .int 0, .int 0, .int 0, .null]
abbrev bl_m : List Value := [.int 0, .null, .null, .null, .int 0]
/-- inside a constructor -/
def inI (X : CT) : Prop := match X with
  | (p, l, e, R, s, m, args, below, meth, c, Q, D, A, nL, cells, slots) => meth.name = "<init>"
theorem pt_d0 {X : CT} {cc : ByteArray} {rm : Room} {q : Nat → Nat} {k : ClassId × ClassId × ClassId} {S : TS} {pc nx : Nat} {L : List (Option Value)} {st : List Value} (C : CX X cc R_d rm (td_ws q k) (ty_k k)) (hi : inI X) {v : Int} (d : DC 3 cc pc nx (.putfield 42)) (kk : TW X (td_ws q k) (up S 0 0 v) nx L st) : TW X (td_ws q k) S pc L (.int (iI v) :: .ref (q 0) :: st) := by
  obtain ⟨p, l, e, R, s, m, args, below, meth, c, Q, D, A, nL, cells, slots⟩ := X
  obtain ⟨hx, hb, hml, ho, hts, hK, hD, -⟩ := C
  obtain ⟨d, rfl⟩ := d
  intro H locs ls hP hS hl
  exact va_putF (D := D) (ci := 0) (v := .int (iI v)) (ty := .int) (C := R_d) (T := F_d) (N := 15) hx hb hts i_d t_d t_d_ok n_d ho hK hP (hD S) hS 0 rfl rfl 0 (by decide) (hts (.fieldLink R_d 42 "TourDesk" "cities" "I") (by decide +kernel)) (fun _ h9 => h9) rfl hi rfl (by decide +kernel) rfl rfl (Nat.le_of_ble_eq_true rfl) d (fun H1 locs1 hP1 hD1 hS1 => kk H1 locs1 ls hP1 hS1 hl)
theorem z_obj : Cond.code objectInit ⟨#[0xb1]⟩ 1 none ∈ tb := List.mem_filter.mpr ⟨List.mem_of_getElem? (i := 41) (by rfl), rfl⟩
set_option maxHeartbeats 4000000 in
set_option maxRecDepth 100000 in
theorem c_d_init (l : Launch) (D : va_G) (h0 sz : Nat) {a d : Int} (ha : inR a) (hd : inR d) : Met l y_d_init (Cond.code y_d_init b_d_init 5 none :: tb) ({ frames := 1, cells := 10, slots := 272, locals := 12 }) (va_Pc [.ref h0, .int (iI a), .int (iI d)] (fun U => U.heap.size = sz ∧ va_P D classes [(h0, .inr (0, bl_d))] U.heap ∧ va_K D classes [] U ∧ va_D (fun _ => True) [(h0, .inr (0, bl_d))])) (va_Qv (fun u : (Nat → Nat) × (ClassId × ClassId × ClassId) => u.1 0 = h0) (fun u t => va_P D classes (td_ws u.1 u.2 (ciS (cl37 a) (cl99 d) 49)) t.heap ∧ va_K D classes (ty_k u.2) t ∧ va_D (va_A [(h0, .inr (0, bl_d))] sz) (td_ws u.1 u.2 (ciS (cl37 a) (cl99 d) 49))) (va_A [(h0, .inr (0, bl_d))] sz)) 10 272 (va_A [(h0, .inr (0, bl_d))] sz) := by
  refine mc_of (by decide) ?_
  intro p e s m args below meth c hx hb hr hml hown hts hlocks hin hv
  obtain ⟨rfl, hsz, hP, hK, hD0⟩ := hv
  subst hsz
  have hD := hD0.self (sz := s.heap.size)
  have hown : s.vm.findClass R_d = some m.cls := hown
  have hin : meth.name = "<init>" := hin
  generalize hAe : va_A [(h0, .inr (0, bl_d))] s.heap.size = A at hD ⊢
  have hA : ∀ q : Nat, s.heap.size ≤ q → A q := fun q h => by rw [← hAe]; exact Or.inr h
  have hS : va_S A s.heap s.heap [] := va_S.rf
  have hlo := lo_start [.ref h0, .int (iI a), .int (iI d)] (n := 5) (Nat.le_of_ble_eq_true rfl) (by simp [Value.category]) (Nat.le_of_ble_eq_true rfl)
  have hl := lv_entry [.ref h0, .int (iI a), .int (iI d)] (n := 5) (Nat.le_of_ble_eq_true rfl)
  rw [lg_entry_eq]
  generalize (lg_sl ([.ref h0, .int (iI a), .int (iI d)]) ++ List.replicate (5 - (lg_sl ([.ref h0, .int (iI a), .int (iI d)])).length) Slot.unset).toArray = ls at hl hlo ⊢
  have hl : lv_has ls 5 [(0, .ref h0), (1, .int (iI a)), (2, .int (iI d))] := hl
  refine lv_aload_n hx hb d_d_init_0.1 rfl (lv_at hl 0 rfl) ?_
  refine W.objInit hx hb hown (hts (.methodLink R_d 1 objectInit) (by decide +kernel)) (hts (.instanceMethod objectInit) (by decide +kernel)) (hts (.code objectInit ⟨#[0xb1]⟩ 1 none) z_obj) rfl (by rw [hml]; exact hl.1) rfl d_d_init_1.1 (Nat.le_of_ble_eq_true rfl) (Nat.le_of_ble_eq_true rfl) ?_
  refine W.eq (g2 := F0 m 4 ls []) rfl ?_
  refine lv_aload_n hx hb d_d_init_4.1 rfl (lv_at hl 0 rfl) ?_
  refine lv_bipush (v := 49) hx hb d_d_init_5.1 rfl ?_
  refine va_newa (atype := .byte) (ty := .byte) (n := 49) (N' := 49) (a0 := (49, .inl (fun _ => iI 0))) hx hb (hts (.arrayClass .byte) (by decide +kernel)) rfl hK hP hD hS hA (na_b 49) (by decide) (by decide) (by decide) (Nat.le_of_ble_eq_true rfl) (Nat.le_of_ble_eq_true rfl) d_d_init_7.1 (fun q1 c1 H hK hP hD hS => ?_)
  have hK : va_K D classes [(c1, .byte)] s := hK
  have hP : va_P D classes [(h0, .inr (0, [.int 0, .null, .null, .null, .null, .null, .null, .null, .int 0, .null, .null, .int 0, .int 0, .int 0, .null])), (q1, .inl (c1, 49, .inl (fun _ => iI 0)))] H := hP
  have hD : va_D A [(h0, .inr (0, [.int 0, .null, .null, .null, .null, .null, .null, .null, .int 0, .null, .null, .int 0, .int 0, .int 0, .null])), (q1, .inl (c1, 49, .inl (fun _ => iI 0)))] := hD
  refine W.widen (k := 1) (n := 49) (Nat.le_of_ble_eq_true rfl) (Nat.le_of_ble_eq_true rfl) ?_
  refine va_putF (D := D) (ci := 0) (v := .ref q1) (ty := .array .byte) (C := R_d) (T := F_d) (N := 15) hx hb hts i_d t_d t_d_ok n_d hown hK hP hD hS 0 rfl rfl 1 (by decide) (hts (.fieldLink R_d 7 "TourDesk" "lengths" "[B") (by decide +kernel)) (fun _ h9 => h9) rfl hin rfl (by decide +kernel) rfl rfl (Nat.le_of_ble_eq_true rfl) d_d_init_9.1 (fun H locs hP hD hS => ?_)
  have hP : va_P D classes [(h0, .inr (0, [.int 0, .ref q1, .null, .null, .null, .null, .null, .null, .int 0, .null, .null, .int 0, .int 0, .int 0, .null])), (q1, .inl (c1, 49, .inl (fun _ => iI 0)))] H := hP
  have hD : va_D A [(h0, .inr (0, [.int 0, .ref q1, .null, .null, .null, .null, .null, .null, .int 0, .null, .null, .int 0, .int 0, .int 0, .null])), (q1, .inl (c1, 49, .inl (fun _ => iI 0)))] := hD
  refine W.eq (g2 := F0 m 12 ls []) rfl ?_
  refine lv_aload_n hx hb d_d_init_12.1 rfl (lv_at hl 0 rfl) ?_
  refine lv_bipush (v := 49) hx hb d_d_init_13.1 rfl ?_
  refine va_newa (atype := .byte) (ty := .byte) (n := 49) (N' := 49) (a0 := (49, .inl (fun _ => iI 0))) hx hb (hts (.arrayClass .byte) (by decide +kernel)) rfl hK hP hD hS hA (na_b 49) (by decide) (by decide) (by decide) (Nat.le_of_ble_eq_true rfl) (Nat.le_of_ble_eq_true rfl) d_d_init_15.1 (fun q2 c2 H hK hP hD hS => ?_)
  have hK : va_K D classes [(c1, .byte), (c2, .byte)] s := hK
  have hP : va_P D classes [(h0, .inr (0, [.int 0, .ref q1, .null, .null, .null, .null, .null, .null, .int 0, .null, .null, .int 0, .int 0, .int 0, .null])), (q1, .inl (c1, 49, .inl (fun _ => iI 0))), (q2, .inl (c2, 49, .inl (fun _ => iI 0)))] H := hP
  have hD : va_D A [(h0, .inr (0, [.int 0, .ref q1, .null, .null, .null, .null, .null, .null, .int 0, .null, .null, .int 0, .int 0, .int 0, .null])), (q1, .inl (c1, 49, .inl (fun _ => iI 0))), (q2, .inl (c2, 49, .inl (fun _ => iI 0)))] := hD
  refine W.widen (k := 2) (n := 98) (Nat.le_of_ble_eq_true rfl) (Nat.le_of_ble_eq_true rfl) ?_
  refine va_putF (D := D) (ci := 0) (v := .ref q2) (ty := .array .byte) (C := R_d) (T := F_d) (N := 15) hx hb hts i_d t_d t_d_ok n_d hown hK hP hD hS 0 rfl rfl 2 (by decide) (hts (.fieldLink R_d 13 "TourDesk" "rules" "[B") (by decide +kernel)) (fun _ h9 => h9) rfl hin rfl (by decide +kernel) rfl rfl (Nat.le_of_ble_eq_true rfl) d_d_init_17.1 (fun H locs hP hD hS => ?_)
  have hP : va_P D classes [(h0, .inr (0, [.int 0, .ref q1, .ref q2, .null, .null, .null, .null, .null, .int 0, .null, .null, .int 0, .int 0, .int 0, .null])), (q1, .inl (c1, 49, .inl (fun _ => iI 0))), (q2, .inl (c2, 49, .inl (fun _ => iI 0)))] H := hP
  have hD : va_D A [(h0, .inr (0, [.int 0, .ref q1, .ref q2, .null, .null, .null, .null, .null, .int 0, .null, .null, .int 0, .int 0, .int 0, .null])), (q1, .inl (c1, 49, .inl (fun _ => iI 0))), (q2, .inl (c2, 49, .inl (fun _ => iI 0)))] := hD
  refine W.eq (g2 := F0 m 20 ls []) rfl ?_
  refine lv_aload_n hx hb d_d_init_20.1 rfl (lv_at hl 0 rfl) ?_
  refine lv_bipush (v := 49) hx hb d_d_init_21.1 rfl ?_
  refine va_newa (atype := .byte) (ty := .byte) (n := 49) (N' := 49) (a0 := (49, .inl (fun _ => iI 0))) hx hb (hts (.arrayClass .byte) (by decide +kernel)) rfl hK hP hD hS hA (na_b 49) (by decide) (by decide) (by decide) (Nat.le_of_ble_eq_true rfl) (Nat.le_of_ble_eq_true rfl) d_d_init_23.1 (fun q3 c3 H hK hP hD hS => ?_)
  have hK : va_K D classes [(c1, .byte), (c2, .byte), (c3, .byte)] s := hK
  have hP : va_P D classes [(h0, .inr (0, [.int 0, .ref q1, .ref q2, .null, .null, .null, .null, .null, .int 0, .null, .null, .int 0, .int 0, .int 0, .null])), (q1, .inl (c1, 49, .inl (fun _ => iI 0))), (q2, .inl (c2, 49, .inl (fun _ => iI 0))), (q3, .inl (c3, 49, .inl (fun _ => iI 0)))] H := hP
  have hD : va_D A [(h0, .inr (0, [.int 0, .ref q1, .ref q2, .null, .null, .null, .null, .null, .int 0, .null, .null, .int 0, .int 0, .int 0, .null])), (q1, .inl (c1, 49, .inl (fun _ => iI 0))), (q2, .inl (c2, 49, .inl (fun _ => iI 0))), (q3, .inl (c3, 49, .inl (fun _ => iI 0)))] := hD
  refine W.widen (k := 3) (n := 147) (Nat.le_of_ble_eq_true rfl) (Nat.le_of_ble_eq_true rfl) ?_
  refine va_putF (D := D) (ci := 0) (v := .ref q3) (ty := .array .byte) (C := R_d) (T := F_d) (N := 15) hx hb hts i_d t_d t_d_ok n_d hown hK hP hD hS 0 rfl rfl 3 (by decide) (hts (.fieldLink R_d 16 "TourDesk" "now" "[B") (by decide +kernel)) (fun _ h9 => h9) rfl hin rfl (by decide +kernel) rfl rfl (Nat.le_of_ble_eq_true rfl) d_d_init_25.1 (fun H locs hP hD hS => ?_)
  have hP : va_P D classes [(h0, .inr (0, [.int 0, .ref q1, .ref q2, .ref q3, .null, .null, .null, .null, .int 0, .null, .null, .int 0, .int 0, .int 0, .null])), (q1, .inl (c1, 49, .inl (fun _ => iI 0))), (q2, .inl (c2, 49, .inl (fun _ => iI 0))), (q3, .inl (c3, 49, .inl (fun _ => iI 0)))] H := hP
  have hD : va_D A [(h0, .inr (0, [.int 0, .ref q1, .ref q2, .ref q3, .null, .null, .null, .null, .int 0, .null, .null, .int 0, .int 0, .int 0, .null])), (q1, .inl (c1, 49, .inl (fun _ => iI 0))), (q2, .inl (c2, 49, .inl (fun _ => iI 0))), (q3, .inl (c3, 49, .inl (fun _ => iI 0)))] := hD
  refine W.eq (g2 := F0 m 28 ls []) rfl ?_
  refine lv_aload_n hx hb d_d_init_28.1 rfl (lv_at hl 0 rfl) ?_
  refine lv_bipush (v := 7) hx hb d_d_init_29.1 rfl ?_
  refine va_newa (atype := .int) (ty := .int) (n := 7) (N' := 7) (a0 := (7, .inl (fun _ => iI 0))) hx hb (hts (.arrayClass .int) (by decide +kernel)) rfl hK hP hD hS hA (na_n 7) (by decide) (by decide) (by decide) (Nat.le_of_ble_eq_true rfl) (Nat.le_of_ble_eq_true rfl) d_d_init_31.1 (fun q4 c4 H hK hP hD hS => ?_)
  have hK : va_K D classes [(c1, .byte), (c2, .byte), (c3, .byte), (c4, .int)] s := hK
  have hP : va_P D classes [(h0, .inr (0, [.int 0, .ref q1, .ref q2, .ref q3, .null, .null, .null, .null, .int 0, .null, .null, .int 0, .int 0, .int 0, .null])), (q1, .inl (c1, 49, .inl (fun _ => iI 0))), (q2, .inl (c2, 49, .inl (fun _ => iI 0))), (q3, .inl (c3, 49, .inl (fun _ => iI 0))), (q4, .inl (c4, 7, .inl (fun _ => iI 0)))] H := hP
  have hD : va_D A [(h0, .inr (0, [.int 0, .ref q1, .ref q2, .ref q3, .null, .null, .null, .null, .int 0, .null, .null, .int 0, .int 0, .int 0, .null])), (q1, .inl (c1, 49, .inl (fun _ => iI 0))), (q2, .inl (c2, 49, .inl (fun _ => iI 0))), (q3, .inl (c3, 49, .inl (fun _ => iI 0))), (q4, .inl (c4, 7, .inl (fun _ => iI 0)))] := hD
  refine W.widen (k := 4) (n := 154) (Nat.le_of_ble_eq_true rfl) (Nat.le_of_ble_eq_true rfl) ?_
  refine va_putF (D := D) (ci := 0) (v := .ref q4) (ty := .array .int) (C := R_d) (T := F_d) (N := 15) hx hb hts i_d t_d t_d_ok n_d hown hK hP hD hS 0 rfl rfl 4 (by decide) (hts (.fieldLink R_d 19 "TourDesk" "penalty" "[I") (by decide +kernel)) (fun _ h9 => h9) rfl hin rfl (by decide +kernel) rfl rfl (Nat.le_of_ble_eq_true rfl) d_d_init_33.1 (fun H locs hP hD hS => ?_)
  have hP : va_P D classes [(h0, .inr (0, [.int 0, .ref q1, .ref q2, .ref q3, .ref q4, .null, .null, .null, .int 0, .null, .null, .int 0, .int 0, .int 0, .null])), (q1, .inl (c1, 49, .inl (fun _ => iI 0))), (q2, .inl (c2, 49, .inl (fun _ => iI 0))), (q3, .inl (c3, 49, .inl (fun _ => iI 0))), (q4, .inl (c4, 7, .inl (fun _ => iI 0)))] H := hP
  have hD : va_D A [(h0, .inr (0, [.int 0, .ref q1, .ref q2, .ref q3, .ref q4, .null, .null, .null, .int 0, .null, .null, .int 0, .int 0, .int 0, .null])), (q1, .inl (c1, 49, .inl (fun _ => iI 0))), (q2, .inl (c2, 49, .inl (fun _ => iI 0))), (q3, .inl (c3, 49, .inl (fun _ => iI 0))), (q4, .inl (c4, 7, .inl (fun _ => iI 0)))] := hD
  refine W.eq (g2 := F0 m 36 ls []) rfl ?_
  refine lv_aload_n hx hb d_d_init_36.1 rfl (lv_at hl 0 rfl) ?_
  refine lv_bipush (v := 7) hx hb d_d_init_37.1 rfl ?_
  refine va_newa (atype := .byte) (ty := .byte) (n := 7) (N' := 7) (a0 := (7, .inl (fun _ => iI 0))) hx hb (hts (.arrayClass .byte) (by decide +kernel)) rfl hK hP hD hS hA (na_b 7) (by decide) (by decide) (by decide) (Nat.le_of_ble_eq_true rfl) (Nat.le_of_ble_eq_true rfl) d_d_init_39.1 (fun q5 c5 H hK hP hD hS => ?_)
  have hK : va_K D classes [(c1, .byte), (c2, .byte), (c3, .byte), (c4, .int), (c5, .byte)] s := hK
  have hP : va_P D classes [(h0, .inr (0, [.int 0, .ref q1, .ref q2, .ref q3, .ref q4, .null, .null, .null, .int 0, .null, .null, .int 0, .int 0, .int 0, .null])), (q1, .inl (c1, 49, .inl (fun _ => iI 0))), (q2, .inl (c2, 49, .inl (fun _ => iI 0))), (q3, .inl (c3, 49, .inl (fun _ => iI 0))), (q4, .inl (c4, 7, .inl (fun _ => iI 0))), (q5, .inl (c5, 7, .inl (fun _ => iI 0)))] H := hP
  have hD : va_D A [(h0, .inr (0, [.int 0, .ref q1, .ref q2, .ref q3, .ref q4, .null, .null, .null, .int 0, .null, .null, .int 0, .int 0, .int 0, .null])), (q1, .inl (c1, 49, .inl (fun _ => iI 0))), (q2, .inl (c2, 49, .inl (fun _ => iI 0))), (q3, .inl (c3, 49, .inl (fun _ => iI 0))), (q4, .inl (c4, 7, .inl (fun _ => iI 0))), (q5, .inl (c5, 7, .inl (fun _ => iI 0)))] := hD
  refine W.widen (k := 5) (n := 161) (Nat.le_of_ble_eq_true rfl) (Nat.le_of_ble_eq_true rfl) ?_
  refine va_putF (D := D) (ci := 0) (v := .ref q5) (ty := .array .byte) (C := R_d) (T := F_d) (N := 15) hx hb hts i_d t_d t_d_ok n_d hown hK hP hD hS 0 rfl rfl 5 (by decide) (hts (.fieldLink R_d 23 "TourDesk" "group" "[B") (by decide +kernel)) (fun _ h9 => h9) rfl hin rfl (by decide +kernel) rfl rfl (Nat.le_of_ble_eq_true rfl) d_d_init_41.1 (fun H locs hP hD hS => ?_)
  have hP : va_P D classes [(h0, .inr (0, [.int 0, .ref q1, .ref q2, .ref q3, .ref q4, .ref q5, .null, .null, .int 0, .null, .null, .int 0, .int 0, .int 0, .null])), (q1, .inl (c1, 49, .inl (fun _ => iI 0))), (q2, .inl (c2, 49, .inl (fun _ => iI 0))), (q3, .inl (c3, 49, .inl (fun _ => iI 0))), (q4, .inl (c4, 7, .inl (fun _ => iI 0))), (q5, .inl (c5, 7, .inl (fun _ => iI 0)))] H := hP
  have hD : va_D A [(h0, .inr (0, [.int 0, .ref q1, .ref q2, .ref q3, .ref q4, .ref q5, .null, .null, .int 0, .null, .null, .int 0, .int 0, .int 0, .null])), (q1, .inl (c1, 49, .inl (fun _ => iI 0))), (q2, .inl (c2, 49, .inl (fun _ => iI 0))), (q3, .inl (c3, 49, .inl (fun _ => iI 0))), (q4, .inl (c4, 7, .inl (fun _ => iI 0))), (q5, .inl (c5, 7, .inl (fun _ => iI 0)))] := hD
  refine W.eq (g2 := F0 m 44 ls []) rfl ?_
  refine lv_aload_n hx hb d_d_init_44.1 rfl (lv_at hl 0 rfl) ?_
  refine lv_bipush (v := 7) hx hb d_d_init_45.1 rfl ?_
  refine va_newa (atype := .byte) (ty := .byte) (n := 7) (N' := 7) (a0 := (7, .inl (fun _ => iI 0))) hx hb (hts (.arrayClass .byte) (by decide +kernel)) rfl hK hP hD hS hA (na_b 7) (by decide) (by decide) (by decide) (Nat.le_of_ble_eq_true rfl) (Nat.le_of_ble_eq_true rfl) d_d_init_47.1 (fun q6 c6 H hK hP hD hS => ?_)
  have hK : va_K D classes [(c1, .byte), (c2, .byte), (c3, .byte), (c4, .int), (c5, .byte), (c6, .byte)] s := hK
  have hP : va_P D classes [(h0, .inr (0, [.int 0, .ref q1, .ref q2, .ref q3, .ref q4, .ref q5, .null, .null, .int 0, .null, .null, .int 0, .int 0, .int 0, .null])), (q1, .inl (c1, 49, .inl (fun _ => iI 0))), (q2, .inl (c2, 49, .inl (fun _ => iI 0))), (q3, .inl (c3, 49, .inl (fun _ => iI 0))), (q4, .inl (c4, 7, .inl (fun _ => iI 0))), (q5, .inl (c5, 7, .inl (fun _ => iI 0))), (q6, .inl (c6, 7, .inl (fun _ => iI 0)))] H := hP
  have hD : va_D A [(h0, .inr (0, [.int 0, .ref q1, .ref q2, .ref q3, .ref q4, .ref q5, .null, .null, .int 0, .null, .null, .int 0, .int 0, .int 0, .null])), (q1, .inl (c1, 49, .inl (fun _ => iI 0))), (q2, .inl (c2, 49, .inl (fun _ => iI 0))), (q3, .inl (c3, 49, .inl (fun _ => iI 0))), (q4, .inl (c4, 7, .inl (fun _ => iI 0))), (q5, .inl (c5, 7, .inl (fun _ => iI 0))), (q6, .inl (c6, 7, .inl (fun _ => iI 0)))] := hD
  refine W.widen (k := 6) (n := 168) (Nat.le_of_ble_eq_true rfl) (Nat.le_of_ble_eq_true rfl) ?_
  refine va_putF (D := D) (ci := 0) (v := .ref q6) (ty := .array .byte) (C := R_d) (T := F_d) (N := 15) hx hb hts i_d t_d t_d_ok n_d hown hK hP hD hS 0 rfl rfl 6 (by decide) (hts (.fieldLink R_d 26 "TourDesk" "degree" "[B") (by decide +kernel)) (fun _ h9 => h9) rfl hin rfl (by decide +kernel) rfl rfl (Nat.le_of_ble_eq_true rfl) d_d_init_49.1 (fun H locs hP hD hS => ?_)
  have hP : va_P D classes [(h0, .inr (0, [.int 0, .ref q1, .ref q2, .ref q3, .ref q4, .ref q5, .ref q6, .null, .int 0, .null, .null, .int 0, .int 0, .int 0, .null])), (q1, .inl (c1, 49, .inl (fun _ => iI 0))), (q2, .inl (c2, 49, .inl (fun _ => iI 0))), (q3, .inl (c3, 49, .inl (fun _ => iI 0))), (q4, .inl (c4, 7, .inl (fun _ => iI 0))), (q5, .inl (c5, 7, .inl (fun _ => iI 0))), (q6, .inl (c6, 7, .inl (fun _ => iI 0)))] H := hP
  have hD : va_D A [(h0, .inr (0, [.int 0, .ref q1, .ref q2, .ref q3, .ref q4, .ref q5, .ref q6, .null, .int 0, .null, .null, .int 0, .int 0, .int 0, .null])), (q1, .inl (c1, 49, .inl (fun _ => iI 0))), (q2, .inl (c2, 49, .inl (fun _ => iI 0))), (q3, .inl (c3, 49, .inl (fun _ => iI 0))), (q4, .inl (c4, 7, .inl (fun _ => iI 0))), (q5, .inl (c5, 7, .inl (fun _ => iI 0))), (q6, .inl (c6, 7, .inl (fun _ => iI 0)))] := hD
  refine W.eq (g2 := F0 m 52 ls []) rfl ?_
  refine lv_aload_n hx hb d_d_init_52.1 rfl (lv_at hl 0 rfl) ?_
  refine lv_bipush (v := 49) hx hb d_d_init_53.1 rfl ?_
  refine va_newa (atype := .boolean) (ty := .boolean) (n := 49) (N' := 49) (a0 := (49, .inl (fun _ => iI 0))) hx hb (hts (.arrayClass .boolean) (by decide +kernel)) rfl hK hP hD hS hA (na_z 49) (by decide) (by decide) (by decide) (Nat.le_of_ble_eq_true rfl) (Nat.le_of_ble_eq_true rfl) d_d_init_55.1 (fun q7 c7 H hK hP hD hS => ?_)
  have hK : va_K D classes [(c1, .byte), (c2, .byte), (c3, .byte), (c4, .int), (c5, .byte), (c6, .byte), (c7, .boolean)] s := hK
  have hP : va_P D classes [(h0, .inr (0, [.int 0, .ref q1, .ref q2, .ref q3, .ref q4, .ref q5, .ref q6, .null, .int 0, .null, .null, .int 0, .int 0, .int 0, .null])), (q1, .inl (c1, 49, .inl (fun _ => iI 0))), (q2, .inl (c2, 49, .inl (fun _ => iI 0))), (q3, .inl (c3, 49, .inl (fun _ => iI 0))), (q4, .inl (c4, 7, .inl (fun _ => iI 0))), (q5, .inl (c5, 7, .inl (fun _ => iI 0))), (q6, .inl (c6, 7, .inl (fun _ => iI 0))), (q7, .inl (c7, 49, .inl (fun _ => iI 0)))] H := hP
  have hD : va_D A [(h0, .inr (0, [.int 0, .ref q1, .ref q2, .ref q3, .ref q4, .ref q5, .ref q6, .null, .int 0, .null, .null, .int 0, .int 0, .int 0, .null])), (q1, .inl (c1, 49, .inl (fun _ => iI 0))), (q2, .inl (c2, 49, .inl (fun _ => iI 0))), (q3, .inl (c3, 49, .inl (fun _ => iI 0))), (q4, .inl (c4, 7, .inl (fun _ => iI 0))), (q5, .inl (c5, 7, .inl (fun _ => iI 0))), (q6, .inl (c6, 7, .inl (fun _ => iI 0))), (q7, .inl (c7, 49, .inl (fun _ => iI 0)))] := hD
  refine W.widen (k := 7) (n := 217) (Nat.le_of_ble_eq_true rfl) (Nat.le_of_ble_eq_true rfl) ?_
  refine va_putF (D := D) (ci := 0) (v := .ref q7) (ty := .array .boolean) (C := R_d) (T := F_d) (N := 15) hx hb hts i_d t_d t_d_ok n_d hown hK hP hD hS 0 rfl rfl 7 (by decide) (hts (.fieldLink R_d 29 "TourDesk" "chosen" "[Z") (by decide +kernel)) (fun _ h9 => h9) rfl hin rfl (by decide +kernel) rfl rfl (Nat.le_of_ble_eq_true rfl) d_d_init_57.1 (fun H locs hP hD hS => ?_)
  have hP : va_P D classes [(h0, .inr (0, [.int 0, .ref q1, .ref q2, .ref q3, .ref q4, .ref q5, .ref q6, .ref q7, .int 0, .null, .null, .int 0, .int 0, .int 0, .null])), (q1, .inl (c1, 49, .inl (fun _ => iI 0))), (q2, .inl (c2, 49, .inl (fun _ => iI 0))), (q3, .inl (c3, 49, .inl (fun _ => iI 0))), (q4, .inl (c4, 7, .inl (fun _ => iI 0))), (q5, .inl (c5, 7, .inl (fun _ => iI 0))), (q6, .inl (c6, 7, .inl (fun _ => iI 0))), (q7, .inl (c7, 49, .inl (fun _ => iI 0)))] H := hP
  have hD : va_D A [(h0, .inr (0, [.int 0, .ref q1, .ref q2, .ref q3, .ref q4, .ref q5, .ref q6, .ref q7, .int 0, .null, .null, .int 0, .int 0, .int 0, .null])), (q1, .inl (c1, 49, .inl (fun _ => iI 0))), (q2, .inl (c2, 49, .inl (fun _ => iI 0))), (q3, .inl (c3, 49, .inl (fun _ => iI 0))), (q4, .inl (c4, 7, .inl (fun _ => iI 0))), (q5, .inl (c5, 7, .inl (fun _ => iI 0))), (q6, .inl (c6, 7, .inl (fun _ => iI 0))), (q7, .inl (c7, 49, .inl (fun _ => iI 0)))] := hD
  refine W.eq (g2 := F0 m 60 ls []) rfl ?_
  refine lv_aload_n hx hb d_d_init_60.1 rfl (lv_at hl 0 rfl) ?_
  refine lv_bipush (v := 24) hx hb d_d_init_61.1 rfl ?_
  refine va_newa (atype := .byte) (ty := .byte) (n := 24) (N' := 24) (a0 := (24, .inl (fun _ => iI 0))) hx hb (hts (.arrayClass .byte) (by decide +kernel)) rfl hK hP hD hS hA (na_b 24) (by decide) (by decide) (by decide) (Nat.le_of_ble_eq_true rfl) (Nat.le_of_ble_eq_true rfl) d_d_init_63.1 (fun q9 c9 H hK hP hD hS => ?_)
  have hK : va_K D classes [(c1, .byte), (c2, .byte), (c3, .byte), (c4, .int), (c5, .byte), (c6, .byte), (c7, .boolean), (c9, .byte)] s := hK
  have hP : va_P D classes [(h0, .inr (0, [.int 0, .ref q1, .ref q2, .ref q3, .ref q4, .ref q5, .ref q6, .ref q7, .int 0, .null, .null, .int 0, .int 0, .int 0, .null])), (q1, .inl (c1, 49, .inl (fun _ => iI 0))), (q2, .inl (c2, 49, .inl (fun _ => iI 0))), (q3, .inl (c3, 49, .inl (fun _ => iI 0))), (q4, .inl (c4, 7, .inl (fun _ => iI 0))), (q5, .inl (c5, 7, .inl (fun _ => iI 0))), (q6, .inl (c6, 7, .inl (fun _ => iI 0))), (q7, .inl (c7, 49, .inl (fun _ => iI 0))), (q9, .inl (c9, 24, .inl (fun _ => iI 0)))] H := hP
  have hD : va_D A [(h0, .inr (0, [.int 0, .ref q1, .ref q2, .ref q3, .ref q4, .ref q5, .ref q6, .ref q7, .int 0, .null, .null, .int 0, .int 0, .int 0, .null])), (q1, .inl (c1, 49, .inl (fun _ => iI 0))), (q2, .inl (c2, 49, .inl (fun _ => iI 0))), (q3, .inl (c3, 49, .inl (fun _ => iI 0))), (q4, .inl (c4, 7, .inl (fun _ => iI 0))), (q5, .inl (c5, 7, .inl (fun _ => iI 0))), (q6, .inl (c6, 7, .inl (fun _ => iI 0))), (q7, .inl (c7, 49, .inl (fun _ => iI 0))), (q9, .inl (c9, 24, .inl (fun _ => iI 0)))] := hD
  refine W.widen (k := 8) (n := 241) (Nat.le_of_ble_eq_true rfl) (Nat.le_of_ble_eq_true rfl) ?_
  refine va_putF (D := D) (ci := 0) (v := .ref q9) (ty := .array .byte) (C := R_d) (T := F_d) (N := 15) hx hb hts i_d t_d t_d_ok n_d hown hK hP hD hS 0 rfl rfl 9 (by decide) (hts (.fieldLink R_d 33 "TourDesk" "branchLink" "[B") (by decide +kernel)) (fun _ h9 => h9) rfl hin rfl (by decide +kernel) rfl rfl (Nat.le_of_ble_eq_true rfl) d_d_init_65.1 (fun H locs hP hD hS => ?_)
  have hP : va_P D classes [(h0, .inr (0, [.int 0, .ref q1, .ref q2, .ref q3, .ref q4, .ref q5, .ref q6, .ref q7, .int 0, .ref q9, .null, .int 0, .int 0, .int 0, .null])), (q1, .inl (c1, 49, .inl (fun _ => iI 0))), (q2, .inl (c2, 49, .inl (fun _ => iI 0))), (q3, .inl (c3, 49, .inl (fun _ => iI 0))), (q4, .inl (c4, 7, .inl (fun _ => iI 0))), (q5, .inl (c5, 7, .inl (fun _ => iI 0))), (q6, .inl (c6, 7, .inl (fun _ => iI 0))), (q7, .inl (c7, 49, .inl (fun _ => iI 0))), (q9, .inl (c9, 24, .inl (fun _ => iI 0)))] H := hP
  have hD : va_D A [(h0, .inr (0, [.int 0, .ref q1, .ref q2, .ref q3, .ref q4, .ref q5, .ref q6, .ref q7, .int 0, .ref q9, .null, .int 0, .int 0, .int 0, .null])), (q1, .inl (c1, 49, .inl (fun _ => iI 0))), (q2, .inl (c2, 49, .inl (fun _ => iI 0))), (q3, .inl (c3, 49, .inl (fun _ => iI 0))), (q4, .inl (c4, 7, .inl (fun _ => iI 0))), (q5, .inl (c5, 7, .inl (fun _ => iI 0))), (q6, .inl (c6, 7, .inl (fun _ => iI 0))), (q7, .inl (c7, 49, .inl (fun _ => iI 0))), (q9, .inl (c9, 24, .inl (fun _ => iI 0)))] := hD
  refine W.eq (g2 := F0 m 68 ls []) rfl ?_
  refine lv_aload_n hx hb d_d_init_68.1 rfl (lv_at hl 0 rfl) ?_
  refine lv_bipush (v := 24) hx hb d_d_init_69.1 rfl ?_
  refine va_newa (atype := .boolean) (ty := .boolean) (n := 24) (N' := 24) (a0 := (24, .inl (fun _ => iI 0))) hx hb (hts (.arrayClass .boolean) (by decide +kernel)) rfl hK hP hD hS hA (na_z 24) (by decide) (by decide) (by decide) (Nat.le_of_ble_eq_true rfl) (Nat.le_of_ble_eq_true rfl) d_d_init_71.1 (fun q10 c10 H hK hP hD hS => ?_)
  have hK : va_K D classes [(c1, .byte), (c2, .byte), (c3, .byte), (c4, .int), (c5, .byte), (c6, .byte), (c7, .boolean), (c9, .byte), (c10, .boolean)] s := hK
  have hP : va_P D classes [(h0, .inr (0, [.int 0, .ref q1, .ref q2, .ref q3, .ref q4, .ref q5, .ref q6, .ref q7, .int 0, .ref q9, .null, .int 0, .int 0, .int 0, .null])), (q1, .inl (c1, 49, .inl (fun _ => iI 0))), (q2, .inl (c2, 49, .inl (fun _ => iI 0))), (q3, .inl (c3, 49, .inl (fun _ => iI 0))), (q4, .inl (c4, 7, .inl (fun _ => iI 0))), (q5, .inl (c5, 7, .inl (fun _ => iI 0))), (q6, .inl (c6, 7, .inl (fun _ => iI 0))), (q7, .inl (c7, 49, .inl (fun _ => iI 0))), (q9, .inl (c9, 24, .inl (fun _ => iI 0))), (q10, .inl (c10, 24, .inl (fun _ => iI 0)))] H := hP
  have hD : va_D A [(h0, .inr (0, [.int 0, .ref q1, .ref q2, .ref q3, .ref q4, .ref q5, .ref q6, .ref q7, .int 0, .ref q9, .null, .int 0, .int 0, .int 0, .null])), (q1, .inl (c1, 49, .inl (fun _ => iI 0))), (q2, .inl (c2, 49, .inl (fun _ => iI 0))), (q3, .inl (c3, 49, .inl (fun _ => iI 0))), (q4, .inl (c4, 7, .inl (fun _ => iI 0))), (q5, .inl (c5, 7, .inl (fun _ => iI 0))), (q6, .inl (c6, 7, .inl (fun _ => iI 0))), (q7, .inl (c7, 49, .inl (fun _ => iI 0))), (q9, .inl (c9, 24, .inl (fun _ => iI 0))), (q10, .inl (c10, 24, .inl (fun _ => iI 0)))] := hD
  refine W.widen (k := 9) (n := 265) (Nat.le_of_ble_eq_true rfl) (Nat.le_of_ble_eq_true rfl) ?_
  refine va_putF (D := D) (ci := 0) (v := .ref q10) (ty := .array .boolean) (C := R_d) (T := F_d) (N := 15) hx hb hts i_d t_d t_d_ok n_d hown hK hP hD hS 0 rfl rfl 10 (by decide) (hts (.fieldLink R_d 36 "TourDesk" "branchBoth" "[Z") (by decide +kernel)) (fun _ h9 => h9) rfl hin rfl (by decide +kernel) rfl rfl (Nat.le_of_ble_eq_true rfl) d_d_init_73.1 (fun H locs hP hD hS => ?_)
  have hP : va_P D classes [(h0, .inr (0, [.int 0, .ref q1, .ref q2, .ref q3, .ref q4, .ref q5, .ref q6, .ref q7, .int 0, .ref q9, .ref q10, .int 0, .int 0, .int 0, .null])), (q1, .inl (c1, 49, .inl (fun _ => iI 0))), (q2, .inl (c2, 49, .inl (fun _ => iI 0))), (q3, .inl (c3, 49, .inl (fun _ => iI 0))), (q4, .inl (c4, 7, .inl (fun _ => iI 0))), (q5, .inl (c5, 7, .inl (fun _ => iI 0))), (q6, .inl (c6, 7, .inl (fun _ => iI 0))), (q7, .inl (c7, 49, .inl (fun _ => iI 0))), (q9, .inl (c9, 24, .inl (fun _ => iI 0))), (q10, .inl (c10, 24, .inl (fun _ => iI 0)))] H := hP
  have hD : va_D A [(h0, .inr (0, [.int 0, .ref q1, .ref q2, .ref q3, .ref q4, .ref q5, .ref q6, .ref q7, .int 0, .ref q9, .ref q10, .int 0, .int 0, .int 0, .null])), (q1, .inl (c1, 49, .inl (fun _ => iI 0))), (q2, .inl (c2, 49, .inl (fun _ => iI 0))), (q3, .inl (c3, 49, .inl (fun _ => iI 0))), (q4, .inl (c4, 7, .inl (fun _ => iI 0))), (q5, .inl (c5, 7, .inl (fun _ => iI 0))), (q6, .inl (c6, 7, .inl (fun _ => iI 0))), (q7, .inl (c7, 49, .inl (fun _ => iI 0))), (q9, .inl (c9, 24, .inl (fun _ => iI 0))), (q10, .inl (c10, 24, .inl (fun _ => iI 0)))] := hD
  refine W.eq (g2 := F0 m 76 ls []) rfl ?_
  refine lv_aload_n hx hb d_d_init_76.1 rfl (lv_at hl 0 rfl) ?_
  refine lv_bipush (v := 7) hx hb d_d_init_77.1 rfl ?_
  refine va_newa (atype := .byte) (ty := .byte) (n := 7) (N' := 7) (a0 := (7, .inl (fun _ => iI 0))) hx hb (hts (.arrayClass .byte) (by decide +kernel)) rfl hK hP hD hS hA (na_b 7) (by decide) (by decide) (by decide) (Nat.le_of_ble_eq_true rfl) (Nat.le_of_ble_eq_true rfl) d_d_init_79.1 (fun q14 c14 H hK hP hD hS => ?_)
  have hK : va_K D classes [(c1, .byte), (c2, .byte), (c3, .byte), (c4, .int), (c5, .byte), (c6, .byte), (c7, .boolean), (c9, .byte), (c10, .boolean), (c14, .byte)] s := hK
  have hP : va_P D classes [(h0, .inr (0, [.int 0, .ref q1, .ref q2, .ref q3, .ref q4, .ref q5, .ref q6, .ref q7, .int 0, .ref q9, .ref q10, .int 0, .int 0, .int 0, .null])), (q1, .inl (c1, 49, .inl (fun _ => iI 0))), (q2, .inl (c2, 49, .inl (fun _ => iI 0))), (q3, .inl (c3, 49, .inl (fun _ => iI 0))), (q4, .inl (c4, 7, .inl (fun _ => iI 0))), (q5, .inl (c5, 7, .inl (fun _ => iI 0))), (q6, .inl (c6, 7, .inl (fun _ => iI 0))), (q7, .inl (c7, 49, .inl (fun _ => iI 0))), (q9, .inl (c9, 24, .inl (fun _ => iI 0))), (q10, .inl (c10, 24, .inl (fun _ => iI 0))), (q14, .inl (c14, 7, .inl (fun _ => iI 0)))] H := hP
  have hD : va_D A [(h0, .inr (0, [.int 0, .ref q1, .ref q2, .ref q3, .ref q4, .ref q5, .ref q6, .ref q7, .int 0, .ref q9, .ref q10, .int 0, .int 0, .int 0, .null])), (q1, .inl (c1, 49, .inl (fun _ => iI 0))), (q2, .inl (c2, 49, .inl (fun _ => iI 0))), (q3, .inl (c3, 49, .inl (fun _ => iI 0))), (q4, .inl (c4, 7, .inl (fun _ => iI 0))), (q5, .inl (c5, 7, .inl (fun _ => iI 0))), (q6, .inl (c6, 7, .inl (fun _ => iI 0))), (q7, .inl (c7, 49, .inl (fun _ => iI 0))), (q9, .inl (c9, 24, .inl (fun _ => iI 0))), (q10, .inl (c10, 24, .inl (fun _ => iI 0))), (q14, .inl (c14, 7, .inl (fun _ => iI 0)))] := hD
  refine W.widen (k := 10) (n := 272) (Nat.le_of_ble_eq_true rfl) (Nat.le_of_ble_eq_true rfl) ?_
  refine va_putF (D := D) (ci := 0) (v := .ref q14) (ty := .array .byte) (C := R_d) (T := F_d) (N := 15) hx hb hts i_d t_d t_d_ok n_d hown hK hP hD hS 0 rfl rfl 14 (by decide) (hts (.fieldLink R_d 39 "TourDesk" "tour" "[B") (by decide +kernel)) (fun _ h9 => h9) rfl hin rfl (by decide +kernel) rfl rfl (Nat.le_of_ble_eq_true rfl) d_d_init_81.1 (fun H locs hP hD hS => ?_)
  have hP : va_P D classes [(h0, .inr (0, [.int 0, .ref q1, .ref q2, .ref q3, .ref q4, .ref q5, .ref q6, .ref q7, .int 0, .ref q9, .ref q10, .int 0, .int 0, .int 0, .ref q14])), (q1, .inl (c1, 49, .inl (fun _ => iI 0))), (q2, .inl (c2, 49, .inl (fun _ => iI 0))), (q3, .inl (c3, 49, .inl (fun _ => iI 0))), (q4, .inl (c4, 7, .inl (fun _ => iI 0))), (q5, .inl (c5, 7, .inl (fun _ => iI 0))), (q6, .inl (c6, 7, .inl (fun _ => iI 0))), (q7, .inl (c7, 49, .inl (fun _ => iI 0))), (q9, .inl (c9, 24, .inl (fun _ => iI 0))), (q10, .inl (c10, 24, .inl (fun _ => iI 0))), (q14, .inl (c14, 7, .inl (fun _ => iI 0)))] H := hP
  have hD : va_D A [(h0, .inr (0, [.int 0, .ref q1, .ref q2, .ref q3, .ref q4, .ref q5, .ref q6, .ref q7, .int 0, .ref q9, .ref q10, .int 0, .int 0, .int 0, .ref q14])), (q1, .inl (c1, 49, .inl (fun _ => iI 0))), (q2, .inl (c2, 49, .inl (fun _ => iI 0))), (q3, .inl (c3, 49, .inl (fun _ => iI 0))), (q4, .inl (c4, 7, .inl (fun _ => iI 0))), (q5, .inl (c5, 7, .inl (fun _ => iI 0))), (q6, .inl (c6, 7, .inl (fun _ => iI 0))), (q7, .inl (c7, 49, .inl (fun _ => iI 0))), (q9, .inl (c9, 24, .inl (fun _ => iI 0))), (q10, .inl (c10, 24, .inl (fun _ => iI 0))), (q14, .inl (c14, 7, .inl (fun _ => iI 0)))] := hD
  refine W.eq (g2 := F0 m 84 ls []) rfl ?_
  have eB : ∀ {u v : ClassId} {ty : FieldType}, (∀ C, ty ≠ .object C) → va_RA s u ty → va_RA s v ty → u = v := fun {u v ty} hty h1 h2 => by
    cases ty with
    | object C => exact absurd rfl (hty C)
    | _ => exact Option.some.inj (h1.symm.trans h2)
  obtain rfl : c1 = c2 := eB (ty := .byte) (fun C h => by cases h) (hK.2 0 _ rfl).2 (hK.2 1 _ rfl).2
  obtain rfl : c1 = c3 := eB (ty := .byte) (fun C h => by cases h) (hK.2 0 _ rfl).2 (hK.2 2 _ rfl).2
  obtain rfl : c1 = c5 := eB (ty := .byte) (fun C h => by cases h) (hK.2 0 _ rfl).2 (hK.2 4 _ rfl).2
  obtain rfl : c1 = c6 := eB (ty := .byte) (fun C h => by cases h) (hK.2 0 _ rfl).2 (hK.2 5 _ rfl).2
  obtain rfl : c1 = c9 := eB (ty := .byte) (fun C h => by cases h) (hK.2 0 _ rfl).2 (hK.2 7 _ rfl).2
  obtain rfl : c7 = c10 := eB (ty := .boolean) (fun C h => by cases h) (hK.2 6 _ rfl).2 (hK.2 8 _ rfl).2
  obtain rfl : c1 = c14 := eB (ty := .byte) (fun C h => by cases h) (hK.2 0 _ rfl).2 (hK.2 9 _ rfl).2
  have hK3 : va_K D classes (ty_k (c1, c4, c7)) s := hK.sub [0, 3, 6] rfl
  have hP0 : va_P D classes (td_ws (qF [h0, q1, q2, q3, q4, q5, q6, q7, 0, q9, q10, 0, 0, 0, q14]) (c1, c4, c7) (fun _ _ => 0)) H := hP
  have hD0' : va_D A (td_ws (qF [h0, q1, q2, q3, q4, q5, q6, q7, 0, q9, q10, 0, 0, 0, q14]) (c1, c4, c7) (fun _ _ => 0)) := hD
  obtain ⟨q, hqe⟩ : ∃ q, q = qF [h0, q1, q2, q3, q4, q5, q6, q7, 0, q9, q10, 0, 0, 0, q14] := ⟨_, rfl⟩
  rw [← hqe] at hP0 hD0'
  have hq0 : q 0 = h0 := by rw [hqe]; rfl
  generalize hkz : (c1, c4, c7) = kz at hK3 hP0 hD0'
  rw [← hq0] at hlo
  have key : ∀ X : CT, CX X b_d_init R_d ({ frames := 1, cells := 10, slots := 272, locals := 12 }) (td_ws q kz) (ty_k kz) → inI X → (∀ (pc nx : Nat) (L : List (Option Value)), DC 1 b_d_init pc nx .return_ → TW X (td_ws q kz) (ciS (cl37 a) (cl99 d) 49) pc L []) → TW X (td_ws q kz) (fun _ _ => 0) 84 [some (.ref (q 0)), some (.int (iI a)), some (.int (iI d)), none, none] [] := by
    intro X C hi hR
    refine tw_aload0 C d_d_init_84 ?_
    refine tw_iload1 C d_d_init_85 ?_
    refine tw_iconst C d_d_init_86 ?_
    refine tw_icmp_ge C d_d_init_87 (by omega) (by omega) (fun u87 => ?_) (fun u87 => ?_)
    · refine tw_iload1 C d_d_init_94 ?_
      refine tw_bipush C d_d_init_95 rfl ?_
      refine tw_icmp_le C d_d_init_97 (by omega) (by omega) (fun u97 => ?_) (fun u97 => ?_)
      · refine tw_iload1 C d_d_init_105 ?_
        refine tw_eq (show _ = iI ((cl37 a : Nat) : Int) by congr 1; unfold cl37; rw [if_neg (by omega), if_neg (by omega)]; omega) ?_
        refine pt_d0 C hi d_d_init_106 ?_
        refine tw_iload2 C d_d_init_109 ?_
        refine tw_if_ge C d_d_init_110 (by omega) (fun u110 => ?_) (fun u110 => ?_)
        · refine tw_iload2 C d_d_init_117 ?_
          refine tw_bipush C d_d_init_118 rfl ?_
          refine tw_icmp_le C d_d_init_120 (by omega) (by omega) (fun u120 => ?_) (fun u120 => ?_)
          · refine tw_iload2 C d_d_init_128 ?_
            refine tw_eq (show _ = iI (cl99 d) by congr 1; unfold cl99; rw [if_neg (by omega), if_neg (by omega)]) ?_
            refine tw_istore3 C d_d_init_129 ?_
            refine tw_iconst C d_d_init_130 ?_
            refine tw_istore4 C d_d_init_131 ?_
            suffices hl133 : ∀ (f133 : Nat) (j : Nat), 49 < j + f133 → j ≤ 49 → TW X (td_ws q kz) (ciS (cl37 a) (cl99 d) j) 133 [some (.ref (q 0)), some (.int (iI a)), some (.int (iI d)), some (.int (iI (cl99 d))), some (.int (iI j))] [] from tw_S (ciS_0 _ _).symm (hl133 50 0 (by omega) (by omega))
            intro f133
            induction f133 with
            | zero => intro j h1 h2; exfalso; omega
            | succ f133 ih133 =>
              intro j h1 h2
              have hcl := cl99_rng d
              refine tw_iload4 C d_d_init_133 ?_
              refine tw_bipush C d_d_init_135 rfl ?_
              refine tw_icmp_ge C d_d_init_137 (by omega) (by omega) (fun u137 => ?_) (fun u137 => ?_)
              · (rw [show j = 49 by omega]; exact hR _ _ _ d_d_init_155)
              · refine tw_aload0 C d_d_init_140 ?_
                refine g_d1 C d_d_init_141 ?_
                refine tw_iload4 C d_d_init_144 ?_
                refine tw_iload3 C d_d_init_146 ?_
                refine tw_i2b C d_d_init_147 (by omega) ?_
                refine as_d1 C j d_d_init_148 (by omega) (by omega) (by omega) ?_
                refine tw_iinc4 C d_d_init_149 ?_
                refine tw_goto C d_d_init_152 ?_
                exact tw_S (ciS_put _ _ _).symm (ih133 (j + 1) (by omega) (by omega))
          · refine tw_bipush C d_d_init_123 rfl ?_
            refine tw_goto C d_d_init_125 ?_
            refine tw_eq (show _ = iI (cl99 d) by congr 1; unfold cl99; rw [if_neg (by omega), if_pos (by omega)]) ?_
            refine tw_istore3 C d_d_init_129 ?_
            refine tw_iconst C d_d_init_130 ?_
            refine tw_istore4 C d_d_init_131 ?_
            suffices hl133 : ∀ (f133 : Nat) (j : Nat), 49 < j + f133 → j ≤ 49 → TW X (td_ws q kz) (ciS (cl37 a) (cl99 d) j) 133 [some (.ref (q 0)), some (.int (iI a)), some (.int (iI d)), some (.int (iI (cl99 d))), some (.int (iI j))] [] from tw_S (ciS_0 _ _).symm (hl133 50 0 (by omega) (by omega))
            intro f133
            induction f133 with
            | zero => intro j h1 h2; exfalso; omega
            | succ f133 ih133 =>
              intro j h1 h2
              have hcl := cl99_rng d
              refine tw_iload4 C d_d_init_133 ?_
              refine tw_bipush C d_d_init_135 rfl ?_
              refine tw_icmp_ge C d_d_init_137 (by omega) (by omega) (fun u137 => ?_) (fun u137 => ?_)
              · (rw [show j = 49 by omega]; exact hR _ _ _ d_d_init_155)
              · refine tw_aload0 C d_d_init_140 ?_
                refine g_d1 C d_d_init_141 ?_
                refine tw_iload4 C d_d_init_144 ?_
                refine tw_iload3 C d_d_init_146 ?_
                refine tw_i2b C d_d_init_147 (by omega) ?_
                refine as_d1 C j d_d_init_148 (by omega) (by omega) (by omega) ?_
                refine tw_iinc4 C d_d_init_149 ?_
                refine tw_goto C d_d_init_152 ?_
                exact tw_S (ciS_put _ _ _).symm (ih133 (j + 1) (by omega) (by omega))
        · refine tw_iconst C d_d_init_113 ?_
          refine tw_goto C d_d_init_114 ?_
          refine tw_eq (show _ = iI (cl99 d) by congr 1; unfold cl99; rw [if_pos u110]) ?_
          refine tw_istore3 C d_d_init_129 ?_
          refine tw_iconst C d_d_init_130 ?_
          refine tw_istore4 C d_d_init_131 ?_
          suffices hl133 : ∀ (f133 : Nat) (j : Nat), 49 < j + f133 → j ≤ 49 → TW X (td_ws q kz) (ciS (cl37 a) (cl99 d) j) 133 [some (.ref (q 0)), some (.int (iI a)), some (.int (iI d)), some (.int (iI (cl99 d))), some (.int (iI j))] [] from tw_S (ciS_0 _ _).symm (hl133 50 0 (by omega) (by omega))
          intro f133
          induction f133 with
          | zero => intro j h1 h2; exfalso; omega
          | succ f133 ih133 =>
            intro j h1 h2
            have hcl := cl99_rng d
            refine tw_iload4 C d_d_init_133 ?_
            refine tw_bipush C d_d_init_135 rfl ?_
            refine tw_icmp_ge C d_d_init_137 (by omega) (by omega) (fun u137 => ?_) (fun u137 => ?_)
            · (rw [show j = 49 by omega]; exact hR _ _ _ d_d_init_155)
            · refine tw_aload0 C d_d_init_140 ?_
              refine g_d1 C d_d_init_141 ?_
              refine tw_iload4 C d_d_init_144 ?_
              refine tw_iload3 C d_d_init_146 ?_
              refine tw_i2b C d_d_init_147 (by omega) ?_
              refine as_d1 C j d_d_init_148 (by omega) (by omega) (by omega) ?_
              refine tw_iinc4 C d_d_init_149 ?_
              refine tw_goto C d_d_init_152 ?_
              exact tw_S (ciS_put _ _ _).symm (ih133 (j + 1) (by omega) (by omega))
      · refine tw_bipush C d_d_init_100 rfl ?_
        refine tw_goto C d_d_init_102 ?_
        refine tw_eq (show _ = iI ((cl37 a : Nat) : Int) by congr 1; unfold cl37; rw [if_neg (by omega), if_pos (by omega)]; rfl) ?_
        refine pt_d0 C hi d_d_init_106 ?_
        refine tw_iload2 C d_d_init_109 ?_
        refine tw_if_ge C d_d_init_110 (by omega) (fun u110 => ?_) (fun u110 => ?_)
        · refine tw_iload2 C d_d_init_117 ?_
          refine tw_bipush C d_d_init_118 rfl ?_
          refine tw_icmp_le C d_d_init_120 (by omega) (by omega) (fun u120 => ?_) (fun u120 => ?_)
          · refine tw_iload2 C d_d_init_128 ?_
            refine tw_eq (show _ = iI (cl99 d) by congr 1; unfold cl99; rw [if_neg (by omega), if_neg (by omega)]) ?_
            refine tw_istore3 C d_d_init_129 ?_
            refine tw_iconst C d_d_init_130 ?_
            refine tw_istore4 C d_d_init_131 ?_
            suffices hl133 : ∀ (f133 : Nat) (j : Nat), 49 < j + f133 → j ≤ 49 → TW X (td_ws q kz) (ciS (cl37 a) (cl99 d) j) 133 [some (.ref (q 0)), some (.int (iI a)), some (.int (iI d)), some (.int (iI (cl99 d))), some (.int (iI j))] [] from tw_S (ciS_0 _ _).symm (hl133 50 0 (by omega) (by omega))
            intro f133
            induction f133 with
            | zero => intro j h1 h2; exfalso; omega
            | succ f133 ih133 =>
              intro j h1 h2
              have hcl := cl99_rng d
              refine tw_iload4 C d_d_init_133 ?_
              refine tw_bipush C d_d_init_135 rfl ?_
              refine tw_icmp_ge C d_d_init_137 (by omega) (by omega) (fun u137 => ?_) (fun u137 => ?_)
              · (rw [show j = 49 by omega]; exact hR _ _ _ d_d_init_155)
              · refine tw_aload0 C d_d_init_140 ?_
                refine g_d1 C d_d_init_141 ?_
                refine tw_iload4 C d_d_init_144 ?_
                refine tw_iload3 C d_d_init_146 ?_
                refine tw_i2b C d_d_init_147 (by omega) ?_
                refine as_d1 C j d_d_init_148 (by omega) (by omega) (by omega) ?_
                refine tw_iinc4 C d_d_init_149 ?_
                refine tw_goto C d_d_init_152 ?_
                exact tw_S (ciS_put _ _ _).symm (ih133 (j + 1) (by omega) (by omega))
          · refine tw_bipush C d_d_init_123 rfl ?_
            refine tw_goto C d_d_init_125 ?_
            refine tw_eq (show _ = iI (cl99 d) by congr 1; unfold cl99; rw [if_neg (by omega), if_pos (by omega)]) ?_
            refine tw_istore3 C d_d_init_129 ?_
            refine tw_iconst C d_d_init_130 ?_
            refine tw_istore4 C d_d_init_131 ?_
            suffices hl133 : ∀ (f133 : Nat) (j : Nat), 49 < j + f133 → j ≤ 49 → TW X (td_ws q kz) (ciS (cl37 a) (cl99 d) j) 133 [some (.ref (q 0)), some (.int (iI a)), some (.int (iI d)), some (.int (iI (cl99 d))), some (.int (iI j))] [] from tw_S (ciS_0 _ _).symm (hl133 50 0 (by omega) (by omega))
            intro f133
            induction f133 with
            | zero => intro j h1 h2; exfalso; omega
            | succ f133 ih133 =>
              intro j h1 h2
              have hcl := cl99_rng d
              refine tw_iload4 C d_d_init_133 ?_
              refine tw_bipush C d_d_init_135 rfl ?_
              refine tw_icmp_ge C d_d_init_137 (by omega) (by omega) (fun u137 => ?_) (fun u137 => ?_)
              · (rw [show j = 49 by omega]; exact hR _ _ _ d_d_init_155)
              · refine tw_aload0 C d_d_init_140 ?_
                refine g_d1 C d_d_init_141 ?_
                refine tw_iload4 C d_d_init_144 ?_
                refine tw_iload3 C d_d_init_146 ?_
                refine tw_i2b C d_d_init_147 (by omega) ?_
                refine as_d1 C j d_d_init_148 (by omega) (by omega) (by omega) ?_
                refine tw_iinc4 C d_d_init_149 ?_
                refine tw_goto C d_d_init_152 ?_
                exact tw_S (ciS_put _ _ _).symm (ih133 (j + 1) (by omega) (by omega))
        · refine tw_iconst C d_d_init_113 ?_
          refine tw_goto C d_d_init_114 ?_
          refine tw_eq (show _ = iI (cl99 d) by congr 1; unfold cl99; rw [if_pos u110]) ?_
          refine tw_istore3 C d_d_init_129 ?_
          refine tw_iconst C d_d_init_130 ?_
          refine tw_istore4 C d_d_init_131 ?_
          suffices hl133 : ∀ (f133 : Nat) (j : Nat), 49 < j + f133 → j ≤ 49 → TW X (td_ws q kz) (ciS (cl37 a) (cl99 d) j) 133 [some (.ref (q 0)), some (.int (iI a)), some (.int (iI d)), some (.int (iI (cl99 d))), some (.int (iI j))] [] from tw_S (ciS_0 _ _).symm (hl133 50 0 (by omega) (by omega))
          intro f133
          induction f133 with
          | zero => intro j h1 h2; exfalso; omega
          | succ f133 ih133 =>
            intro j h1 h2
            have hcl := cl99_rng d
            refine tw_iload4 C d_d_init_133 ?_
            refine tw_bipush C d_d_init_135 rfl ?_
            refine tw_icmp_ge C d_d_init_137 (by omega) (by omega) (fun u137 => ?_) (fun u137 => ?_)
            · (rw [show j = 49 by omega]; exact hR _ _ _ d_d_init_155)
            · refine tw_aload0 C d_d_init_140 ?_
              refine g_d1 C d_d_init_141 ?_
              refine tw_iload4 C d_d_init_144 ?_
              refine tw_iload3 C d_d_init_146 ?_
              refine tw_i2b C d_d_init_147 (by omega) ?_
              refine as_d1 C j d_d_init_148 (by omega) (by omega) (by omega) ?_
              refine tw_iinc4 C d_d_init_149 ?_
              refine tw_goto C d_d_init_152 ?_
              exact tw_S (ciS_put _ _ _).symm (ih133 (j + 1) (by omega) (by omega))
    · refine tw_iconst C d_d_init_90 ?_
      refine tw_goto C d_d_init_91 ?_
      refine tw_eq (show _ = iI ((cl37 a : Nat) : Int) by congr 1; unfold cl37; rw [if_pos u87]; rfl) ?_
      refine pt_d0 C hi d_d_init_106 ?_
      refine tw_iload2 C d_d_init_109 ?_
      refine tw_if_ge C d_d_init_110 (by omega) (fun u110 => ?_) (fun u110 => ?_)
      · refine tw_iload2 C d_d_init_117 ?_
        refine tw_bipush C d_d_init_118 rfl ?_
        refine tw_icmp_le C d_d_init_120 (by omega) (by omega) (fun u120 => ?_) (fun u120 => ?_)
        · refine tw_iload2 C d_d_init_128 ?_
          refine tw_eq (show _ = iI (cl99 d) by congr 1; unfold cl99; rw [if_neg (by omega), if_neg (by omega)]) ?_
          refine tw_istore3 C d_d_init_129 ?_
          refine tw_iconst C d_d_init_130 ?_
          refine tw_istore4 C d_d_init_131 ?_
          suffices hl133 : ∀ (f133 : Nat) (j : Nat), 49 < j + f133 → j ≤ 49 → TW X (td_ws q kz) (ciS (cl37 a) (cl99 d) j) 133 [some (.ref (q 0)), some (.int (iI a)), some (.int (iI d)), some (.int (iI (cl99 d))), some (.int (iI j))] [] from tw_S (ciS_0 _ _).symm (hl133 50 0 (by omega) (by omega))
          intro f133
          induction f133 with
          | zero => intro j h1 h2; exfalso; omega
          | succ f133 ih133 =>
            intro j h1 h2
            have hcl := cl99_rng d
            refine tw_iload4 C d_d_init_133 ?_
            refine tw_bipush C d_d_init_135 rfl ?_
            refine tw_icmp_ge C d_d_init_137 (by omega) (by omega) (fun u137 => ?_) (fun u137 => ?_)
            · (rw [show j = 49 by omega]; exact hR _ _ _ d_d_init_155)
            · refine tw_aload0 C d_d_init_140 ?_
              refine g_d1 C d_d_init_141 ?_
              refine tw_iload4 C d_d_init_144 ?_
              refine tw_iload3 C d_d_init_146 ?_
              refine tw_i2b C d_d_init_147 (by omega) ?_
              refine as_d1 C j d_d_init_148 (by omega) (by omega) (by omega) ?_
              refine tw_iinc4 C d_d_init_149 ?_
              refine tw_goto C d_d_init_152 ?_
              exact tw_S (ciS_put _ _ _).symm (ih133 (j + 1) (by omega) (by omega))
        · refine tw_bipush C d_d_init_123 rfl ?_
          refine tw_goto C d_d_init_125 ?_
          refine tw_eq (show _ = iI (cl99 d) by congr 1; unfold cl99; rw [if_neg (by omega), if_pos (by omega)]) ?_
          refine tw_istore3 C d_d_init_129 ?_
          refine tw_iconst C d_d_init_130 ?_
          refine tw_istore4 C d_d_init_131 ?_
          suffices hl133 : ∀ (f133 : Nat) (j : Nat), 49 < j + f133 → j ≤ 49 → TW X (td_ws q kz) (ciS (cl37 a) (cl99 d) j) 133 [some (.ref (q 0)), some (.int (iI a)), some (.int (iI d)), some (.int (iI (cl99 d))), some (.int (iI j))] [] from tw_S (ciS_0 _ _).symm (hl133 50 0 (by omega) (by omega))
          intro f133
          induction f133 with
          | zero => intro j h1 h2; exfalso; omega
          | succ f133 ih133 =>
            intro j h1 h2
            have hcl := cl99_rng d
            refine tw_iload4 C d_d_init_133 ?_
            refine tw_bipush C d_d_init_135 rfl ?_
            refine tw_icmp_ge C d_d_init_137 (by omega) (by omega) (fun u137 => ?_) (fun u137 => ?_)
            · (rw [show j = 49 by omega]; exact hR _ _ _ d_d_init_155)
            · refine tw_aload0 C d_d_init_140 ?_
              refine g_d1 C d_d_init_141 ?_
              refine tw_iload4 C d_d_init_144 ?_
              refine tw_iload3 C d_d_init_146 ?_
              refine tw_i2b C d_d_init_147 (by omega) ?_
              refine as_d1 C j d_d_init_148 (by omega) (by omega) (by omega) ?_
              refine tw_iinc4 C d_d_init_149 ?_
              refine tw_goto C d_d_init_152 ?_
              exact tw_S (ciS_put _ _ _).symm (ih133 (j + 1) (by omega) (by omega))
      · refine tw_iconst C d_d_init_113 ?_
        refine tw_goto C d_d_init_114 ?_
        refine tw_eq (show _ = iI (cl99 d) by congr 1; unfold cl99; rw [if_pos u110]) ?_
        refine tw_istore3 C d_d_init_129 ?_
        refine tw_iconst C d_d_init_130 ?_
        refine tw_istore4 C d_d_init_131 ?_
        suffices hl133 : ∀ (f133 : Nat) (j : Nat), 49 < j + f133 → j ≤ 49 → TW X (td_ws q kz) (ciS (cl37 a) (cl99 d) j) 133 [some (.ref (q 0)), some (.int (iI a)), some (.int (iI d)), some (.int (iI (cl99 d))), some (.int (iI j))] [] from tw_S (ciS_0 _ _).symm (hl133 50 0 (by omega) (by omega))
        intro f133
        induction f133 with
        | zero => intro j h1 h2; exfalso; omega
        | succ f133 ih133 =>
          intro j h1 h2
          have hcl := cl99_rng d
          refine tw_iload4 C d_d_init_133 ?_
          refine tw_bipush C d_d_init_135 rfl ?_
          refine tw_icmp_ge C d_d_init_137 (by omega) (by omega) (fun u137 => ?_) (fun u137 => ?_)
          · (rw [show j = 49 by omega]; exact hR _ _ _ d_d_init_155)
          · refine tw_aload0 C d_d_init_140 ?_
            refine g_d1 C d_d_init_141 ?_
            refine tw_iload4 C d_d_init_144 ?_
            refine tw_iload3 C d_d_init_146 ?_
            refine tw_i2b C d_d_init_147 (by omega) ?_
            refine as_d1 C j d_d_init_148 (by omega) (by omega) (by omega) ?_
            refine tw_iinc4 C d_d_init_149 ?_
            refine tw_goto C d_d_init_152 ?_
            exact tw_S (ciS_put _ _ _).symm (ih133 (j + 1) (by omega) (by omega))
  refine key (p, l, e, _, s, m, _, below, meth, c, _, D, A, 5, 10, 272) ⟨hx, hb, hml, hown, hts, hK3, fun S => (td_ok q kz).D S hD0', rfl, Nat.le_refl _, Nat.le_refl _⟩ hin ?_ H locs ls hP0 hS hlo
  intro pc nx L hdc H1 locs1 ls1 hP1 hS1 hl1
  exact W.vret hx hb hr (fun t ht hW => ⟨⟨(q, kz), rfl, hq0, by rw [ht]; exact hP1, va_K.moved hW.alike hK3, (td_ok q kz).D _ hD0'⟩, hS1.F ht⟩) hS1.2.2 hdc.1
def miS (n : Nat) (d : Int) : TS := up (ciS n d 49) 4 0 ((fac (n - 1) : Nat) : Int)
theorem na_cls {args : Array Value} {s : State} {ty : FieldType} (hty : ∀ C, ty ≠ .object C) (h : (Cond.arrayClass ty).before args s = true) : ∃ cA, ArrOfT s cA ty ∧ va_RA s cA ty := by
  obtain ⟨cA, kA, comp, hfind, hk, hkind⟩ := Cond.arrayClass_spec h
  refine ⟨cA, fun n z => ⟨fun k h => (by cases h), kA, hk, comp, hkind⟩, ?_⟩
  cases ty with
  | object C => exact absurd rfl (hty C)
  | _ => exact hfind
theorem fac_s (k : Nat) : fac (k + 1) = (k + 1) * fac k := rfl
theorem up_up (S : TS) (f k : Nat) (v u : Int) : up (up S f k v) f k u = up S f k u := by
  funext f' k'
  unfold up
  by_cases q : f' = f ∧ k' = k
  · rw [if_pos q, if_pos q]
  · rw [if_neg q, if_neg q, if_neg q]
theorem mi_step (S : TS) {i : Nat} (h : 2 ≤ i) : up (up S 4 0 ((fac (i - 1) : Nat) : Int)) 4 0 (((fac (i - 1) : Nat) : Int) * (i : Int)) = up S 4 0 ((fac (i + 1 - 1) : Nat) : Int) := by
  rw [up_up]
  congr 1
  obtain ⟨k, rfl⟩ : ∃ k, i = k + 1 := ⟨i - 1, by omega⟩
  rw [show k + 1 + 1 - 1 = k + 1 by omega, show k + 1 - 1 = k by omega, fac_s, Int.natCast_mul, Int.mul_comm]
set_option maxHeartbeats 4000000 in
set_option maxRecDepth 100000 in
theorem c_m_init (l : Launch) (D : va_G) (h0 sz : Nat) {a d : Int} (ha : inR a) (hd : inR d) : Met l y_m_init (Cond.code y_m_init b_m_init 5 none :: tb) ({ frames := 1, cells := 3, slots := 105, locals := 12 }) (va_Pc [.ref h0, .int (iI a), .int (iI d)] (fun U => U.heap.size = sz ∧ va_P D classes [(h0, .inr (1, bl_m))] U.heap ∧ va_K D classes [] U ∧ va_D (fun _ => True) [(h0, .inr (1, bl_m))])) (va_Qv (fun u : (Nat → Nat) × (ClassId × ClassId × ClassId) => u.1 0 = h0) (fun u t => va_P D classes (md_ws u.1 u.2 (miS (cl37 a) (cl99 d))) t.heap ∧ va_K D classes (ty_k u.2) t ∧ va_D (va_A [(h0, .inr (1, bl_m))] sz) (md_ws u.1 u.2 (miS (cl37 a) (cl99 d)))) (va_A [(h0, .inr (1, bl_m))] sz)) 3 105 (va_A [(h0, .inr (1, bl_m))] sz) := by
  refine mc_of (by decide) ?_
  intro p e s m args below meth c hx hb hr hml hown hts hlocks hin hv
  obtain ⟨rfl, hsz, hP, hK, hD0⟩ := hv
  subst hsz
  have hD := hD0.self (sz := s.heap.size)
  have hown : s.vm.findClass R_m = some m.cls := hown
  have hin : meth.name = "<init>" := hin
  generalize hAe : va_A [(h0, .inr (1, bl_m))] s.heap.size = A at hD ⊢
  have hA : ∀ q : Nat, s.heap.size ≤ q → A q := fun q h => by rw [← hAe]; exact Or.inr h
  have hS : va_S A s.heap s.heap [] := va_S.rf
  have hlo := lo_start [.ref h0, .int (iI a), .int (iI d)] (n := 5) (Nat.le_of_ble_eq_true rfl) (by simp [Value.category]) (Nat.le_of_ble_eq_true rfl)
  have hl := lv_entry [.ref h0, .int (iI a), .int (iI d)] (n := 5) (Nat.le_of_ble_eq_true rfl)
  rw [lg_entry_eq]
  generalize (lg_sl ([.ref h0, .int (iI a), .int (iI d)]) ++ List.replicate (5 - (lg_sl ([.ref h0, .int (iI a), .int (iI d)])).length) Slot.unset).toArray = ls at hl hlo ⊢
  have hl : lv_has ls 5 [(0, .ref h0), (1, .int (iI a)), (2, .int (iI d))] := hl
  refine lv_aload_n hx hb d_m_init_0.1 rfl (lv_at hl 0 rfl) ?_
  refine W.objInit hx hb hown (hts (.methodLink R_m 1 objectInit) (by decide +kernel)) (hts (.instanceMethod objectInit) (by decide +kernel)) (hts (.code objectInit ⟨#[0xb1]⟩ 1 none) z_obj) rfl (by rw [hml]; exact hl.1) rfl d_m_init_1.1 (Nat.le_of_ble_eq_true rfl) (Nat.le_of_ble_eq_true rfl) ?_
  refine W.eq (g2 := F0 m 4 ls []) rfl ?_
  refine lv_aload_n hx hb d_m_init_4.1 rfl (lv_at hl 0 rfl) ?_
  refine lv_bipush (v := 49) hx hb d_m_init_5.1 rfl ?_
  refine va_newa (atype := .int) (ty := .int) (n := 49) (N' := 49) (a0 := (49, .inl (fun _ => iI 0))) hx hb (hts (.arrayClass .int) (by decide +kernel)) rfl hK hP hD hS hA (na_n 49) (by decide) (by decide) (by decide) (Nat.le_of_ble_eq_true rfl) (Nat.le_of_ble_eq_true rfl) d_m_init_7.1 (fun q1 c1 H hK hP hD hS => ?_)
  have hK : va_K D classes [(c1, .int)] s := hK
  have hP : va_P D classes [(h0, .inr (1, [.int 0, .null, .null, .null, .int 0])), (q1, .inl (c1, 49, .inl (fun _ => iI 0)))] H := hP
  have hD : va_D A [(h0, .inr (1, [.int 0, .null, .null, .null, .int 0])), (q1, .inl (c1, 49, .inl (fun _ => iI 0)))] := hD
  refine W.widen (k := 1) (n := 49) (Nat.le_of_ble_eq_true rfl) (Nat.le_of_ble_eq_true rfl) ?_
  refine va_put (D := D) (ci := 1) (v := .ref q1) (ty := .array .int) (C := R_m) (T := F_m) (N := 5) hx hb hts i_m t_m t_m_ok n_m hown hK hP hD hS 0 rfl rfl 1 (by decide) (hts (.fieldLink R_m 7 "TourDeskModel" "far" "[I") (by decide +kernel)) (fun _ h9 => h9) rfl (by decide +kernel) rfl rfl (Nat.le_of_ble_eq_true rfl) d_m_init_9.1 (fun H locs hP hD hS => ?_)
  have hP : va_P D classes [(h0, .inr (1, [.int 0, .ref q1, .null, .null, .int 0])), (q1, .inl (c1, 49, .inl (fun _ => iI 0)))] H := hP
  have hD : va_D A [(h0, .inr (1, [.int 0, .ref q1, .null, .null, .int 0])), (q1, .inl (c1, 49, .inl (fun _ => iI 0)))] := hD
  refine W.eq (g2 := F0 m 12 ls []) rfl ?_
  refine lv_aload_n hx hb d_m_init_12.1 rfl (lv_at hl 0 rfl) ?_
  refine lv_bipush (v := 49) hx hb d_m_init_13.1 rfl ?_
  refine va_newa (atype := .int) (ty := .int) (n := 49) (N' := 49) (a0 := (49, .inl (fun _ => iI 0))) hx hb (hts (.arrayClass .int) (by decide +kernel)) rfl hK hP hD hS hA (na_n 49) (by decide) (by decide) (by decide) (Nat.le_of_ble_eq_true rfl) (Nat.le_of_ble_eq_true rfl) d_m_init_15.1 (fun q2 c2 H hK hP hD hS => ?_)
  have hK : va_K D classes [(c1, .int), (c2, .int)] s := hK
  have hP : va_P D classes [(h0, .inr (1, [.int 0, .ref q1, .null, .null, .int 0])), (q1, .inl (c1, 49, .inl (fun _ => iI 0))), (q2, .inl (c2, 49, .inl (fun _ => iI 0)))] H := hP
  have hD : va_D A [(h0, .inr (1, [.int 0, .ref q1, .null, .null, .int 0])), (q1, .inl (c1, 49, .inl (fun _ => iI 0))), (q2, .inl (c2, 49, .inl (fun _ => iI 0)))] := hD
  refine W.widen (k := 2) (n := 98) (Nat.le_of_ble_eq_true rfl) (Nat.le_of_ble_eq_true rfl) ?_
  refine va_put (D := D) (ci := 1) (v := .ref q2) (ty := .array .int) (C := R_m) (T := F_m) (N := 5) hx hb hts i_m t_m t_m_ok n_m hown hK hP hD hS 0 rfl rfl 2 (by decide) (hts (.fieldLink R_m 13 "TourDeskModel" "law" "[I") (by decide +kernel)) (fun _ h9 => h9) rfl (by decide +kernel) rfl rfl (Nat.le_of_ble_eq_true rfl) d_m_init_17.1 (fun H locs hP hD hS => ?_)
  have hP : va_P D classes [(h0, .inr (1, [.int 0, .ref q1, .ref q2, .null, .int 0])), (q1, .inl (c1, 49, .inl (fun _ => iI 0))), (q2, .inl (c2, 49, .inl (fun _ => iI 0)))] H := hP
  have hD : va_D A [(h0, .inr (1, [.int 0, .ref q1, .ref q2, .null, .int 0])), (q1, .inl (c1, 49, .inl (fun _ => iI 0))), (q2, .inl (c2, 49, .inl (fun _ => iI 0)))] := hD
  refine W.eq (g2 := F0 m 20 ls []) rfl ?_
  refine lv_aload_n hx hb d_m_init_20.1 rfl (lv_at hl 0 rfl) ?_
  refine lv_bipush (v := 7) hx hb d_m_init_21.1 rfl ?_
  refine va_newa (atype := .int) (ty := .int) (n := 7) (N' := 7) (a0 := (7, .inl (fun _ => iI 0))) hx hb (hts (.arrayClass .int) (by decide +kernel)) rfl hK hP hD hS hA (na_n 7) (by decide) (by decide) (by decide) (Nat.le_of_ble_eq_true rfl) (Nat.le_of_ble_eq_true rfl) d_m_init_23.1 (fun q3 c3 H hK hP hD hS => ?_)
  have hK : va_K D classes [(c1, .int), (c2, .int), (c3, .int)] s := hK
  have hP : va_P D classes [(h0, .inr (1, [.int 0, .ref q1, .ref q2, .null, .int 0])), (q1, .inl (c1, 49, .inl (fun _ => iI 0))), (q2, .inl (c2, 49, .inl (fun _ => iI 0))), (q3, .inl (c3, 7, .inl (fun _ => iI 0)))] H := hP
  have hD : va_D A [(h0, .inr (1, [.int 0, .ref q1, .ref q2, .null, .int 0])), (q1, .inl (c1, 49, .inl (fun _ => iI 0))), (q2, .inl (c2, 49, .inl (fun _ => iI 0))), (q3, .inl (c3, 7, .inl (fun _ => iI 0)))] := hD
  refine W.widen (k := 3) (n := 105) (Nat.le_of_ble_eq_true rfl) (Nat.le_of_ble_eq_true rfl) ?_
  refine va_put (D := D) (ci := 1) (v := .ref q3) (ty := .array .int) (C := R_m) (T := F_m) (N := 5) hx hb hts i_m t_m t_m_ok n_m hown hK hP hD hS 0 rfl rfl 3 (by decide) (hts (.fieldLink R_m 16 "TourDeskModel" "list" "[I") (by decide +kernel)) (fun _ h9 => h9) rfl (by decide +kernel) rfl rfl (Nat.le_of_ble_eq_true rfl) d_m_init_25.1 (fun H locs hP hD hS => ?_)
  have hP : va_P D classes [(h0, .inr (1, [.int 0, .ref q1, .ref q2, .ref q3, .int 0])), (q1, .inl (c1, 49, .inl (fun _ => iI 0))), (q2, .inl (c2, 49, .inl (fun _ => iI 0))), (q3, .inl (c3, 7, .inl (fun _ => iI 0)))] H := hP
  have hD : va_D A [(h0, .inr (1, [.int 0, .ref q1, .ref q2, .ref q3, .int 0])), (q1, .inl (c1, 49, .inl (fun _ => iI 0))), (q2, .inl (c2, 49, .inl (fun _ => iI 0))), (q3, .inl (c3, 7, .inl (fun _ => iI 0)))] := hD
  refine W.eq (g2 := F0 m 28 ls []) rfl ?_
  have eB : ∀ {u v : ClassId} {ty : FieldType}, (∀ C, ty ≠ .object C) → va_RA s u ty → va_RA s v ty → u = v := fun {u v ty} hty h1 h2 => by
    cases ty with
    | object C => exact absurd rfl (hty C)
    | _ => exact Option.some.inj (h1.symm.trans h2)
  obtain rfl : c1 = c2 := eB (ty := .int) (fun C h => by cases h) (hK.2 0 _ rfl).2 (hK.2 1 _ rfl).2
  obtain rfl : c1 = c3 := eB (ty := .int) (fun C h => by cases h) (hK.2 0 _ rfl).2 (hK.2 2 _ rfl).2
  obtain ⟨cB, hcB⟩ := na_cls (ty := .byte) (fun C h => by cases h) (hts (.arrayClass .byte) (by decide +kernel))
  obtain ⟨cZ, hcZ⟩ := na_cls (ty := .boolean) (fun C h => by cases h) (hts (.arrayClass .boolean) (by decide +kernel))
  have hK3 : va_K D classes (ty_k (cB, c1, cZ)) s := ⟨hK.1, fun i z hz => by
    match i, hz with
    | 0, hz => cases hz; exact hcB
    | 1, hz => cases hz; exact hK.2 0 _ rfl
    | 2, hz => cases hz; exact hcZ
    | i + 3, hz => simp at hz⟩
  have hP0 : va_P D classes (md_ws (qF [h0, q1, q2, q3]) (cB, c1, cZ) (fun _ _ => 0)) H := hP
  have hD0' : va_D A (md_ws (qF [h0, q1, q2, q3]) (cB, c1, cZ) (fun _ _ => 0)) := hD
  obtain ⟨q, hqe⟩ : ∃ q, q = qF [h0, q1, q2, q3] := ⟨_, rfl⟩
  rw [← hqe] at hP0 hD0'
  have hq0 : q 0 = h0 := by rw [hqe]; rfl
  generalize hkz : (cB, c1, cZ) = kz at hK3 hP0 hD0'
  rw [← hq0] at hlo
  have key : ∀ X : CT, CX X b_m_init R_m ({ frames := 1, cells := 3, slots := 105, locals := 12 }) (md_ws q kz) (ty_k kz) → (∀ (pc nx : Nat) (L : List (Option Value)), DC 1 b_m_init pc nx .return_ → TW X (md_ws q kz) (miS (cl37 a) (cl99 d)) pc L []) → TW X (md_ws q kz) (fun _ _ => 0) 28 [some (.ref (q 0)), some (.int (iI a)), some (.int (iI d)), none, none] [] := by
    intro X C hR
    refine tw_aload0 C d_m_init_28 ?_
    refine tw_iload1 C d_m_init_29 ?_
    refine tw_iconst C d_m_init_30 ?_
    refine tw_icmp_ge C d_m_init_31 (by omega) (by omega) (fun u31 => ?_) (fun u31 => ?_)
    · refine tw_iload1 C d_m_init_38 ?_
      refine tw_bipush C d_m_init_39 rfl ?_
      refine tw_icmp_le C d_m_init_41 (by omega) (by omega) (fun u41 => ?_) (fun u41 => ?_)
      · refine tw_iload1 C d_m_init_49 ?_
        refine tw_eq (show _ = iI ((cl37 a : Nat) : Int) by congr 1; unfold cl37; rw [if_neg (by omega), if_neg (by omega)]; omega) ?_
        refine pt_m0 C d_m_init_50 ?_
        refine tw_iload2 C d_m_init_53 ?_
        refine tw_if_ge C d_m_init_54 (by omega) (fun u54 => ?_) (fun u54 => ?_)
        · refine tw_iload2 C d_m_init_61 ?_
          refine tw_bipush C d_m_init_62 rfl ?_
          refine tw_icmp_le C d_m_init_64 (by omega) (by omega) (fun u64 => ?_) (fun u64 => ?_)
          · refine tw_iload2 C d_m_init_72 ?_
            refine tw_eq (show _ = iI (cl99 d) by congr 1; unfold cl99; rw [if_neg (by omega), if_neg (by omega)]) ?_
            refine tw_istore3 C d_m_init_73 ?_
            refine tw_iconst C d_m_init_74 ?_
            refine tw_istore4 C d_m_init_75 ?_
            suffices hl77 : ∀ (f77 : Nat) (j : Nat), 49 < j + f77 → j ≤ 49 → TW X (md_ws q kz) (ciS (cl37 a) (cl99 d) j) 77 [some (.ref (q 0)), some (.int (iI a)), some (.int (iI d)), some (.int (iI (cl99 d))), some (.int (iI j))] [] from tw_S (ciS_0 _ _).symm (hl77 50 0 (by omega) (by omega))
            intro f77
            induction f77 with
            | zero => intro j h1 h2; exfalso; omega
            | succ f77 ih77 =>
              intro j h1 h2
              have hcl := cl99_rng d
              have hcn := cl37_rng a
              refine tw_iload4 C d_m_init_77 ?_
              refine tw_bipush C d_m_init_79 rfl ?_
              refine tw_icmp_ge C d_m_init_81 (by omega) (by omega) (fun u81 => ?_) (fun u81 => ?_)
              · refine tw_aload0 C d_m_init_98 ?_
                refine tw_iconst C d_m_init_99 ?_
                refine pt_m4 C d_m_init_100 ?_
                refine tw_iconst C d_m_init_103 ?_
                refine tw_istore4 C d_m_init_104 ?_
                rw [show j = 49 by omega]
                suffices hl106 : ∀ (f106 : Nat) (i : Nat), cl37 a < i + f106 → i ≤ cl37 a → 2 ≤ i → TW X (md_ws q kz) (up (ciS (cl37 a) (cl99 d) 49) 4 0 ((fac (i - 1) : Nat) : Int)) 106 [some (.ref (q 0)), some (.int (iI a)), some (.int (iI d)), some (.int (iI (cl99 d))), some (.int (iI i))] [] from hl106 (cl37 a + 1) 2 (by omega) (by omega) (by omega)
                intro f106
                induction f106 with
                | zero => intro i k1 k2 k3; exfalso; omega
                | succ f106 ih106 =>
                  intro i k1 k2 k3
                  refine tw_iload4 C d_m_init_106 ?_
                  refine tw_aload0 C d_m_init_108 ?_
                  refine g_m0 C d_m_init_109 (show _ = ((cl37 a : Nat) : Int) from rfl) ?_
                  refine tw_icmp_ge C d_m_init_112 (by omega) (by omega) (fun u112 => ?_) (fun u112 => ?_)
                  · exact tw_S (show _ = miS (cl37 a) (cl99 d) by unfold miS; rw [show i = cl37 a by omega]) (hR _ _ _ d_m_init_132)
                  · refine tw_aload0 C d_m_init_115 ?_
                    refine tw_aload0 C d_m_init_116 ?_
                    refine g_m4 C d_m_init_117 (up_s _ _ _ _) ?_
                    refine tw_iload4 C d_m_init_120 ?_
                    refine tw_imul C d_m_init_122 ?_
                    refine pt_m4 C d_m_init_123 ?_
                    refine tw_iinc4 C d_m_init_126 ?_
                    refine tw_goto C d_m_init_129 ?_
                    exact tw_S (mi_step _ k3) (ih106 (i + 1) (by omega) (by omega) (by omega))
              · refine tw_aload0 C d_m_init_84 ?_
                refine g_m1 C d_m_init_85 ?_
                refine tw_iload4 C d_m_init_88 ?_
                refine tw_iload3 C d_m_init_90 ?_
                refine as_m1 C j d_m_init_91 (by omega) (by omega) ?_
                refine tw_iinc4 C d_m_init_92 ?_
                refine tw_goto C d_m_init_95 ?_
                exact tw_S (ciS_put _ _ _).symm (ih77 (j + 1) (by omega) (by omega))
          · refine tw_bipush C d_m_init_67 rfl ?_
            refine tw_goto C d_m_init_69 ?_
            refine tw_eq (show _ = iI (cl99 d) by congr 1; unfold cl99; rw [if_neg (by omega), if_pos (by omega)]) ?_
            refine tw_istore3 C d_m_init_73 ?_
            refine tw_iconst C d_m_init_74 ?_
            refine tw_istore4 C d_m_init_75 ?_
            suffices hl77 : ∀ (f77 : Nat) (j : Nat), 49 < j + f77 → j ≤ 49 → TW X (md_ws q kz) (ciS (cl37 a) (cl99 d) j) 77 [some (.ref (q 0)), some (.int (iI a)), some (.int (iI d)), some (.int (iI (cl99 d))), some (.int (iI j))] [] from tw_S (ciS_0 _ _).symm (hl77 50 0 (by omega) (by omega))
            intro f77
            induction f77 with
            | zero => intro j h1 h2; exfalso; omega
            | succ f77 ih77 =>
              intro j h1 h2
              have hcl := cl99_rng d
              have hcn := cl37_rng a
              refine tw_iload4 C d_m_init_77 ?_
              refine tw_bipush C d_m_init_79 rfl ?_
              refine tw_icmp_ge C d_m_init_81 (by omega) (by omega) (fun u81 => ?_) (fun u81 => ?_)
              · refine tw_aload0 C d_m_init_98 ?_
                refine tw_iconst C d_m_init_99 ?_
                refine pt_m4 C d_m_init_100 ?_
                refine tw_iconst C d_m_init_103 ?_
                refine tw_istore4 C d_m_init_104 ?_
                rw [show j = 49 by omega]
                suffices hl106 : ∀ (f106 : Nat) (i : Nat), cl37 a < i + f106 → i ≤ cl37 a → 2 ≤ i → TW X (md_ws q kz) (up (ciS (cl37 a) (cl99 d) 49) 4 0 ((fac (i - 1) : Nat) : Int)) 106 [some (.ref (q 0)), some (.int (iI a)), some (.int (iI d)), some (.int (iI (cl99 d))), some (.int (iI i))] [] from hl106 (cl37 a + 1) 2 (by omega) (by omega) (by omega)
                intro f106
                induction f106 with
                | zero => intro i k1 k2 k3; exfalso; omega
                | succ f106 ih106 =>
                  intro i k1 k2 k3
                  refine tw_iload4 C d_m_init_106 ?_
                  refine tw_aload0 C d_m_init_108 ?_
                  refine g_m0 C d_m_init_109 (show _ = ((cl37 a : Nat) : Int) from rfl) ?_
                  refine tw_icmp_ge C d_m_init_112 (by omega) (by omega) (fun u112 => ?_) (fun u112 => ?_)
                  · exact tw_S (show _ = miS (cl37 a) (cl99 d) by unfold miS; rw [show i = cl37 a by omega]) (hR _ _ _ d_m_init_132)
                  · refine tw_aload0 C d_m_init_115 ?_
                    refine tw_aload0 C d_m_init_116 ?_
                    refine g_m4 C d_m_init_117 (up_s _ _ _ _) ?_
                    refine tw_iload4 C d_m_init_120 ?_
                    refine tw_imul C d_m_init_122 ?_
                    refine pt_m4 C d_m_init_123 ?_
                    refine tw_iinc4 C d_m_init_126 ?_
                    refine tw_goto C d_m_init_129 ?_
                    exact tw_S (mi_step _ k3) (ih106 (i + 1) (by omega) (by omega) (by omega))
              · refine tw_aload0 C d_m_init_84 ?_
                refine g_m1 C d_m_init_85 ?_
                refine tw_iload4 C d_m_init_88 ?_
                refine tw_iload3 C d_m_init_90 ?_
                refine as_m1 C j d_m_init_91 (by omega) (by omega) ?_
                refine tw_iinc4 C d_m_init_92 ?_
                refine tw_goto C d_m_init_95 ?_
                exact tw_S (ciS_put _ _ _).symm (ih77 (j + 1) (by omega) (by omega))
        · refine tw_iconst C d_m_init_57 ?_
          refine tw_goto C d_m_init_58 ?_
          refine tw_eq (show _ = iI (cl99 d) by congr 1; unfold cl99; rw [if_pos u54]) ?_
          refine tw_istore3 C d_m_init_73 ?_
          refine tw_iconst C d_m_init_74 ?_
          refine tw_istore4 C d_m_init_75 ?_
          suffices hl77 : ∀ (f77 : Nat) (j : Nat), 49 < j + f77 → j ≤ 49 → TW X (md_ws q kz) (ciS (cl37 a) (cl99 d) j) 77 [some (.ref (q 0)), some (.int (iI a)), some (.int (iI d)), some (.int (iI (cl99 d))), some (.int (iI j))] [] from tw_S (ciS_0 _ _).symm (hl77 50 0 (by omega) (by omega))
          intro f77
          induction f77 with
          | zero => intro j h1 h2; exfalso; omega
          | succ f77 ih77 =>
            intro j h1 h2
            have hcl := cl99_rng d
            have hcn := cl37_rng a
            refine tw_iload4 C d_m_init_77 ?_
            refine tw_bipush C d_m_init_79 rfl ?_
            refine tw_icmp_ge C d_m_init_81 (by omega) (by omega) (fun u81 => ?_) (fun u81 => ?_)
            · refine tw_aload0 C d_m_init_98 ?_
              refine tw_iconst C d_m_init_99 ?_
              refine pt_m4 C d_m_init_100 ?_
              refine tw_iconst C d_m_init_103 ?_
              refine tw_istore4 C d_m_init_104 ?_
              rw [show j = 49 by omega]
              suffices hl106 : ∀ (f106 : Nat) (i : Nat), cl37 a < i + f106 → i ≤ cl37 a → 2 ≤ i → TW X (md_ws q kz) (up (ciS (cl37 a) (cl99 d) 49) 4 0 ((fac (i - 1) : Nat) : Int)) 106 [some (.ref (q 0)), some (.int (iI a)), some (.int (iI d)), some (.int (iI (cl99 d))), some (.int (iI i))] [] from hl106 (cl37 a + 1) 2 (by omega) (by omega) (by omega)
              intro f106
              induction f106 with
              | zero => intro i k1 k2 k3; exfalso; omega
              | succ f106 ih106 =>
                intro i k1 k2 k3
                refine tw_iload4 C d_m_init_106 ?_
                refine tw_aload0 C d_m_init_108 ?_
                refine g_m0 C d_m_init_109 (show _ = ((cl37 a : Nat) : Int) from rfl) ?_
                refine tw_icmp_ge C d_m_init_112 (by omega) (by omega) (fun u112 => ?_) (fun u112 => ?_)
                · exact tw_S (show _ = miS (cl37 a) (cl99 d) by unfold miS; rw [show i = cl37 a by omega]) (hR _ _ _ d_m_init_132)
                · refine tw_aload0 C d_m_init_115 ?_
                  refine tw_aload0 C d_m_init_116 ?_
                  refine g_m4 C d_m_init_117 (up_s _ _ _ _) ?_
                  refine tw_iload4 C d_m_init_120 ?_
                  refine tw_imul C d_m_init_122 ?_
                  refine pt_m4 C d_m_init_123 ?_
                  refine tw_iinc4 C d_m_init_126 ?_
                  refine tw_goto C d_m_init_129 ?_
                  exact tw_S (mi_step _ k3) (ih106 (i + 1) (by omega) (by omega) (by omega))
            · refine tw_aload0 C d_m_init_84 ?_
              refine g_m1 C d_m_init_85 ?_
              refine tw_iload4 C d_m_init_88 ?_
              refine tw_iload3 C d_m_init_90 ?_
              refine as_m1 C j d_m_init_91 (by omega) (by omega) ?_
              refine tw_iinc4 C d_m_init_92 ?_
              refine tw_goto C d_m_init_95 ?_
              exact tw_S (ciS_put _ _ _).symm (ih77 (j + 1) (by omega) (by omega))
      · refine tw_bipush C d_m_init_44 rfl ?_
        refine tw_goto C d_m_init_46 ?_
        refine tw_eq (show _ = iI ((cl37 a : Nat) : Int) by congr 1; unfold cl37; rw [if_neg (by omega), if_pos (by omega)]; rfl) ?_
        refine pt_m0 C d_m_init_50 ?_
        refine tw_iload2 C d_m_init_53 ?_
        refine tw_if_ge C d_m_init_54 (by omega) (fun u54 => ?_) (fun u54 => ?_)
        · refine tw_iload2 C d_m_init_61 ?_
          refine tw_bipush C d_m_init_62 rfl ?_
          refine tw_icmp_le C d_m_init_64 (by omega) (by omega) (fun u64 => ?_) (fun u64 => ?_)
          · refine tw_iload2 C d_m_init_72 ?_
            refine tw_eq (show _ = iI (cl99 d) by congr 1; unfold cl99; rw [if_neg (by omega), if_neg (by omega)]) ?_
            refine tw_istore3 C d_m_init_73 ?_
            refine tw_iconst C d_m_init_74 ?_
            refine tw_istore4 C d_m_init_75 ?_
            suffices hl77 : ∀ (f77 : Nat) (j : Nat), 49 < j + f77 → j ≤ 49 → TW X (md_ws q kz) (ciS (cl37 a) (cl99 d) j) 77 [some (.ref (q 0)), some (.int (iI a)), some (.int (iI d)), some (.int (iI (cl99 d))), some (.int (iI j))] [] from tw_S (ciS_0 _ _).symm (hl77 50 0 (by omega) (by omega))
            intro f77
            induction f77 with
            | zero => intro j h1 h2; exfalso; omega
            | succ f77 ih77 =>
              intro j h1 h2
              have hcl := cl99_rng d
              have hcn := cl37_rng a
              refine tw_iload4 C d_m_init_77 ?_
              refine tw_bipush C d_m_init_79 rfl ?_
              refine tw_icmp_ge C d_m_init_81 (by omega) (by omega) (fun u81 => ?_) (fun u81 => ?_)
              · refine tw_aload0 C d_m_init_98 ?_
                refine tw_iconst C d_m_init_99 ?_
                refine pt_m4 C d_m_init_100 ?_
                refine tw_iconst C d_m_init_103 ?_
                refine tw_istore4 C d_m_init_104 ?_
                rw [show j = 49 by omega]
                suffices hl106 : ∀ (f106 : Nat) (i : Nat), cl37 a < i + f106 → i ≤ cl37 a → 2 ≤ i → TW X (md_ws q kz) (up (ciS (cl37 a) (cl99 d) 49) 4 0 ((fac (i - 1) : Nat) : Int)) 106 [some (.ref (q 0)), some (.int (iI a)), some (.int (iI d)), some (.int (iI (cl99 d))), some (.int (iI i))] [] from hl106 (cl37 a + 1) 2 (by omega) (by omega) (by omega)
                intro f106
                induction f106 with
                | zero => intro i k1 k2 k3; exfalso; omega
                | succ f106 ih106 =>
                  intro i k1 k2 k3
                  refine tw_iload4 C d_m_init_106 ?_
                  refine tw_aload0 C d_m_init_108 ?_
                  refine g_m0 C d_m_init_109 (show _ = ((cl37 a : Nat) : Int) from rfl) ?_
                  refine tw_icmp_ge C d_m_init_112 (by omega) (by omega) (fun u112 => ?_) (fun u112 => ?_)
                  · exact tw_S (show _ = miS (cl37 a) (cl99 d) by unfold miS; rw [show i = cl37 a by omega]) (hR _ _ _ d_m_init_132)
                  · refine tw_aload0 C d_m_init_115 ?_
                    refine tw_aload0 C d_m_init_116 ?_
                    refine g_m4 C d_m_init_117 (up_s _ _ _ _) ?_
                    refine tw_iload4 C d_m_init_120 ?_
                    refine tw_imul C d_m_init_122 ?_
                    refine pt_m4 C d_m_init_123 ?_
                    refine tw_iinc4 C d_m_init_126 ?_
                    refine tw_goto C d_m_init_129 ?_
                    exact tw_S (mi_step _ k3) (ih106 (i + 1) (by omega) (by omega) (by omega))
              · refine tw_aload0 C d_m_init_84 ?_
                refine g_m1 C d_m_init_85 ?_
                refine tw_iload4 C d_m_init_88 ?_
                refine tw_iload3 C d_m_init_90 ?_
                refine as_m1 C j d_m_init_91 (by omega) (by omega) ?_
                refine tw_iinc4 C d_m_init_92 ?_
                refine tw_goto C d_m_init_95 ?_
                exact tw_S (ciS_put _ _ _).symm (ih77 (j + 1) (by omega) (by omega))
          · refine tw_bipush C d_m_init_67 rfl ?_
            refine tw_goto C d_m_init_69 ?_
            refine tw_eq (show _ = iI (cl99 d) by congr 1; unfold cl99; rw [if_neg (by omega), if_pos (by omega)]) ?_
            refine tw_istore3 C d_m_init_73 ?_
            refine tw_iconst C d_m_init_74 ?_
            refine tw_istore4 C d_m_init_75 ?_
            suffices hl77 : ∀ (f77 : Nat) (j : Nat), 49 < j + f77 → j ≤ 49 → TW X (md_ws q kz) (ciS (cl37 a) (cl99 d) j) 77 [some (.ref (q 0)), some (.int (iI a)), some (.int (iI d)), some (.int (iI (cl99 d))), some (.int (iI j))] [] from tw_S (ciS_0 _ _).symm (hl77 50 0 (by omega) (by omega))
            intro f77
            induction f77 with
            | zero => intro j h1 h2; exfalso; omega
            | succ f77 ih77 =>
              intro j h1 h2
              have hcl := cl99_rng d
              have hcn := cl37_rng a
              refine tw_iload4 C d_m_init_77 ?_
              refine tw_bipush C d_m_init_79 rfl ?_
              refine tw_icmp_ge C d_m_init_81 (by omega) (by omega) (fun u81 => ?_) (fun u81 => ?_)
              · refine tw_aload0 C d_m_init_98 ?_
                refine tw_iconst C d_m_init_99 ?_
                refine pt_m4 C d_m_init_100 ?_
                refine tw_iconst C d_m_init_103 ?_
                refine tw_istore4 C d_m_init_104 ?_
                rw [show j = 49 by omega]
                suffices hl106 : ∀ (f106 : Nat) (i : Nat), cl37 a < i + f106 → i ≤ cl37 a → 2 ≤ i → TW X (md_ws q kz) (up (ciS (cl37 a) (cl99 d) 49) 4 0 ((fac (i - 1) : Nat) : Int)) 106 [some (.ref (q 0)), some (.int (iI a)), some (.int (iI d)), some (.int (iI (cl99 d))), some (.int (iI i))] [] from hl106 (cl37 a + 1) 2 (by omega) (by omega) (by omega)
                intro f106
                induction f106 with
                | zero => intro i k1 k2 k3; exfalso; omega
                | succ f106 ih106 =>
                  intro i k1 k2 k3
                  refine tw_iload4 C d_m_init_106 ?_
                  refine tw_aload0 C d_m_init_108 ?_
                  refine g_m0 C d_m_init_109 (show _ = ((cl37 a : Nat) : Int) from rfl) ?_
                  refine tw_icmp_ge C d_m_init_112 (by omega) (by omega) (fun u112 => ?_) (fun u112 => ?_)
                  · exact tw_S (show _ = miS (cl37 a) (cl99 d) by unfold miS; rw [show i = cl37 a by omega]) (hR _ _ _ d_m_init_132)
                  · refine tw_aload0 C d_m_init_115 ?_
                    refine tw_aload0 C d_m_init_116 ?_
                    refine g_m4 C d_m_init_117 (up_s _ _ _ _) ?_
                    refine tw_iload4 C d_m_init_120 ?_
                    refine tw_imul C d_m_init_122 ?_
                    refine pt_m4 C d_m_init_123 ?_
                    refine tw_iinc4 C d_m_init_126 ?_
                    refine tw_goto C d_m_init_129 ?_
                    exact tw_S (mi_step _ k3) (ih106 (i + 1) (by omega) (by omega) (by omega))
              · refine tw_aload0 C d_m_init_84 ?_
                refine g_m1 C d_m_init_85 ?_
                refine tw_iload4 C d_m_init_88 ?_
                refine tw_iload3 C d_m_init_90 ?_
                refine as_m1 C j d_m_init_91 (by omega) (by omega) ?_
                refine tw_iinc4 C d_m_init_92 ?_
                refine tw_goto C d_m_init_95 ?_
                exact tw_S (ciS_put _ _ _).symm (ih77 (j + 1) (by omega) (by omega))
        · refine tw_iconst C d_m_init_57 ?_
          refine tw_goto C d_m_init_58 ?_
          refine tw_eq (show _ = iI (cl99 d) by congr 1; unfold cl99; rw [if_pos u54]) ?_
          refine tw_istore3 C d_m_init_73 ?_
          refine tw_iconst C d_m_init_74 ?_
          refine tw_istore4 C d_m_init_75 ?_
          suffices hl77 : ∀ (f77 : Nat) (j : Nat), 49 < j + f77 → j ≤ 49 → TW X (md_ws q kz) (ciS (cl37 a) (cl99 d) j) 77 [some (.ref (q 0)), some (.int (iI a)), some (.int (iI d)), some (.int (iI (cl99 d))), some (.int (iI j))] [] from tw_S (ciS_0 _ _).symm (hl77 50 0 (by omega) (by omega))
          intro f77
          induction f77 with
          | zero => intro j h1 h2; exfalso; omega
          | succ f77 ih77 =>
            intro j h1 h2
            have hcl := cl99_rng d
            have hcn := cl37_rng a
            refine tw_iload4 C d_m_init_77 ?_
            refine tw_bipush C d_m_init_79 rfl ?_
            refine tw_icmp_ge C d_m_init_81 (by omega) (by omega) (fun u81 => ?_) (fun u81 => ?_)
            · refine tw_aload0 C d_m_init_98 ?_
              refine tw_iconst C d_m_init_99 ?_
              refine pt_m4 C d_m_init_100 ?_
              refine tw_iconst C d_m_init_103 ?_
              refine tw_istore4 C d_m_init_104 ?_
              rw [show j = 49 by omega]
              suffices hl106 : ∀ (f106 : Nat) (i : Nat), cl37 a < i + f106 → i ≤ cl37 a → 2 ≤ i → TW X (md_ws q kz) (up (ciS (cl37 a) (cl99 d) 49) 4 0 ((fac (i - 1) : Nat) : Int)) 106 [some (.ref (q 0)), some (.int (iI a)), some (.int (iI d)), some (.int (iI (cl99 d))), some (.int (iI i))] [] from hl106 (cl37 a + 1) 2 (by omega) (by omega) (by omega)
              intro f106
              induction f106 with
              | zero => intro i k1 k2 k3; exfalso; omega
              | succ f106 ih106 =>
                intro i k1 k2 k3
                refine tw_iload4 C d_m_init_106 ?_
                refine tw_aload0 C d_m_init_108 ?_
                refine g_m0 C d_m_init_109 (show _ = ((cl37 a : Nat) : Int) from rfl) ?_
                refine tw_icmp_ge C d_m_init_112 (by omega) (by omega) (fun u112 => ?_) (fun u112 => ?_)
                · exact tw_S (show _ = miS (cl37 a) (cl99 d) by unfold miS; rw [show i = cl37 a by omega]) (hR _ _ _ d_m_init_132)
                · refine tw_aload0 C d_m_init_115 ?_
                  refine tw_aload0 C d_m_init_116 ?_
                  refine g_m4 C d_m_init_117 (up_s _ _ _ _) ?_
                  refine tw_iload4 C d_m_init_120 ?_
                  refine tw_imul C d_m_init_122 ?_
                  refine pt_m4 C d_m_init_123 ?_
                  refine tw_iinc4 C d_m_init_126 ?_
                  refine tw_goto C d_m_init_129 ?_
                  exact tw_S (mi_step _ k3) (ih106 (i + 1) (by omega) (by omega) (by omega))
            · refine tw_aload0 C d_m_init_84 ?_
              refine g_m1 C d_m_init_85 ?_
              refine tw_iload4 C d_m_init_88 ?_
              refine tw_iload3 C d_m_init_90 ?_
              refine as_m1 C j d_m_init_91 (by omega) (by omega) ?_
              refine tw_iinc4 C d_m_init_92 ?_
              refine tw_goto C d_m_init_95 ?_
              exact tw_S (ciS_put _ _ _).symm (ih77 (j + 1) (by omega) (by omega))
    · refine tw_iconst C d_m_init_34 ?_
      refine tw_goto C d_m_init_35 ?_
      refine tw_eq (show _ = iI ((cl37 a : Nat) : Int) by congr 1; unfold cl37; rw [if_pos u31]; rfl) ?_
      refine pt_m0 C d_m_init_50 ?_
      refine tw_iload2 C d_m_init_53 ?_
      refine tw_if_ge C d_m_init_54 (by omega) (fun u54 => ?_) (fun u54 => ?_)
      · refine tw_iload2 C d_m_init_61 ?_
        refine tw_bipush C d_m_init_62 rfl ?_
        refine tw_icmp_le C d_m_init_64 (by omega) (by omega) (fun u64 => ?_) (fun u64 => ?_)
        · refine tw_iload2 C d_m_init_72 ?_
          refine tw_eq (show _ = iI (cl99 d) by congr 1; unfold cl99; rw [if_neg (by omega), if_neg (by omega)]) ?_
          refine tw_istore3 C d_m_init_73 ?_
          refine tw_iconst C d_m_init_74 ?_
          refine tw_istore4 C d_m_init_75 ?_
          suffices hl77 : ∀ (f77 : Nat) (j : Nat), 49 < j + f77 → j ≤ 49 → TW X (md_ws q kz) (ciS (cl37 a) (cl99 d) j) 77 [some (.ref (q 0)), some (.int (iI a)), some (.int (iI d)), some (.int (iI (cl99 d))), some (.int (iI j))] [] from tw_S (ciS_0 _ _).symm (hl77 50 0 (by omega) (by omega))
          intro f77
          induction f77 with
          | zero => intro j h1 h2; exfalso; omega
          | succ f77 ih77 =>
            intro j h1 h2
            have hcl := cl99_rng d
            have hcn := cl37_rng a
            refine tw_iload4 C d_m_init_77 ?_
            refine tw_bipush C d_m_init_79 rfl ?_
            refine tw_icmp_ge C d_m_init_81 (by omega) (by omega) (fun u81 => ?_) (fun u81 => ?_)
            · refine tw_aload0 C d_m_init_98 ?_
              refine tw_iconst C d_m_init_99 ?_
              refine pt_m4 C d_m_init_100 ?_
              refine tw_iconst C d_m_init_103 ?_
              refine tw_istore4 C d_m_init_104 ?_
              rw [show j = 49 by omega]
              suffices hl106 : ∀ (f106 : Nat) (i : Nat), cl37 a < i + f106 → i ≤ cl37 a → 2 ≤ i → TW X (md_ws q kz) (up (ciS (cl37 a) (cl99 d) 49) 4 0 ((fac (i - 1) : Nat) : Int)) 106 [some (.ref (q 0)), some (.int (iI a)), some (.int (iI d)), some (.int (iI (cl99 d))), some (.int (iI i))] [] from hl106 (cl37 a + 1) 2 (by omega) (by omega) (by omega)
              intro f106
              induction f106 with
              | zero => intro i k1 k2 k3; exfalso; omega
              | succ f106 ih106 =>
                intro i k1 k2 k3
                refine tw_iload4 C d_m_init_106 ?_
                refine tw_aload0 C d_m_init_108 ?_
                refine g_m0 C d_m_init_109 (show _ = ((cl37 a : Nat) : Int) from rfl) ?_
                refine tw_icmp_ge C d_m_init_112 (by omega) (by omega) (fun u112 => ?_) (fun u112 => ?_)
                · exact tw_S (show _ = miS (cl37 a) (cl99 d) by unfold miS; rw [show i = cl37 a by omega]) (hR _ _ _ d_m_init_132)
                · refine tw_aload0 C d_m_init_115 ?_
                  refine tw_aload0 C d_m_init_116 ?_
                  refine g_m4 C d_m_init_117 (up_s _ _ _ _) ?_
                  refine tw_iload4 C d_m_init_120 ?_
                  refine tw_imul C d_m_init_122 ?_
                  refine pt_m4 C d_m_init_123 ?_
                  refine tw_iinc4 C d_m_init_126 ?_
                  refine tw_goto C d_m_init_129 ?_
                  exact tw_S (mi_step _ k3) (ih106 (i + 1) (by omega) (by omega) (by omega))
            · refine tw_aload0 C d_m_init_84 ?_
              refine g_m1 C d_m_init_85 ?_
              refine tw_iload4 C d_m_init_88 ?_
              refine tw_iload3 C d_m_init_90 ?_
              refine as_m1 C j d_m_init_91 (by omega) (by omega) ?_
              refine tw_iinc4 C d_m_init_92 ?_
              refine tw_goto C d_m_init_95 ?_
              exact tw_S (ciS_put _ _ _).symm (ih77 (j + 1) (by omega) (by omega))
        · refine tw_bipush C d_m_init_67 rfl ?_
          refine tw_goto C d_m_init_69 ?_
          refine tw_eq (show _ = iI (cl99 d) by congr 1; unfold cl99; rw [if_neg (by omega), if_pos (by omega)]) ?_
          refine tw_istore3 C d_m_init_73 ?_
          refine tw_iconst C d_m_init_74 ?_
          refine tw_istore4 C d_m_init_75 ?_
          suffices hl77 : ∀ (f77 : Nat) (j : Nat), 49 < j + f77 → j ≤ 49 → TW X (md_ws q kz) (ciS (cl37 a) (cl99 d) j) 77 [some (.ref (q 0)), some (.int (iI a)), some (.int (iI d)), some (.int (iI (cl99 d))), some (.int (iI j))] [] from tw_S (ciS_0 _ _).symm (hl77 50 0 (by omega) (by omega))
          intro f77
          induction f77 with
          | zero => intro j h1 h2; exfalso; omega
          | succ f77 ih77 =>
            intro j h1 h2
            have hcl := cl99_rng d
            have hcn := cl37_rng a
            refine tw_iload4 C d_m_init_77 ?_
            refine tw_bipush C d_m_init_79 rfl ?_
            refine tw_icmp_ge C d_m_init_81 (by omega) (by omega) (fun u81 => ?_) (fun u81 => ?_)
            · refine tw_aload0 C d_m_init_98 ?_
              refine tw_iconst C d_m_init_99 ?_
              refine pt_m4 C d_m_init_100 ?_
              refine tw_iconst C d_m_init_103 ?_
              refine tw_istore4 C d_m_init_104 ?_
              rw [show j = 49 by omega]
              suffices hl106 : ∀ (f106 : Nat) (i : Nat), cl37 a < i + f106 → i ≤ cl37 a → 2 ≤ i → TW X (md_ws q kz) (up (ciS (cl37 a) (cl99 d) 49) 4 0 ((fac (i - 1) : Nat) : Int)) 106 [some (.ref (q 0)), some (.int (iI a)), some (.int (iI d)), some (.int (iI (cl99 d))), some (.int (iI i))] [] from hl106 (cl37 a + 1) 2 (by omega) (by omega) (by omega)
              intro f106
              induction f106 with
              | zero => intro i k1 k2 k3; exfalso; omega
              | succ f106 ih106 =>
                intro i k1 k2 k3
                refine tw_iload4 C d_m_init_106 ?_
                refine tw_aload0 C d_m_init_108 ?_
                refine g_m0 C d_m_init_109 (show _ = ((cl37 a : Nat) : Int) from rfl) ?_
                refine tw_icmp_ge C d_m_init_112 (by omega) (by omega) (fun u112 => ?_) (fun u112 => ?_)
                · exact tw_S (show _ = miS (cl37 a) (cl99 d) by unfold miS; rw [show i = cl37 a by omega]) (hR _ _ _ d_m_init_132)
                · refine tw_aload0 C d_m_init_115 ?_
                  refine tw_aload0 C d_m_init_116 ?_
                  refine g_m4 C d_m_init_117 (up_s _ _ _ _) ?_
                  refine tw_iload4 C d_m_init_120 ?_
                  refine tw_imul C d_m_init_122 ?_
                  refine pt_m4 C d_m_init_123 ?_
                  refine tw_iinc4 C d_m_init_126 ?_
                  refine tw_goto C d_m_init_129 ?_
                  exact tw_S (mi_step _ k3) (ih106 (i + 1) (by omega) (by omega) (by omega))
            · refine tw_aload0 C d_m_init_84 ?_
              refine g_m1 C d_m_init_85 ?_
              refine tw_iload4 C d_m_init_88 ?_
              refine tw_iload3 C d_m_init_90 ?_
              refine as_m1 C j d_m_init_91 (by omega) (by omega) ?_
              refine tw_iinc4 C d_m_init_92 ?_
              refine tw_goto C d_m_init_95 ?_
              exact tw_S (ciS_put _ _ _).symm (ih77 (j + 1) (by omega) (by omega))
      · refine tw_iconst C d_m_init_57 ?_
        refine tw_goto C d_m_init_58 ?_
        refine tw_eq (show _ = iI (cl99 d) by congr 1; unfold cl99; rw [if_pos u54]) ?_
        refine tw_istore3 C d_m_init_73 ?_
        refine tw_iconst C d_m_init_74 ?_
        refine tw_istore4 C d_m_init_75 ?_
        suffices hl77 : ∀ (f77 : Nat) (j : Nat), 49 < j + f77 → j ≤ 49 → TW X (md_ws q kz) (ciS (cl37 a) (cl99 d) j) 77 [some (.ref (q 0)), some (.int (iI a)), some (.int (iI d)), some (.int (iI (cl99 d))), some (.int (iI j))] [] from tw_S (ciS_0 _ _).symm (hl77 50 0 (by omega) (by omega))
        intro f77
        induction f77 with
        | zero => intro j h1 h2; exfalso; omega
        | succ f77 ih77 =>
          intro j h1 h2
          have hcl := cl99_rng d
          have hcn := cl37_rng a
          refine tw_iload4 C d_m_init_77 ?_
          refine tw_bipush C d_m_init_79 rfl ?_
          refine tw_icmp_ge C d_m_init_81 (by omega) (by omega) (fun u81 => ?_) (fun u81 => ?_)
          · refine tw_aload0 C d_m_init_98 ?_
            refine tw_iconst C d_m_init_99 ?_
            refine pt_m4 C d_m_init_100 ?_
            refine tw_iconst C d_m_init_103 ?_
            refine tw_istore4 C d_m_init_104 ?_
            rw [show j = 49 by omega]
            suffices hl106 : ∀ (f106 : Nat) (i : Nat), cl37 a < i + f106 → i ≤ cl37 a → 2 ≤ i → TW X (md_ws q kz) (up (ciS (cl37 a) (cl99 d) 49) 4 0 ((fac (i - 1) : Nat) : Int)) 106 [some (.ref (q 0)), some (.int (iI a)), some (.int (iI d)), some (.int (iI (cl99 d))), some (.int (iI i))] [] from hl106 (cl37 a + 1) 2 (by omega) (by omega) (by omega)
            intro f106
            induction f106 with
            | zero => intro i k1 k2 k3; exfalso; omega
            | succ f106 ih106 =>
              intro i k1 k2 k3
              refine tw_iload4 C d_m_init_106 ?_
              refine tw_aload0 C d_m_init_108 ?_
              refine g_m0 C d_m_init_109 (show _ = ((cl37 a : Nat) : Int) from rfl) ?_
              refine tw_icmp_ge C d_m_init_112 (by omega) (by omega) (fun u112 => ?_) (fun u112 => ?_)
              · exact tw_S (show _ = miS (cl37 a) (cl99 d) by unfold miS; rw [show i = cl37 a by omega]) (hR _ _ _ d_m_init_132)
              · refine tw_aload0 C d_m_init_115 ?_
                refine tw_aload0 C d_m_init_116 ?_
                refine g_m4 C d_m_init_117 (up_s _ _ _ _) ?_
                refine tw_iload4 C d_m_init_120 ?_
                refine tw_imul C d_m_init_122 ?_
                refine pt_m4 C d_m_init_123 ?_
                refine tw_iinc4 C d_m_init_126 ?_
                refine tw_goto C d_m_init_129 ?_
                exact tw_S (mi_step _ k3) (ih106 (i + 1) (by omega) (by omega) (by omega))
          · refine tw_aload0 C d_m_init_84 ?_
            refine g_m1 C d_m_init_85 ?_
            refine tw_iload4 C d_m_init_88 ?_
            refine tw_iload3 C d_m_init_90 ?_
            refine as_m1 C j d_m_init_91 (by omega) (by omega) ?_
            refine tw_iinc4 C d_m_init_92 ?_
            refine tw_goto C d_m_init_95 ?_
            exact tw_S (ciS_put _ _ _).symm (ih77 (j + 1) (by omega) (by omega))
  refine key (p, l, e, _, s, m, _, below, meth, c, _, D, A, 5, 3, 105) ⟨hx, hb, hml, hown, hts, hK3, fun S => (md_ok q kz).D S hD0', rfl, Nat.le_refl _, Nat.le_refl _⟩ ?_ H locs ls hP0 hS hlo
  intro pc nx L hdc H1 locs1 ls1 hP1 hS1 hl1
  exact W.vret hx hb hr (fun t ht hW => ⟨⟨(q, kz), rfl, hq0, by rw [ht]; exact hP1, va_K.moved hW.alike hK3, (md_ok q kz).D _ hD0'⟩, hS1.F ht⟩) hS1.2.2 hdc.1
end
section
/-! ===== the law's own picture: the desk and the plain form side by side ===== -/
def jn (S M : TS) : TS := fun f => if f < 20 then S f else M (f - 20)
def wl (q q2 : Nat → Nat) (k k2 : ClassId × ClassId × ClassId) (Z : TS) : va_W := td_ws q k (fun f => Z f) ++ md_ws q2 k2 (fun f => Z (20 + f))
theorem wl_ok (q q2 : Nat → Nat) (k k2 : ClassId × ClassId × ClassId) : wOK (wl q q2 k k2) := fun _ _ => rfl
theorem wl_jn (q q2 : Nat → Nat) (k k2 : ClassId × ClassId × ClassId) (S M : TS) : wl q q2 k k2 (jn S M) = td_ws q k S ++ md_ws q2 k2 M := rfl
abbrev ty_2 (k k2 : ClassId × ClassId × ClassId) : List (ClassId × FieldType) := [(k.1, .byte), (k.2.1, .int), (k.2.2, .boolean), (k2.1, .byte), (k2.2.1, .int), (k2.2.2, .boolean)]
/-- the script, which nobody writes -/
def LX (X : CT) (b Lx : Nat) (xs : Nat → Int32) : Prop := match X with
  | (p, l, e, R, s, m, args, below, meth, c, Q, D, A, nL, cells, slots) => va_X b Lx xs s s.heap ∧ b < s.heap.size ∧ ¬ A b
section LR
variable {X : CT} {cc : ByteArray} {own : String} {rm : Room} {w : TS → va_W} {tys : List (ClassId × FieldType)} {S : TS} {pc nx tg : Nat} {L : List (Option Value)} {st rest : List Value} {b Lx : Nat} {xs : Nat → Int32}
theorem tw_slen (C : CX X cc own rm w tys) (hl9 : LX X b Lx xs) (d : DC 1 cc pc nx .arraylength) (k : TW X w S nx L (.int (iI (Lx : Int)) :: st)) : TW X w S pc L (.ref b :: st) := by
  obtain ⟨p, l, e, R, s, m, args, below, meth, c, Q, D, A, nL, cells, slots⟩ := X
  obtain ⟨hx, hb, -⟩ := C
  obtain ⟨d, rfl⟩ := d
  intro H locs ls hP hS hl
  exact va_slen hx hb hl9.1 hl9.2.1 hl9.2.2 hS d (by rw [show Int32.ofNat Lx = iI (Lx : Int) from (iI_nat Lx).symm]; exact k H locs ls hP hS hl)
theorem tw_sld (C : CX X cc own rm w tys) (hl9 : LX X b Lx xs) (j : Nat) {x : Int} (d : DC 1 cc pc nx .iaload) (hx9 : x = (j : Int)) (hj : j < Lx) (hL : Lx < 2147483648) (k : TW X w S nx L (.int (iI (xs j).toInt) :: st)) : TW X w S pc L (.int (iI x) :: .ref b :: st) := by
  obtain ⟨p, l, e, R, s, m, args, below, meth, c, Q, D, A, nL, cells, slots⟩ := X
  obtain ⟨hx, hb, -⟩ := C
  obtain ⟨d, rfl⟩ := d
  intro H locs ls hP hS hl
  subst hx9
  exact va_sld hx hb hl9.1 hl9.2.1 hl9.2.2 hS (iI_in hj hL) d (by rw [iI_clamp (by omega), ← iI_of (xs j)]; exact k H locs ls hP hS hl)
theorem tw_tabI (C : CX X cc own rm w tys) {x dflt lo hi off : Int} {offs : Array Int} {len : Nat} (d : decode cc pc = .ok (.tableswitch dflt lo hi offs, len)) (hx9 : inR x) (h1 : lo ≤ x) (h2 : x ≤ hi) (ho : offs[(x - lo).toNat]? = some off) (ht : (pc : Int) + off = (tg : Int)) (k : TW X w S tg L st) : TW X w S pc L (.int (iI x) :: st) := by
  obtain ⟨p, l, e, R, s, m, args, below, meth, c, Q, D, A, nL, cells, slots⟩ := X
  obtain ⟨hx, hb, -⟩ := C
  intro H locs ls hP hS hl
  exact lv_tableIn hx hb d (by rw [iI_toInt hx9]; omega) (by rw [iI_toInt hx9]; omega) (by rw [iI_toInt hx9]; exact ho) ht (k H locs ls hP hS hl)
theorem tw_tabO (C : CX X cc own rm w tys) {x dflt lo hi : Int} {offs : Array Int} {len : Nat} (d : decode cc pc = .ok (.tableswitch dflt lo hi offs, len)) (hx9 : inR x) (h : x < lo ∨ hi < x) (ht : (pc : Int) + dflt = (tg : Int)) (k : TW X w S tg L st) : TW X w S pc L (.int (iI x) :: st) := by
  obtain ⟨p, l, e, R, s, m, args, below, meth, c, Q, D, A, nL, cells, slots⟩ := X
  obtain ⟨hx, hb, -⟩ := C
  intro H locs ls hP hS hl
  exact lv_tableOut hx hb d (by rw [iI_toInt hx9]; exact h) ht (k H locs ls hP hS hl)
end LR
section LC
variable {X : CT} {cc : ByteArray} {own : String} {rm : Room} {q q2 : Nat → Nat} {k k2 : ClassId × ClassId × ClassId} {S M : TS} {pc nx : Nat} {L : List (Option Value)} {st rest : List Value}
theorem tw_callD (C : CX X cc own rm (wl q q2 k k2) (ty_2 k k2)) {y : MethodName} {idx : Nat} {bytes : ByteArray} {mL n : Nat} {rt : FieldType} {rm' : Room} {As : List Value} {post : Int → TS → Prop} (hM : ∀ l : Launch, MI l y bytes mL rt rm' (td_ws q k) (ty_k k) (.ref (q 0) :: As) S post) (cs : CS own idx y bytes mL (some rt) n)
    (hrm : (rm'.cells = 0 ∧ rm'.slots = 0) ∧ (rm'.frames + 1 ≤ rm.frames ∧ 8 + (mL + 11) + rm'.locals ≤ rm.locals)) (hqc : R_d = y.cls) (hn : As.length = n) (hst : st = As.reverse ++ .ref (q 0) :: rest) (hcat : (rest.map fun v => v.category).sum ≤ 8) (d : DC 3 cc pc nx (.invokevirtual idx))
    (k9 : ∀ (r : Int) (S' : TS), post r S' → TW X (wl q q2 k k2) (jn S' M) nx L (.int (iI r) :: rest)) : TW X (wl q q2 k k2) (jn S M) pc L st := by
  obtain ⟨p, l, e, R, s, m, args, below, meth, c, Q, D, A, nL, cells, slots⟩ := X
  obtain ⟨hx, hb, hml, hown, hts, hK, hD, rfl, hcs⟩ := C
  obtain ⟨d, rfl⟩ := d
  intro H locs ls hP hS hl
  have hP : va_P D classes (td_ws q k S ++ md_ws q2 k2 M) H := hP
  have hDc : va_D A (td_ws q k S ++ md_ws q2 k2 M) := hD (jn S M)
  have hPt : va_P D classes (td_ws q k S) H := hP.sub [0, 1, 2, 3, 4, 5, 6, 7, 8, 9, 10] rfl
  have hDt : va_D A (td_ws q k S) := hDc.sub [0, 1, 2, 3, 4, 5, 6, 7, 8, 9, 10] (by decide) rfl
  have hKt : va_K D classes (ty_k k) s := hK.sub [0, 1, 2] rfl
  have hA : ∀ a, wA (td_ws q k) a → A a := by
    rintro a ⟨i, e, he⟩
    obtain ⟨e', he'⟩ := (td_ok q k).at S he
    exact hDt.2 i _ he'
  have hAw : ∀ {a : Nat} {sz : Nat}, wA (td_ws q k) a → va_A (td_ws q k S) sz a := by
    rintro a sz ⟨i, e, he⟩
    obtain ⟨e', he'⟩ := (td_ok q k).at S he
    exact Or.inl ⟨i, e', he'⟩
  have hwA : ∀ a, va_A (td_ws q k S) H.size a → a < H.size → A a := by
    rintro a (⟨i, e, he⟩ | h) hlt
    · exact hDt.2 i _ he
    · omega
  have hr : va_Run p l e R s m args below meth c H locs cells slots 0 0 (F0 m pc ls st) rest (va_Qi (fun r (u : TS) => ∃ ri : Int, r = iI ri ∧ post ri u) (fun u t => va_P D classes (td_ws q k u) t.heap ∧ va_K D classes (ty_k k) t) (wA (td_ws q k)) (Value.ref (q 0) :: As).toArray) (wA (td_ws q k)) :=
    va_runV (As := As) (rest := rest) ⟨hx, hb, hml, hown, hts⟩ (hM l D) (cwV n hts cs.1 rfl hrm.1.1 hrm.1.2 cs.2 hrm.2) ⟨fun a U g mk q => by obtain ⟨q0, qP, qK, qD⟩ := q; exact ⟨q0, qP, va_K.moved (u := U) (U := U.calling g mk a) (Vm.Alike.refl U.vm) qK, qD⟩, by rw [← hqc]; exact va_recv hKt hPt (ci := 0) (q0 := 0) rfl rfl, fun U hU hW => ⟨rfl, by rw [hU]; exact hPt, va_K.moved hW.alike hKt, hDt.weaken (fun _ _ _ _ => trivial)⟩⟩ rfl hn hl.1 hst (lv_room hcat) d hcs
  refine va_calli hr hS (fun q _ h => hA q h) hA (fun r u t H1 locs1 ht hvm hw hB hz1 hk1 hS1 => ?_)
  obtain ⟨ri, rfl, hp⟩ := hw
  have hPm : va_P D classes (md_ws q2 k2 M) H1 := by
    intro i z hz
    have hi : (td_ws q k S ++ md_ws q2 k2 M)[11 + i]? = some z := by
      rw [List.getElem?_append_right (by show 11 ≤ 11 + i; omega)]
      rw [show 11 + i - (td_ws q k S).length = i by show 11 + i - 11 = i; omega]; exact hz
    have hat := hP (11 + i) z hi
    refine hat.kept (hk1 z.1 hat.lt ?_)
    rintro ⟨i', e, he⟩
    obtain ⟨e', he'⟩ := (td_ok q k).at S he
    have hlt : i' < 11 := (List.getElem?_eq_some_iff.mp he').1
    have := hDc.1 i' (11 + i) (z.1, e') z (by rw [List.getElem?_append_left (by show i' < 11; exact hlt)]; exact he') hi rfl
    omega
  have hP2 : va_P D classes (td_ws q k u ++ md_ws q2 k2 M) H1 := va_P.app (by rw [← ht]; exact hB.1) hPm
  exact k9 ri u hp H1 locs1 ls hP2 hS1 hl
theorem tw_callM (C : CX X cc own rm (wl q q2 k k2) (ty_2 k k2)) {y : MethodName} {idx : Nat} {bytes : ByteArray} {mL n : Nat} {rt : FieldType} {rm' : Room} {As : List Value} {post : Int → TS → Prop} (hM : ∀ l : Launch, MI l y bytes mL rt rm' (md_ws q2 k2) (ty_k k2) (.ref (q2 0) :: As) M post) (cs : CS own idx y bytes mL (some rt) n)
    (hrm : (rm'.cells = 0 ∧ rm'.slots = 0) ∧ (rm'.frames + 1 ≤ rm.frames ∧ 8 + (mL + 11) + rm'.locals ≤ rm.locals)) (hqc : R_m = y.cls) (hn : As.length = n) (hst : st = As.reverse ++ .ref (q2 0) :: rest) (hcat : (rest.map fun v => v.category).sum ≤ 8) (d : DC 3 cc pc nx (.invokevirtual idx))
    (k9 : ∀ (r : Int) (M' : TS), post r M' → TW X (wl q q2 k k2) (jn S M') nx L (.int (iI r) :: rest)) : TW X (wl q q2 k k2) (jn S M) pc L st := by
  obtain ⟨p, l, e, R, s, m, args, below, meth, c, Q, D, A, nL, cells, slots⟩ := X
  obtain ⟨hx, hb, hml, hown, hts, hK, hD, rfl, hcs⟩ := C
  obtain ⟨d, rfl⟩ := d
  intro H locs ls hP hS hl
  have hP : va_P D classes (td_ws q k S ++ md_ws q2 k2 M) H := hP
  have hDc : va_D A (td_ws q k S ++ md_ws q2 k2 M) := hD (jn S M)
  have hPt : va_P D classes (md_ws q2 k2 M) H := hP.sub [11, 12, 13, 14] rfl
  have hDt : va_D A (md_ws q2 k2 M) := hDc.sub [11, 12, 13, 14] (by decide) rfl
  have hKt : va_K D classes (ty_k k2) s := hK.sub [3, 4, 5] rfl
  have hA : ∀ a, wA (md_ws q2 k2) a → A a := by
    rintro a ⟨i, e, he⟩
    obtain ⟨e', he'⟩ := (md_ok q2 k2).at M he
    exact hDt.2 i _ he'
  have hr : va_Run p l e R s m args below meth c H locs cells slots 0 0 (F0 m pc ls st) rest (va_Qi (fun r (u : TS) => ∃ ri : Int, r = iI ri ∧ post ri u) (fun u t => va_P D classes (md_ws q2 k2 u) t.heap ∧ va_K D classes (ty_k k2) t) (wA (md_ws q2 k2)) (Value.ref (q2 0) :: As).toArray) (wA (md_ws q2 k2)) :=
    va_runV (As := As) (rest := rest) ⟨hx, hb, hml, hown, hts⟩ (hM l D) (cwV n hts cs.1 rfl hrm.1.1 hrm.1.2 cs.2 hrm.2) ⟨fun a U g mk q => by obtain ⟨q0, qP, qK, qD⟩ := q; exact ⟨q0, qP, va_K.moved (u := U) (U := U.calling g mk a) (Vm.Alike.refl U.vm) qK, qD⟩, by rw [← hqc]; exact va_recv hKt hPt (ci := 1) (q0 := 0) rfl rfl, fun U hU hW => ⟨rfl, by rw [hU]; exact hPt, va_K.moved hW.alike hKt, hDt.weaken (fun _ _ _ _ => trivial)⟩⟩ rfl hn hl.1 hst (lv_room hcat) d hcs
  refine va_calli hr hS (fun q _ h => hA q h) hA (fun r u t H1 locs1 ht hvm hw hB hz1 hk1 hS1 => ?_)
  obtain ⟨ri, rfl, hp⟩ := hw
  have hPm : va_P D classes (td_ws q k S) H1 := by
    intro i z hz
    have hlt : i < 11 := (List.getElem?_eq_some_iff.mp hz).1
    have hi : (td_ws q k S ++ md_ws q2 k2 M)[i]? = some z := by
      rw [List.getElem?_append_left (by show i < 11; exact hlt)]; exact hz
    have hat := hP i z hi
    refine hat.kept (hk1 z.1 hat.lt ?_)
    rintro ⟨i', e, he⟩
    obtain ⟨e', he'⟩ := (md_ok q2 k2).at M he
    have hi' : (td_ws q k S ++ md_ws q2 k2 M)[11 + i']? = some (z.1, e') := by
      rw [List.getElem?_append_right (by show 11 ≤ 11 + i'; omega)]
      rw [show 11 + i' - (td_ws q k S).length = i' by show 11 + i' - 11 = i'; omega]; exact he'
    have := hDc.1 i (11 + i') z (z.1, e') hi hi' rfl
    omega
  have hP2 : va_P D classes (td_ws q k S ++ md_ws q2 k2 u) H1 := va_P.app hPm (by rw [← ht]; exact hB.1)
  exact k9 ri u hp H1 locs1 ls hP2 hS1 hl
end LC
/-! ===== the law's invariant, and what each call keeps ===== -/
def LI (n : Nat) (S M : TS) : Prop := TDI n S ∧ MD0 n M ∧ S 1 = M 1 ∧ S 2 = M 2
section LQ
variable {n : Nat} {S M S' M' : TS}
theorem LI.q (h : LI n S M) (h1 : TDI n S' ∧ S' 1 = S 1 ∧ S' 2 = S 2) (h2 : mF M M') : LI n S' M' :=
  ⟨h1.1, h.2.1.keep h2, by rw [h1.2.1, h2 1 (by decide)]; exact h.2.2.1, by rw [h1.2.2, h2 2 (by decide)]; exact h.2.2.2⟩
theorem law_len (h : LI n S M) {a b d r r' : Int} (h1 : (r = 0 ∧ S' = S ∧ ¬ (lkI n a b ∧ (0 ≤ d ∧ d ≤ 99))) ∨ (r = 1 ∧ ∃ x y, lkE n a b x y ∧ (0 ≤ d ∧ d ≤ 99) ∧ S' = putS S x y d)) (h2 : (r' = 0 ∧ M' = M ∧ ¬ (lkI n a b ∧ (0 ≤ d ∧ d ≤ 99))) ∨ (r' = 1 ∧ ∃ x y, lkE n a b x y ∧ (0 ≤ d ∧ d ≤ 99) ∧ M' = mpS M 1 x y d)) : r = r' ∧ LI n S' M' ∧ (0 ≤ r ∧ r ≤ 1) := by
  rcases h1 with ⟨rfl, rfl, h3⟩ | ⟨rfl, x, y, h3, h4, rfl⟩
  · rcases h2 with ⟨rfl, rfl, g3⟩ | ⟨rfl, x, y, g3, g4, rfl⟩
    · exact ⟨rfl, h, by decide⟩
    · exact absurd ⟨g3.i, g4⟩ h3
  · rcases h2 with ⟨rfl, rfl, g3⟩ | ⟨rfl, x', y', g3, g4, rfl⟩
    · exact absurd ⟨h3.i, h4⟩ g3
    · have e1 : x' = x := by unfold lkE at h3 g3; omega
      have e2 : y' = y := by unfold lkE at h3 g3; omega
      subst e1; subst e2
      obtain ⟨p1, p2, p3⟩ := put_TDI h.1 h3.1 h3.2.1 h4
      obtain ⟨m1, m2, m3⟩ := mp1_MD h.2.1 h3.1 h3.2.1 h4
      exact ⟨rfl, ⟨p1, m1, by rw [p2, m2, h.2.2.1], by rw [p3, m3, h.2.2.2]⟩, by decide⟩
theorem law_rul (h : LI n S M) {a b d r r' : Int} (h1 : (r = 0 ∧ S' = S ∧ ¬ (lkI n a b ∧ (0 ≤ d ∧ d ≤ 2))) ∨ (r = 1 ∧ ∃ x y, lkE n a b x y ∧ (0 ≤ d ∧ d ≤ 2) ∧ S' = ruS S x y d)) (h2 : (r' = 0 ∧ M' = M ∧ ¬ (lkI n a b ∧ (0 ≤ d ∧ d ≤ 2))) ∨ (r' = 1 ∧ ∃ x y, lkE n a b x y ∧ (0 ≤ d ∧ d ≤ 2) ∧ M' = mpS M 2 x y d)) : r = r' ∧ LI n S' M' ∧ (0 ≤ r ∧ r ≤ 1) := by
  rcases h1 with ⟨rfl, rfl, h3⟩ | ⟨rfl, x, y, h3, h4, rfl⟩
  · rcases h2 with ⟨rfl, rfl, g3⟩ | ⟨rfl, x, y, g3, g4, rfl⟩
    · exact ⟨rfl, h, by decide⟩
    · exact absurd ⟨g3.i, g4⟩ h3
  · rcases h2 with ⟨rfl, rfl, g3⟩ | ⟨rfl, x', y', g3, g4, rfl⟩
    · exact absurd ⟨h3.i, h4⟩ g3
    · have e1 : x' = x := by unfold lkE at h3 g3; omega
      have e2 : y' = y := by unfold lkE at h3 g3; omega
      subst e1; subst e2
      obtain ⟨p1, p2, p3⟩ := ru_TDI h.1 h3.1 h3.2.1 h4
      obtain ⟨m1, m2, m3⟩ := mp2_MD h.2.1 h3.1 h3.2.1 h4
      exact ⟨rfl, ⟨p1, m1, by rw [p2, m2, h.2.2.1], by rw [p3, m3, h.2.2.2]⟩, by decide⟩
theorem law_shi (h : LI n S M) {a d r r' : Int} (h1 : (r = -1 ∧ S' = S ∧ ¬ ((0 ≤ a ∧ a < n) ∧ (-99 ≤ d ∧ d ≤ 99))) ∨ ∃ x : Nat, x < n ∧ a = (x : Int) ∧ (-99 ≤ d ∧ d ≤ 99) ∧ r = (sh (S 1) x d n).2 ∧ S' = shS S x d n) (h2 : (r' = -1 ∧ M' = M ∧ ¬ ((0 ≤ a ∧ a < n) ∧ (-99 ≤ d ∧ d ≤ 99))) ∨ ∃ x : Nat, x < n ∧ a = (x : Int) ∧ (-99 ≤ d ∧ d ≤ 99) ∧ r' = (sh (M 1) x d n).2 ∧ M' = mshS M x d n) : r = r' ∧ LI n S' M' ∧ (-1 ≤ r ∧ r ≤ 7) := by
  rcases h1 with ⟨rfl, rfl, h3⟩ | ⟨x, h3, h4, h5, h6, rfl⟩
  · rcases h2 with ⟨rfl, rfl, g3⟩ | ⟨x, g3, g4, g5, g6, rfl⟩
    · exact ⟨rfl, h, by decide⟩
    · exact absurd ⟨by omega, g5⟩ h3
  · rcases h2 with ⟨rfl, rfl, g3⟩ | ⟨x', g3, g4, g5, g6, rfl⟩
    · exact absurd ⟨by omega, h5⟩ g3
    · have e1 : x' = x := by omega
      subst e1
      obtain ⟨p1, p2, p3⟩ := sh_TDI h.1 h3 d
      obtain ⟨m1, m2, m3⟩ := msh_MD h.2.1 h3 d (Nat.le_refl n)
      have o := sh_ok h.1.1.2.1.2 h3 d h.1.1.2.2.1 h.1.1.2.2.2.2.1 n (Nat.le_refl n)
      have h7 := h.1.1.2.1.2
      exact ⟨by rw [h6, g6, h.2.2.1], ⟨p1, m1, by rw [p2, m2, h.2.2.1], by rw [p3, m3, h.2.2.2]⟩, by omega⟩
theorem law_get (h : LI n S M) {f : Nat} (hf : f = 1 ∨ f = 2) {a b r r' : Int} (h1 : S' = S ∧ ((¬ lkI n a b ∧ r = -1) ∨ ∃ x y, lkE n a b x y ∧ r = S f (x * 7 + y))) (h2 : M' = M ∧ ((¬ lkI n a b ∧ r' = -1) ∨ ∃ x y, lkE n a b x y ∧ r' = M f (x * 7 + y))) : r = r' ∧ LI n S' M' ∧ (-1 ≤ r ∧ r ≤ 99) := by
  have ef : S f = M f := by rcases hf with rfl | rfl; exact h.2.2.1; exact h.2.2.2
  have er : ∀ j, 0 ≤ S f j ∧ S f j ≤ 99 := fun j => by
    rcases hf with rfl | rfl
    · exact h.1.1.2.2.1 j
    · have := h.1.1.2.2.2.1 j; omega
  obtain ⟨rfl, h1⟩ := h1
  obtain ⟨rfl, h2⟩ := h2
  rcases h1 with ⟨h3, rfl⟩ | ⟨x, y, h3, h4⟩
  · rcases h2 with ⟨g3, rfl⟩ | ⟨x, y, g3, g4⟩
    · exact ⟨rfl, h, by decide⟩
    · exact absurd g3.i h3
  · rcases h2 with ⟨g3, rfl⟩ | ⟨x', y', g3, g4⟩
    · exact absurd h3.i g3
    · have e1 : x' = x := by unfold lkE at h3 g3; omega
      have e2 : y' = y := by unfold lkE at h3 g3; omega
      subst e1; subst e2
      have := er (x' * 7 + y')
      exact ⟨by rw [h4, g4, ef], h, by omega⟩
theorem caP.rng {M0 R0 : Nat → Int} {k r : Int} (h7 : n ≤ 7) (h : caP n M0 R0 k r) : -1 ≤ r ∧ r ≤ 7 := by
  rcases h with ⟨h1, -⟩ | ⟨i, c, h1, -, h3, h4⟩
  · omega
  · have := h3.1.2.2.1 i h1; omega
theorem nbP.rng {M0 R0 : Nat → Int} {a r : Int} (h : nbP n M0 R0 a r) : 0 ≤ r ∧ r ≤ 128 := by
  rcases h with ⟨h1, -⟩ | ⟨x, m, o, -, -, h3, h4, -⟩ <;> omega
theorem lmP.rng {M0 R0 : Nat → Int} {a b r : Int} (h : lmP n M0 R0 a b r) : -1 ≤ r ∧ r ≤ 99 := by
  obtain ⟨w, -, h⟩ := h
  rcases h with ⟨-, h⟩ | ⟨-, wo, -, x, y, -, h⟩
  · omega
  · rw [h]
    unfold limF
    by_cases q : wo < 0 ∨ 99 < wo - (w - M0 (x * 7 + y))
    · rw [if_pos q]; decide
    · rw [if_neg q]
      by_cases q2 : wo < w - M0 (x * 7 + y)
      · rw [if_pos q2]; decide
      · rw [if_neg q2]; omega
end LQ
end
section
set_option maxRecDepth 20000 in
/-- THE LAW'S LOOP: at its head the desk and the plain form hold the same map -/
theorem law_loop {X : CT} {q q2 : Nat → Nat} {k k2 : ClassId × ClassId × ClassId} {b Lx n : Nat} {xs : Nat → Int32} (C : CX X code R_law room_1 (wl q q2 k k2) (ty_2 k k2)) (hX : LX X b Lx xs) (hLx : Lx ≤ 2050)
    (hR : ∀ (Z : TS) (pc nx : Nat) (L : List (Option Value)), DC 1 code pc nx .ireturn → TW X (wl q q2 k k2) Z pc L [.int (iI 1)]) : ∀ (f i : Nat) (S M : TS), Lx + 4 < i + f → i ≤ Lx + 4 → LI n S M → TW X (wl q q2 k k2) (jn S M) 38 [some (.ref b), some (.ref (q 0)), some (.ref (q2 0)), some (.int (iI (i : Int)))] [] := by
  intro f
  induction f with
  | zero => intro i S M h1 h2; exfalso; omega
  | succ f ih =>
    intro i S M h1 h2 hI
    have hT := hI.1
    have hM0 := hI.2.1
    have h7 := hT.1.2.1.2
    refine tw_iload3 C d_l_law_38 ?_
    refine tw_aload0 C d_l_law_39 ?_
    refine tw_slen C hX d_l_law_40 ?_
    refine tw_iconst C d_l_law_41 ?_
    refine tw_isub C d_l_law_42 ?_
    refine tw_icmp_gt C d_l_law_43 (by omega) (by omega) (fun u43 => ?_) (fun u43 => ?_)
    · refine tw_iconst C d_l_law_461 ?_
      exact hR _ _ _ _ d_l_law_462
    refine tw_aload0 C d_l_law_46 ?_
    refine tw_iload3 C d_l_law_47 ?_
    refine tw_sld C hX i d_l_law_48 (by omega) (by omega) (by omega) ?_
    refine tw_bipush C d_l_law_49 rfl ?_
    obtain ⟨w0, hw0, ew0⟩ := pk_andE (iI (xs i).toInt) (m := iI 15) 4 (by decide)
    refine tw_iand C d_l_law_51 (show _ = iI (w0 : Int) by rw [ew0, iI_nat]) ?_
    have hr0 := iI_inR (xs i)
    have hr1 := iI_inR (xs (i + 1))
    have hr2 := iI_inR (xs (i + 2))
    have hr3 := iI_inR (xs (i + 3))
    have hcase : w0 = 0 ∨ w0 = 1 ∨ w0 = 2 ∨ w0 = 3 ∨ w0 = 4 ∨ w0 = 5 ∨ w0 = 6 ∨ w0 = 7 ∨ w0 = 8 ∨ w0 = 9 ∨ w0 = 10 ∨ 11 ≤ w0 := by omega
    rcases hcase with rfl | rfl | rfl | rfl | rfl | rfl | rfl | rfl | rfl | rfl | rfl | hbig
    · refine tw_tabI (off := 60) (tg := 112) C d_l_law_52 (by omega) (by omega) (by omega) (by decide) (by decide) ?_
      refine tw_aload1 C d_l_law_112 ?_
      refine tw_aload0 C d_l_law_113 ?_
      refine tw_iload3 C d_l_law_114 ?_
      refine tw_iconst C d_l_law_115 ?_
      refine tw_iadd C d_l_law_116 ?_
      refine tw_sld C hX (i + 1) d_l_law_117 (by omega) (by omega) (by omega) ?_
      refine tw_aload0 C d_l_law_118 ?_
      refine tw_iload3 C d_l_law_119 ?_
      refine tw_iconst C d_l_law_120 ?_
      refine tw_iadd C d_l_law_121 ?_
      refine tw_sld C hX (i + 2) d_l_law_122 (by omega) (by omega) (by omega) ?_
      refine tw_aload0 C d_l_law_123 ?_
      refine tw_iload3 C d_l_law_124 ?_
      refine tw_iconst C d_l_law_125 ?_
      refine tw_iadd C d_l_law_126 ?_
      refine tw_sld C hX (i + 3) d_l_law_127 (by omega) (by omega) (by omega) ?_
      refine tw_callD C (c_d_setLength (S := S) (n := n) (a := (xs (i + 1)).toInt) (b := (xs (i + 2)).toInt) (d := (xs (i + 3)).toInt) hT hr1 hr2 hr3) cs_l_d_setLength ⟨⟨rfl, rfl⟩, by decide, by decide⟩ rfl rfl rfl (Nat.le_of_ble_eq_true rfl) d_l_law_128 (fun rD zD hpD => ?_)
      refine tw_aload2 C d_l_law_131 ?_
      refine tw_aload0 C d_l_law_132 ?_
      refine tw_iload3 C d_l_law_133 ?_
      refine tw_iconst C d_l_law_134 ?_
      refine tw_iadd C d_l_law_135 ?_
      refine tw_sld C hX (i + 1) d_l_law_136 (by omega) (by omega) (by omega) ?_
      refine tw_aload0 C d_l_law_137 ?_
      refine tw_iload3 C d_l_law_138 ?_
      refine tw_iconst C d_l_law_139 ?_
      refine tw_iadd C d_l_law_140 ?_
      refine tw_sld C hX (i + 2) d_l_law_141 (by omega) (by omega) (by omega) ?_
      refine tw_aload0 C d_l_law_142 ?_
      refine tw_iload3 C d_l_law_143 ?_
      refine tw_iconst C d_l_law_144 ?_
      refine tw_iadd C d_l_law_145 ?_
      refine tw_sld C hX (i + 3) d_l_law_146 (by omega) (by omega) (by omega) ?_
      refine tw_callM C (c_m_setLength (S := M) (n := n) (a := (xs (i + 1)).toInt) (b := (xs (i + 2)).toInt) (d := (xs (i + 3)).toInt) hM0 hr1 hr2 hr3) cs_l_m_setLength ⟨⟨rfl, rfl⟩, by decide, by decide⟩ rfl rfl rfl (Nat.le_of_ble_eq_true rfl) d_l_law_147 (fun rM zM hpM => ?_)
      obtain ⟨he, hI2, hrg⟩ := law_len hI hpD hpM
      refine tw_icmp_eq C d_l_law_150 (by omega) (by omega) (fun _ => ?_) (fun h => absurd he h)
      refine tw_iinc3 C d_l_law_455 ?_
      refine tw_goto C d_l_law_458 ?_
      exact ih (i + 4) zD zM (by omega) (by omega) hI2
    · refine tw_tabI (off := 103) (tg := 155) C d_l_law_52 (by omega) (by omega) (by omega) (by decide) (by decide) ?_
      refine tw_aload1 C d_l_law_155 ?_
      refine tw_aload0 C d_l_law_156 ?_
      refine tw_iload3 C d_l_law_157 ?_
      refine tw_iconst C d_l_law_158 ?_
      refine tw_iadd C d_l_law_159 ?_
      refine tw_sld C hX (i + 1) d_l_law_160 (by omega) (by omega) (by omega) ?_
      refine tw_aload0 C d_l_law_161 ?_
      refine tw_iload3 C d_l_law_162 ?_
      refine tw_iconst C d_l_law_163 ?_
      refine tw_iadd C d_l_law_164 ?_
      refine tw_sld C hX (i + 2) d_l_law_165 (by omega) (by omega) (by omega) ?_
      refine tw_aload0 C d_l_law_166 ?_
      refine tw_iload3 C d_l_law_167 ?_
      refine tw_iconst C d_l_law_168 ?_
      refine tw_iadd C d_l_law_169 ?_
      refine tw_sld C hX (i + 3) d_l_law_170 (by omega) (by omega) (by omega) ?_
      refine tw_callD C (c_d_setRule (S := S) (n := n) (a := (xs (i + 1)).toInt) (b := (xs (i + 2)).toInt) (d := (xs (i + 3)).toInt) hT hr1 hr2 hr3) cs_l_d_setRule ⟨⟨rfl, rfl⟩, by decide, by decide⟩ rfl rfl rfl (Nat.le_of_ble_eq_true rfl) d_l_law_171 (fun rD zD hpD => ?_)
      refine tw_aload2 C d_l_law_174 ?_
      refine tw_aload0 C d_l_law_175 ?_
      refine tw_iload3 C d_l_law_176 ?_
      refine tw_iconst C d_l_law_177 ?_
      refine tw_iadd C d_l_law_178 ?_
      refine tw_sld C hX (i + 1) d_l_law_179 (by omega) (by omega) (by omega) ?_
      refine tw_aload0 C d_l_law_180 ?_
      refine tw_iload3 C d_l_law_181 ?_
      refine tw_iconst C d_l_law_182 ?_
      refine tw_iadd C d_l_law_183 ?_
      refine tw_sld C hX (i + 2) d_l_law_184 (by omega) (by omega) (by omega) ?_
      refine tw_aload0 C d_l_law_185 ?_
      refine tw_iload3 C d_l_law_186 ?_
      refine tw_iconst C d_l_law_187 ?_
      refine tw_iadd C d_l_law_188 ?_
      refine tw_sld C hX (i + 3) d_l_law_189 (by omega) (by omega) (by omega) ?_
      refine tw_callM C (c_m_setRule (S := M) (n := n) (a := (xs (i + 1)).toInt) (b := (xs (i + 2)).toInt) (d := (xs (i + 3)).toInt) hM0 hr1 hr2 hr3) cs_l_m_setRule ⟨⟨rfl, rfl⟩, by decide, by decide⟩ rfl rfl rfl (Nat.le_of_ble_eq_true rfl) d_l_law_190 (fun rM zM hpM => ?_)
      obtain ⟨he, hI2, hrg⟩ := law_rul hI hpD hpM
      refine tw_icmp_eq C d_l_law_193 (by omega) (by omega) (fun _ => ?_) (fun h => absurd he h)
      refine tw_iinc3 C d_l_law_455 ?_
      refine tw_goto C d_l_law_458 ?_
      exact ih (i + 4) zD zM (by omega) (by omega) hI2
    · refine tw_tabI (off := 146) (tg := 198) C d_l_law_52 (by omega) (by omega) (by omega) (by decide) (by decide) ?_
      refine tw_aload1 C d_l_law_198 ?_
      refine tw_aload0 C d_l_law_199 ?_
      refine tw_iload3 C d_l_law_200 ?_
      refine tw_iconst C d_l_law_201 ?_
      refine tw_iadd C d_l_law_202 ?_
      refine tw_sld C hX (i + 1) d_l_law_203 (by omega) (by omega) (by omega) ?_
      refine tw_aload0 C d_l_law_204 ?_
      refine tw_iload3 C d_l_law_205 ?_
      refine tw_iconst C d_l_law_206 ?_
      refine tw_iadd C d_l_law_207 ?_
      refine tw_sld C hX (i + 2) d_l_law_208 (by omega) (by omega) (by omega) ?_
      refine tw_callD C (c_d_shift (S := S) (n := n) (a := (xs (i + 1)).toInt) (d := (xs (i + 2)).toInt) hT hr1 hr2) cs_l_d_shift ⟨⟨rfl, rfl⟩, by decide, by decide⟩ rfl rfl rfl (Nat.le_of_ble_eq_true rfl) d_l_law_209 (fun rD zD hpD => ?_)
      refine tw_aload2 C d_l_law_212 ?_
      refine tw_aload0 C d_l_law_213 ?_
      refine tw_iload3 C d_l_law_214 ?_
      refine tw_iconst C d_l_law_215 ?_
      refine tw_iadd C d_l_law_216 ?_
      refine tw_sld C hX (i + 1) d_l_law_217 (by omega) (by omega) (by omega) ?_
      refine tw_aload0 C d_l_law_218 ?_
      refine tw_iload3 C d_l_law_219 ?_
      refine tw_iconst C d_l_law_220 ?_
      refine tw_iadd C d_l_law_221 ?_
      refine tw_sld C hX (i + 2) d_l_law_222 (by omega) (by omega) (by omega) ?_
      refine tw_callM C (c_m_shift (S := M) (n := n) (a := (xs (i + 1)).toInt) (d := (xs (i + 2)).toInt) hM0 hr1 hr2) cs_l_m_shift ⟨⟨rfl, rfl⟩, by decide, by decide⟩ rfl rfl rfl (Nat.le_of_ble_eq_true rfl) d_l_law_223 (fun rM zM hpM => ?_)
      obtain ⟨he, hI2, hrg⟩ := law_shi hI hpD hpM
      refine tw_icmp_eq C d_l_law_226 (by omega) (by omega) (fun _ => ?_) (fun h => absurd he h)
      refine tw_iinc3 C d_l_law_455 ?_
      refine tw_goto C d_l_law_458 ?_
      exact ih (i + 4) zD zM (by omega) (by omega) hI2
    · refine tw_tabI (off := 179) (tg := 231) C d_l_law_52 (by omega) (by omega) (by omega) (by decide) (by decide) ?_
      refine tw_aload1 C d_l_law_231 ?_
      refine tw_aload0 C d_l_law_232 ?_
      refine tw_iload3 C d_l_law_233 ?_
      refine tw_iconst C d_l_law_234 ?_
      refine tw_iadd C d_l_law_235 ?_
      refine tw_sld C hX (i + 1) d_l_law_236 (by omega) (by omega) (by omega) ?_
      refine tw_aload0 C d_l_law_237 ?_
      refine tw_iload3 C d_l_law_238 ?_
      refine tw_iconst C d_l_law_239 ?_
      refine tw_iadd C d_l_law_240 ?_
      refine tw_sld C hX (i + 2) d_l_law_241 (by omega) (by omega) (by omega) ?_
      refine tw_callD C (c_d_length (S := S) (n := n) (a := (xs (i + 1)).toInt) (b := (xs (i + 2)).toInt) hT hr1 hr2) cs_l_d_length ⟨⟨rfl, rfl⟩, by decide, by decide⟩ rfl rfl rfl (Nat.le_of_ble_eq_true rfl) d_l_law_242 (fun rD zD hpD => ?_)
      refine tw_aload2 C d_l_law_245 ?_
      refine tw_aload0 C d_l_law_246 ?_
      refine tw_iload3 C d_l_law_247 ?_
      refine tw_iconst C d_l_law_248 ?_
      refine tw_iadd C d_l_law_249 ?_
      refine tw_sld C hX (i + 1) d_l_law_250 (by omega) (by omega) (by omega) ?_
      refine tw_aload0 C d_l_law_251 ?_
      refine tw_iload3 C d_l_law_252 ?_
      refine tw_iconst C d_l_law_253 ?_
      refine tw_iadd C d_l_law_254 ?_
      refine tw_sld C hX (i + 2) d_l_law_255 (by omega) (by omega) (by omega) ?_
      refine tw_callM C (c_m_length (S := M) (n := n) (a := (xs (i + 1)).toInt) (b := (xs (i + 2)).toInt) hM0 hr1 hr2) cs_l_m_length ⟨⟨rfl, rfl⟩, by decide, by decide⟩ rfl rfl rfl (Nat.le_of_ble_eq_true rfl) d_l_law_256 (fun rM zM hpM => ?_)
      obtain ⟨he, hI2, hrg⟩ := law_get hI (Or.inl rfl) hpD hpM
      refine tw_icmp_eq C d_l_law_259 (by omega) (by omega) (fun _ => ?_) (fun h => absurd he h)
      refine tw_iinc3 C d_l_law_455 ?_
      refine tw_goto C d_l_law_458 ?_
      exact ih (i + 4) zD zM (by omega) (by omega) hI2
    · refine tw_tabI (off := 212) (tg := 264) C d_l_law_52 (by omega) (by omega) (by omega) (by decide) (by decide) ?_
      refine tw_aload1 C d_l_law_264 ?_
      refine tw_aload0 C d_l_law_265 ?_
      refine tw_iload3 C d_l_law_266 ?_
      refine tw_iconst C d_l_law_267 ?_
      refine tw_iadd C d_l_law_268 ?_
      refine tw_sld C hX (i + 1) d_l_law_269 (by omega) (by omega) (by omega) ?_
      refine tw_aload0 C d_l_law_270 ?_
      refine tw_iload3 C d_l_law_271 ?_
      refine tw_iconst C d_l_law_272 ?_
      refine tw_iadd C d_l_law_273 ?_
      refine tw_sld C hX (i + 2) d_l_law_274 (by omega) (by omega) (by omega) ?_
      refine tw_callD C (c_d_rule (S := S) (n := n) (a := (xs (i + 1)).toInt) (b := (xs (i + 2)).toInt) hT hr1 hr2) cs_l_d_rule ⟨⟨rfl, rfl⟩, by decide, by decide⟩ rfl rfl rfl (Nat.le_of_ble_eq_true rfl) d_l_law_275 (fun rD zD hpD => ?_)
      refine tw_aload2 C d_l_law_278 ?_
      refine tw_aload0 C d_l_law_279 ?_
      refine tw_iload3 C d_l_law_280 ?_
      refine tw_iconst C d_l_law_281 ?_
      refine tw_iadd C d_l_law_282 ?_
      refine tw_sld C hX (i + 1) d_l_law_283 (by omega) (by omega) (by omega) ?_
      refine tw_aload0 C d_l_law_284 ?_
      refine tw_iload3 C d_l_law_285 ?_
      refine tw_iconst C d_l_law_286 ?_
      refine tw_iadd C d_l_law_287 ?_
      refine tw_sld C hX (i + 2) d_l_law_288 (by omega) (by omega) (by omega) ?_
      refine tw_callM C (c_m_rule (S := M) (n := n) (a := (xs (i + 1)).toInt) (b := (xs (i + 2)).toInt) hM0 hr1 hr2) cs_l_m_rule ⟨⟨rfl, rfl⟩, by decide, by decide⟩ rfl rfl rfl (Nat.le_of_ble_eq_true rfl) d_l_law_289 (fun rM zM hpM => ?_)
      obtain ⟨he, hI2, hrg⟩ := law_get hI (Or.inr rfl) hpD hpM
      refine tw_icmp_eq C d_l_law_292 (by omega) (by omega) (fun _ => ?_) (fun h => absurd he h)
      refine tw_iinc3 C d_l_law_455 ?_
      refine tw_goto C d_l_law_458 ?_
      exact ih (i + 4) zD zM (by omega) (by omega) hI2
    · refine tw_tabI (off := 245) (tg := 297) C d_l_law_52 (by omega) (by omega) (by omega) (by decide) (by decide) ?_
      refine tw_aload1 C d_l_law_297 ?_
      refine tw_callD C (c_d_best (S := S) (n := n)  hT ) cs_l_d_best ⟨⟨rfl, rfl⟩, by decide, by decide⟩ rfl rfl rfl (Nat.le_of_ble_eq_true rfl) d_l_law_298 (fun rD zD hpD => ?_)
      refine tw_aload2 C d_l_law_301 ?_
      refine tw_callM C (c_m_best (S := M) (n := n)  hM0 ) cs_l_m_best ⟨⟨rfl, rfl⟩, by decide, by decide⟩ rfl rfl rfl (Nat.le_of_ble_eq_true rfl) d_l_law_302 (fun rM zM hpM => ?_)
      have hD3 := hpD.2.2.2
      have hM3 := hpM.2
      rw [← hI.2.2.1, ← hI.2.2.2] at hM3
      have he : rD = rM := OptP.uniq hD3 hM3
      have hrg := OptP.rng h7 hT.1.2.2.1 hD3
      have hI2 : LI n zD zM := hI.q ⟨hpD.1, hpD.2.1, hpD.2.2.1⟩ hpM.1
      refine tw_icmp_eq C d_l_law_305 (by omega) (by omega) (fun _ => ?_) (fun h => absurd he h)
      refine tw_iinc3 C d_l_law_455 ?_
      refine tw_goto C d_l_law_458 ?_
      exact ih (i + 4) zD zM (by omega) (by omega) hI2
    · refine tw_tabI (off := 258) (tg := 310) C d_l_law_52 (by omega) (by omega) (by omega) (by decide) (by decide) ?_
      refine tw_aload1 C d_l_law_310 ?_
      refine tw_aload0 C d_l_law_311 ?_
      refine tw_iload3 C d_l_law_312 ?_
      refine tw_iconst C d_l_law_313 ?_
      refine tw_iadd C d_l_law_314 ?_
      refine tw_sld C hX (i + 1) d_l_law_315 (by omega) (by omega) (by omega) ?_
      refine tw_callD C (c_d_cityAt (S := S) (n := n) (kq := (xs (i + 1)).toInt) hT hr1) cs_l_d_cityAt ⟨⟨rfl, rfl⟩, by decide, by decide⟩ rfl rfl rfl (Nat.le_of_ble_eq_true rfl) d_l_law_316 (fun rD zD hpD => ?_)
      refine tw_aload2 C d_l_law_319 ?_
      refine tw_aload0 C d_l_law_320 ?_
      refine tw_iload3 C d_l_law_321 ?_
      refine tw_iconst C d_l_law_322 ?_
      refine tw_iadd C d_l_law_323 ?_
      refine tw_sld C hX (i + 1) d_l_law_324 (by omega) (by omega) (by omega) ?_
      refine tw_callM C (c_m_cityAt (S := M) (n := n) (kq := (xs (i + 1)).toInt) hM0 hr1) cs_l_m_cityAt ⟨⟨rfl, rfl⟩, by decide, by decide⟩ rfl rfl rfl (Nat.le_of_ble_eq_true rfl) d_l_law_325 (fun rM zM hpM => ?_)
      have hD3 := hpD.2.2.2
      have hM3 := hpM.2
      rw [← hI.2.2.1, ← hI.2.2.2] at hM3
      have he : rD = rM := hD3.uniq hM3
      have hrg := hD3.rng h7
      have hI2 : LI n zD zM := hI.q ⟨hpD.1, hpD.2.1, hpD.2.2.1⟩ hpM.1
      refine tw_icmp_eq C d_l_law_328 (by omega) (by omega) (fun _ => ?_) (fun h => absurd he h)
      refine tw_iinc3 C d_l_law_455 ?_
      refine tw_goto C d_l_law_458 ?_
      exact ih (i + 4) zD zM (by omega) (by omega) hI2
    · refine tw_tabI (off := 281) (tg := 333) C d_l_law_52 (by omega) (by omega) (by omega) (by decide) (by decide) ?_
      refine tw_aload1 C d_l_law_333 ?_
      refine tw_aload0 C d_l_law_334 ?_
      refine tw_iload3 C d_l_law_335 ?_
      refine tw_iconst C d_l_law_336 ?_
      refine tw_iadd C d_l_law_337 ?_
      refine tw_sld C hX (i + 1) d_l_law_338 (by omega) (by omega) (by omega) ?_
      refine tw_aload0 C d_l_law_339 ?_
      refine tw_iload3 C d_l_law_340 ?_
      refine tw_iconst C d_l_law_341 ?_
      refine tw_iadd C d_l_law_342 ?_
      refine tw_sld C hX (i + 2) d_l_law_343 (by omega) (by omega) (by omega) ?_
      refine tw_callD C (c_d_bestWith (S := S) (n := n) (a := (xs (i + 1)).toInt) (b := (xs (i + 2)).toInt) hT hr1 hr2) cs_l_d_bestWith ⟨⟨rfl, rfl⟩, by decide, by decide⟩ rfl rfl rfl (Nat.le_of_ble_eq_true rfl) d_l_law_344 (fun rD zD hpD => ?_)
      refine tw_aload2 C d_l_law_347 ?_
      refine tw_aload0 C d_l_law_348 ?_
      refine tw_iload3 C d_l_law_349 ?_
      refine tw_iconst C d_l_law_350 ?_
      refine tw_iadd C d_l_law_351 ?_
      refine tw_sld C hX (i + 1) d_l_law_352 (by omega) (by omega) (by omega) ?_
      refine tw_aload0 C d_l_law_353 ?_
      refine tw_iload3 C d_l_law_354 ?_
      refine tw_iconst C d_l_law_355 ?_
      refine tw_iadd C d_l_law_356 ?_
      refine tw_sld C hX (i + 2) d_l_law_357 (by omega) (by omega) (by omega) ?_
      refine tw_callM C (c_m_bestWith (S := M) (n := n) (a := (xs (i + 1)).toInt) (b := (xs (i + 2)).toInt) hM0 hr1 hr2) cs_l_m_bestWith ⟨⟨rfl, rfl⟩, by decide, by decide⟩ rfl rfl rfl (Nat.le_of_ble_eq_true rfl) d_l_law_358 (fun rM zM hpM => ?_)
      have hD3 := hpD.2.2.2.2.2
      have hM3 := hpM.2
      rw [← hI.2.2.1, ← hI.2.2.2] at hM3
      have he : rD = rM := hD3.uniq hM3
      have hrg := hD3.rng h7 hT.1.2.2.1
      have hI2 : LI n zD zM := hI.q ⟨hpD.1, hpD.2.1, hpD.2.2.1⟩ hpM.1
      refine tw_icmp_eq C d_l_law_361 (by omega) (by omega) (fun _ => ?_) (fun h => absurd he h)
      refine tw_iinc3 C d_l_law_455 ?_
      refine tw_goto C d_l_law_458 ?_
      exact ih (i + 4) zD zM (by omega) (by omega) hI2
    · refine tw_tabI (off := 314) (tg := 366) C d_l_law_52 (by omega) (by omega) (by omega) (by decide) (by decide) ?_
      refine tw_aload1 C d_l_law_366 ?_
      refine tw_aload0 C d_l_law_367 ?_
      refine tw_iload3 C d_l_law_368 ?_
      refine tw_iconst C d_l_law_369 ?_
      refine tw_iadd C d_l_law_370 ?_
      refine tw_sld C hX (i + 1) d_l_law_371 (by omega) (by omega) (by omega) ?_
      refine tw_aload0 C d_l_law_372 ?_
      refine tw_iload3 C d_l_law_373 ?_
      refine tw_iconst C d_l_law_374 ?_
      refine tw_iadd C d_l_law_375 ?_
      refine tw_sld C hX (i + 2) d_l_law_376 (by omega) (by omega) (by omega) ?_
      refine tw_callD C (c_d_bestWithout (S := S) (n := n) (a := (xs (i + 1)).toInt) (b := (xs (i + 2)).toInt) hT hr1 hr2) cs_l_d_bestWithout ⟨⟨rfl, rfl⟩, by decide, by decide⟩ rfl rfl rfl (Nat.le_of_ble_eq_true rfl) d_l_law_377 (fun rD zD hpD => ?_)
      refine tw_aload2 C d_l_law_380 ?_
      refine tw_aload0 C d_l_law_381 ?_
      refine tw_iload3 C d_l_law_382 ?_
      refine tw_iconst C d_l_law_383 ?_
      refine tw_iadd C d_l_law_384 ?_
      refine tw_sld C hX (i + 1) d_l_law_385 (by omega) (by omega) (by omega) ?_
      refine tw_aload0 C d_l_law_386 ?_
      refine tw_iload3 C d_l_law_387 ?_
      refine tw_iconst C d_l_law_388 ?_
      refine tw_iadd C d_l_law_389 ?_
      refine tw_sld C hX (i + 2) d_l_law_390 (by omega) (by omega) (by omega) ?_
      refine tw_callM C (c_m_bestWithout (S := M) (n := n) (a := (xs (i + 1)).toInt) (b := (xs (i + 2)).toInt) hM0 hr1 hr2) cs_l_m_bestWithout ⟨⟨rfl, rfl⟩, by decide, by decide⟩ rfl rfl rfl (Nat.le_of_ble_eq_true rfl) d_l_law_391 (fun rM zM hpM => ?_)
      have hD3 := hpD.2.2.2.2.2
      have hM3 := hpM.2
      rw [← hI.2.2.1, ← hI.2.2.2] at hM3
      have he : rD = rM := hD3.uniq hM3
      have hrg := hD3.rng h7 hT.1.2.2.1
      have hI2 : LI n zD zM := hI.q ⟨hpD.1, hpD.2.1, hpD.2.2.1⟩ hpM.1
      refine tw_icmp_eq C d_l_law_394 (by omega) (by omega) (fun _ => ?_) (fun h => absurd he h)
      refine tw_iinc3 C d_l_law_455 ?_
      refine tw_goto C d_l_law_458 ?_
      exact ih (i + 4) zD zM (by omega) (by omega) hI2
    · refine tw_tabI (off := 347) (tg := 399) C d_l_law_52 (by omega) (by omega) (by omega) (by decide) (by decide) ?_
      refine tw_aload1 C d_l_law_399 ?_
      refine tw_aload0 C d_l_law_400 ?_
      refine tw_iload3 C d_l_law_401 ?_
      refine tw_iconst C d_l_law_402 ?_
      refine tw_iadd C d_l_law_403 ?_
      refine tw_sld C hX (i + 1) d_l_law_404 (by omega) (by omega) (by omega) ?_
      refine tw_callD C (c_d_neighbours (S := S) (n := n) (a := (xs (i + 1)).toInt) hT hr1) cs_l_d_neighbours ⟨⟨rfl, rfl⟩, by decide, by decide⟩ rfl rfl rfl (Nat.le_of_ble_eq_true rfl) d_l_law_405 (fun rD zD hpD => ?_)
      refine tw_aload2 C d_l_law_408 ?_
      refine tw_aload0 C d_l_law_409 ?_
      refine tw_iload3 C d_l_law_410 ?_
      refine tw_iconst C d_l_law_411 ?_
      refine tw_iadd C d_l_law_412 ?_
      refine tw_sld C hX (i + 1) d_l_law_413 (by omega) (by omega) (by omega) ?_
      refine tw_callM C (c_m_neighbours (S := M) (n := n) (a := (xs (i + 1)).toInt) hM0 hr1) cs_l_m_neighbours ⟨⟨rfl, rfl⟩, by decide, by decide⟩ rfl rfl rfl (Nat.le_of_ble_eq_true rfl) d_l_law_414 (fun rM zM hpM => ?_)
      have hD3 := hpD.2.2.2
      have hM3 := hpM.2
      rw [← hI.2.2.1, ← hI.2.2.2] at hM3
      have he : rD = rM := hD3.uniq hM3
      have hrg := hD3.rng
      have hI2 : LI n zD zM := hI.q ⟨hpD.1, hpD.2.1, hpD.2.2.1⟩ hpM.1
      refine tw_icmp_eq C d_l_law_417 (by omega) (by omega) (fun _ => ?_) (fun h => absurd he h)
      refine tw_iinc3 C d_l_law_455 ?_
      refine tw_goto C d_l_law_458 ?_
      exact ih (i + 4) zD zM (by omega) (by omega) hI2
    · refine tw_tabI (off := 370) (tg := 422) C d_l_law_52 (by omega) (by omega) (by omega) (by decide) (by decide) ?_
      refine tw_aload1 C d_l_law_422 ?_
      refine tw_aload0 C d_l_law_423 ?_
      refine tw_iload3 C d_l_law_424 ?_
      refine tw_iconst C d_l_law_425 ?_
      refine tw_iadd C d_l_law_426 ?_
      refine tw_sld C hX (i + 1) d_l_law_427 (by omega) (by omega) (by omega) ?_
      refine tw_aload0 C d_l_law_428 ?_
      refine tw_iload3 C d_l_law_429 ?_
      refine tw_iconst C d_l_law_430 ?_
      refine tw_iadd C d_l_law_431 ?_
      refine tw_sld C hX (i + 2) d_l_law_432 (by omega) (by omega) (by omega) ?_
      refine tw_callD C (c_d_limit (S := S) (n := n) (a := (xs (i + 1)).toInt) (b := (xs (i + 2)).toInt) hT hr1 hr2) cs_l_d_limit ⟨⟨rfl, rfl⟩, by decide, by decide⟩ rfl rfl rfl (Nat.le_of_ble_eq_true rfl) d_l_law_433 (fun rD zD hpD => ?_)
      refine tw_aload2 C d_l_law_436 ?_
      refine tw_aload0 C d_l_law_437 ?_
      refine tw_iload3 C d_l_law_438 ?_
      refine tw_iconst C d_l_law_439 ?_
      refine tw_iadd C d_l_law_440 ?_
      refine tw_sld C hX (i + 1) d_l_law_441 (by omega) (by omega) (by omega) ?_
      refine tw_aload0 C d_l_law_442 ?_
      refine tw_iload3 C d_l_law_443 ?_
      refine tw_iconst C d_l_law_444 ?_
      refine tw_iadd C d_l_law_445 ?_
      refine tw_sld C hX (i + 2) d_l_law_446 (by omega) (by omega) (by omega) ?_
      refine tw_callM C (c_m_limit (S := M) (n := n) (a := (xs (i + 1)).toInt) (b := (xs (i + 2)).toInt) hM0 hr1 hr2) cs_l_m_limit ⟨⟨rfl, rfl⟩, by decide, by decide⟩ rfl rfl rfl (Nat.le_of_ble_eq_true rfl) d_l_law_447 (fun rM zM hpM => ?_)
      have hD3 := hpD.2.2.2
      have hM3 := hpM.2
      rw [← hI.2.2.1, ← hI.2.2.2] at hM3
      have he : rD = rM := hD3.uniq hM3
      have hrg := hD3.rng
      have hI2 : LI n zD zM := hI.q ⟨hpD.1, hpD.2.1, hpD.2.2.1⟩ hpM.1
      refine tw_icmp_eq C d_l_law_450 (by omega) (by omega) (fun _ => ?_) (fun h => absurd he h)
      refine tw_iinc3 C d_l_law_455 ?_
      refine tw_goto C d_l_law_458 ?_
      exact ih (i + 4) zD zM (by omega) (by omega) hI2
    · refine tw_tabO (tg := 455) C d_l_law_52 (by omega) (Or.inr (by omega)) (by decide) ?_
      refine tw_iinc3 C d_l_law_455 ?_
      refine tw_goto C d_l_law_458 ?_
      exact ih (i + 4) S M (by omega) (by omega) hI
end
section
/-! THE CLAIM OUT OF ONE WALK OF THE LAW'S BODY. Your part is whole_start (and what it stands on); all else here is the same for every law, but numbers. -/
def lw_P (b : Addr) (xs : List Int32) (args : Array Value) (s : State) : Prop := args = #[.ref b] ∧ s.IntsAt b xs ∧ xs.length ≤ 2050 ∧ (Jvm.Cond.and given_1 narrow_1).before args s = true
def lw_Q (_ : Array Value) (s : State) (o : Outcome) (t : State) : Prop := o = .returned (some (.int 1)) ∧ Framed s o t [] 15 397
def lw_Z (below : List Frame) (a : Array Value) (s : State) : State → Prop := fun t => ∃ o, t.status = .running ∧ Ended t below o ∧ lw_Q a s o t
/-- the law's own end, with 1 on the stack, nothing written that was there before, its room as the claim has it -/
theorem lw_ret {p : Program} {l : Launch} {e : Env} {s : State} {m : MethodId} {below : List Frame} {meth : Method} {c : Code} {b : Nat} (hx : p.tables.exec = Jvm.exec) (hb : c.code = code) (hr : meth.sig.returnType = ret) (hlocks : meth.locks = false) {pc : Nat} {H : Heap} {ls : Array Slot} (hdg : decode code pc = .ok (.ireturn, 1)) : W p l e room_1 s m #[Value.ref b] below meth c H [] 15 397 (lw_Z below #[Value.ref b] s) (F0 m pc ls [.int 1]) := by
  intro T hT X
  obtain ⟨fs, hret, hrun, hended, hW, hframe⟩ := X.leave (v := some (.int 1)) (hlocks := hlocks) (fun h => by rw [hr] at h; cases h)
  have hmeth' : T.vm.method? m = some meth := X.method'
  refine ⟨T.setFrames fs, ?_, .returned (some (.int 1)), hrun, hended, rfl, ⟨_, rfl⟩, hW, hframe⟩
  jvm_step X.here [X.here.top, hx, hb, hdg, hmeth', hr, ret, narrow_b1]
  (try refine ⟨rfl, ?_⟩); (try refine ⟨rfl, ?_⟩)
  first | (intro acts; rw [hret _ acts rfl rfl rfl]) | rw [hret _ _ rfl rfl rfl]
  exact Steps.refl _
/-- what holds at the law's entry: the machine, the code, the tables' words (any of lw_tbl by 'hts w (by decide +kernel)'), the script of L ints xs at the cell b, what the Statement gives of the start (any of its parts by flat_of_before) -/
def lw_At (p : Program) (s : State) (m : MethodId) (meth : Method) (c : Code) (b L : Nat) (xs : Nat → Int32) : Prop :=
  p.tables.exec = Jvm.exec ∧ c.code = code ∧ meth.sig.returnType = ret ∧ c.maxLocals = 4 ∧ s.vm.findClass R_law = some m.cls ∧ (∀ w ∈ lw_tbl, w.before #[Value.ref b] s = true) ∧ va_X b L xs s s.heap ∧ b < s.heap.size ∧ meth.locks = false ∧ (Jvm.Cond.and given_1 narrow_1).before #[Value.ref b] s = true

/-- the script's cell k, 0 beyond its end -/
def cvS (Lx : Nat) (xs : Nat → Int32) (kk : Nat) : Int := if kk < Lx then (xs kk).toInt else 0
theorem cvS_rng (Lx : Nat) (xs : Nat → Int32) (kk : Nat) : inR (cvS Lx xs kk) := by
  unfold cvS
  by_cases q : kk < Lx
  · rw [if_pos q]; exact iI_inR _
  · rw [if_neg q]; decide
set_option maxRecDepth 20000 in
/-- cell(s, k): reads the script, writes nothing -/
theorem c_l_cell (l : Launch) {b Lx kk : Nat} {xs : Nat → Int32} (hL : Lx ≤ 2050) (hk : kk ≤ 2050) : Met l y_l_cell (Cond.code y_l_cell b_l_cell 2 (some .int) :: tb) ({ frames := 0, cells := 0, slots := 0, locals := 0 }) (va_Pc [.ref b, .int (iI (kk : Int))] (fun U => va_X b Lx xs U U.heap ∧ b < U.heap.size)) (va_Qi (fun r (_ : Unit) => r = iI (cvS Lx xs kk)) (fun _ _ => True) (fun _ => False)) 0 0 (fun _ => False) := by
  refine Met.ofW (cc := b_l_cell) (maxL := 2) (ret := some .int) (by decide) rfl ?_
  intro p e s m args below meth c s₁ B hml hv
  obtain ⟨rfl, hX, hbl⟩ := hv
  have hx := B.exec
  have hb := B.bytes
  have hr := B.returns
  have hlocks := B.notSynchronized
  have hS : va_S (fun _ => False) s.heap s.heap [] := va_S.rf
  have hl := lv_entry [.ref b, .int (iI (kk : Int))] (n := 2) (Nat.le_of_ble_eq_true rfl)
  rw [lg_entry_eq]
  generalize (lg_sl ([.ref b, .int (iI (kk : Int))]) ++ List.replicate (2 - (lg_sl ([.ref b, .int (iI (kk : Int))])).length) Slot.unset).toArray = ls at hl ⊢
  have hl : lv_has ls 2 [(0, .ref b), (1, .int (iI (kk : Int)))] := hl
  refine lv_iload_n hx hb d_l_cell_0.1 rfl (lv_at hl 1 rfl) ?_
  refine lv_aload_n hx hb d_l_cell_1.1 rfl (lv_at hl 0 rfl) ?_
  refine va_slen hx hb hX hbl (fun h => h) hS d_l_cell_2.1 ?_
  rw [show Int32.ofNat Lx = iI (Lx : Int) from (iI_nat Lx).symm]
  obtain ⟨off, d3, ht3, -⟩ := d_l_cell_3
  refine lv_icmp_ge (tgt := 12) hx hb d3 ht3 (fun u => ?_) (fun u => ?_)
  · have u := (iI_le (by omega) (by omega)).mp u
    refine lv_iconst (v := 0) hx hb d_l_cell_12.1 rfl ?_
    exact W.iret (v := 0) hx hb hr (fun t ht hW => ⟨⟨0, (), rfl, by unfold cvS; rw [if_neg (by omega)]; rfl, trivial⟩, hS.F ht⟩) hS.2.2 d_l_cell_13.1
  · have u := mt (iI_le (by omega) (by omega)).mpr u
    refine lv_aload_n hx hb d_l_cell_6.1 rfl (lv_at hl 0 rfl) ?_
    refine lv_iload_n hx hb d_l_cell_7.1 rfl (lv_at hl 1 rfl) ?_
    refine va_sld hx hb hX hbl (fun h => h) hS (iI_in (by omega) (by omega)) d_l_cell_8.1 ?_
    rw [iI_clamp (by omega)]
    obtain ⟨off9, d9, ht9⟩ := d_l_cell_9
    refine lv_goto (tgt := 13) hx hb d9 ht9 ?_
    exact W.iret (v := xs kk) hx hb hr (fun t ht hW => ⟨⟨xs kk, (), rfl, by unfold cvS; rw [if_pos (by omega)]; exact (iI_of _).symm, trivial⟩, hS.F ht⟩) hS.2.2 d_l_cell_13.1
theorem gs_cell : GoodIn tb (wsS R_law 9 y_l_cell (Cond.code y_l_cell b_l_cell 2 (some .int) :: tb)) := by
  intro x hx
  unfold wsS at hx
  have hm : x ∈ tb := by
    rcases List.mem_append.mp hx with h1 | h1
    · exact of_decide_eq_true (List.all_eq_true.mp (show ([.methodLink R_law 9 y_l_cell, .static y_l_cell, .initialized R_law] : List Cond).all (fun x => decide (x ∈ tb)) = true by decide +kernel) x h1)
    · rcases List.mem_cons.mp h1 with rfl | h2
      · exact z_l_cell
      · exact h2
  exact gd_tb x hm
theorem gi_d : GoodIn tb (Cond.code y_d_init b_d_init 5 none :: tb) := fun x hx => by
  rcases List.mem_cons.mp hx with rfl | h2
  · exact gd_tb _ z_d_init
  · exact gd_tb _ h2
theorem gi_m : GoodIn tb (Cond.code y_m_init b_m_init 5 none :: tb) := fun x hx => by
  rcases List.mem_cons.mp hx with rfl | h2
  · exact gd_tb _ z_m_init
  · exact gd_tb _ h2
section WC
variable {p : Program} {l : Launch} {e : Env} {s : State} {m : MethodId} {args : Array Value} {below : List Frame} {meth : Method} {c : Code} {H : Heap} {locs : List Loc} {cells slots : Nat} {Q : State → Prop} {D : va_G} {A : Nat → Prop} {ws : va_W} {ls : Array Slot} {rest : List Value} {pc nx : Nat} {b Lx kk : Nat} {xs : Nat → Int32}
/-- a call of cell from the law -/
theorem w_cell (hx : p.tables.exec = Jvm.exec) (hb : c.code = code) (hml : c.maxLocals = 4) (hown : s.vm.findClass R_law = some m.cls) (hts : ∀ x ∈ tb, x.before args s = true) (hX : va_X b Lx xs s s.heap) (hbl : b < s.heap.size) (hbA : ¬ A b) (hL : Lx ≤ 2050) (hk : kk ≤ 2050) (hls : ls.size = 4) (hP : va_P D classes ws H) (hS : va_S A s.heap H locs) (hcat : (rest.map fun v => v.category).sum ≤ 8) (hcs : cells ≤ 15 ∧ slots ≤ 397) (d : DC 3 code pc nx (.invokestatic 9))
    (k : ∀ (H1 : Heap) (locs1 : List Loc), va_P D classes ws H1 → va_S A s.heap H1 locs1 → W p l e room_1 s m args below meth c H1 locs1 cells slots Q (F0 m nx ls (.int (iI (cvS Lx xs kk)) :: rest))) : W p l e room_1 s m args below meth c H locs cells slots Q (F0 m pc ls (.int (iI (kk : Int)) :: .ref b :: rest)) := by
  obtain ⟨d, rfl⟩ := d
  have hbH : H[b]? = s.heap[b]? := hS.2.1 b hbl hbA
  have hr : va_Run p l e room_1 s m args below meth c H locs cells slots 0 0 (F0 m pc ls (.int (iI (kk : Int)) :: .ref b :: rest)) rest (va_Qi (fun r (_ : Unit) => r = iI (cvS Lx xs kk)) (fun _ _ => True) (fun _ => False) [.ref b, .int (iI (kk : Int))].toArray) (fun _ => False) :=
    va_runS (As := [.ref b, .int (iI (kk : Int))]) (rest := rest) ⟨hx, hb, hml, hown, hts⟩ (c_l_cell l (b := b) (Lx := Lx) (kk := kk) (xs := xs) hL hk) (cwS 2 hts gs_cell rfl rfl rfl (by decide +kernel) ⟨Nat.le_of_ble_eq_true rfl, Nat.le_of_ble_eq_true rfl⟩) ⟨fun a U g mk q => by obtain ⟨q0, q1, q2⟩ := q; exact ⟨q0, va_X.moved (u := U) (U := U.calling g mk a) (Vm.Alike.refl U.vm) q1, q2⟩, fun U hU hW => ⟨rfl, by rw [hU]; exact (hX.kept hbH).moved hW.alike, by rw [hU]; exact Nat.lt_of_lt_of_le hbl hS.1⟩⟩ rfl rfl hls rfl (lv_room hcat) d hcs
  refine va_calli hr hS (fun q _ h => h.elim) (fun q h => h.elim) (fun r u t H1 locs1 ht hvm hw hB hz1 hk1 hS1 => ?_)
  subst hw
  exact k H1 locs1 (hP.kept (fun i z hz => hk1 z.1 (hP i z hz).lt (fun h => h))) hS1
end WC
theorem lo_of4 {ls : Array Slot} {v0 v1 v2 v3 : Value} (h : lv_has ls 4 [(3, v3), (2, v2), (1, v1), (0, v0)]) (hc : v0.category = 1 ∧ v1.category = 1 ∧ v2.category = 1 ∧ v3.category = 1) : lo_has ls 4 [some v0, some v1, some v2, some v3] := by
  refine ⟨h.1, rfl, h.2.1, fun i v hv => ?_⟩
  match i, hv with
  | 0, hv => cases hv; exact ⟨h.2.2 (0, v0) (by simp), hc.1⟩
  | 1, hv => cases hv; exact ⟨h.2.2 (1, v1) (by simp), hc.2.1⟩
  | 2, hv => cases hv; exact ⟨h.2.2 (2, v2) (by simp), hc.2.2.1⟩
  | 3, hv => cases hv; exact ⟨h.2.2 (3, v3) (by simp), hc.2.2.2⟩
  | i + 4, hv => simp at hv
theorem LI_start (a d : Int) : LI (cl37 a) (ciS (cl37 a) (cl99 d) 49) (miS (cl37 a) (cl99 d)) := by
  have h1 := cl37_rng a
  have h2 := cl99_rng d
  have e1 : ∀ j, ciS (cl37 a) (cl99 d) 49 1 j = if j < 49 then cl99 d else 0 := fun j => by simp [ciS]
  have e2 : ∀ j, ciS (cl37 a) (cl99 d) 49 2 j = 0 := fun j => by simp [ciS]
  have e3 : ∀ j, ciS (cl37 a) (cl99 d) 49 3 j = 0 := fun j => by simp [ciS]
  have m1 : miS (cl37 a) (cl99 d) 1 = ciS (cl37 a) (cl99 d) 49 1 := up_f _ (by decide)
  have m2 : miS (cl37 a) (cl99 d) 2 = ciS (cl37 a) (cl99 d) 49 2 := up_f _ (by decide)
  have r1 : ∀ j, 0 ≤ ciS (cl37 a) (cl99 d) 49 1 j ∧ ciS (cl37 a) (cl99 d) 49 1 j ≤ 99 := fun j => by
    rw [e1]
    by_cases q : j < 49
    · rw [if_pos q]; exact h2
    · rw [if_neg q]; decide
  have r2 : ∀ j, 0 ≤ ciS (cl37 a) (cl99 d) 49 2 j ∧ ciS (cl37 a) (cl99 d) 49 2 j ≤ 2 := fun j => by rw [e2]; decide
  have s1 : Sy (cl37 a) (ciS (cl37 a) (cl99 d) 49 1) := fun x y hx hy => by rw [e1, e1, if_pos (by omega), if_pos (by omega)]
  have s2 : Sy (cl37 a) (ciS (cl37 a) (cl99 d) 49 2) := fun x y hx hy => by rw [e2, e2]
  refine ⟨⟨⟨by simp [ciS], h1, r1, r2, s1, s2, fun j => by rw [e3]; decide⟩, Or.inl (by simp [ciS])⟩, ⟨by rw [show miS (cl37 a) (cl99 d) 0 = ciS (cl37 a) (cl99 d) 49 0 from up_f _ (by decide)]; simp [ciS], h1, by rw [m1]; exact r1, by rw [m2]; exact r2, by rw [m1]; exact s1, by rw [m2]; exact s2, up_s _ _ _ _⟩, m1.symm, m2.symm⟩
set_option maxHeartbeats 4000000 in
set_option maxRecDepth 100000 in
/-- THE LAW, from its entry -/
theorem whole_start {p : Program} {e : Env} {s : State} {m : MethodId} {below : List Frame} {meth : Method} {c : Code} (l : Launch) {b L : Nat} {xs : Nat → Int32} (hL : L ≤ 2050) (C0 : lw_At p s m meth c b L xs) : W p l e room_1 s m #[Value.ref b] below meth c s.heap [] 0 0 (lw_Z below #[Value.ref b] s) (entryFrame m ([Value.ref b] : List Value).toArray 4) := by
  obtain ⟨hx, hb, hr, hml, hown, hts0, hX, hbl, hlocks, hgv⟩ := id C0
  have hts : ∀ x ∈ tb, x.before #[Value.ref b] s = true := fun x h => hts0 x (List.mem_filter.mp h).1
  have hA : ∀ q : Nat, s.heap.size ≤ q → (fun q : Nat => s.heap.size ≤ q) q := fun _ h => h
  have hbA : ¬ (fun q : Nat => s.heap.size ≤ q) b := Nat.not_le.mpr hbl
  obtain ⟨c0, iS0, hKn0⟩ := u_known (C := R_d) (T := F_d) (N := 15) (n := 15) hts i_d (hts (.instantiable R_d 15) (by decide +kernel))
  obtain ⟨c1, iS1, hKn1⟩ := u_known (C := R_m) (T := F_m) (N := 5) (n := 5) hts i_m (hts (.instantiable R_m 5) (by decide +kernel))
  obtain ⟨D, hKc⟩ : ∃ D : va_G, ∀ (k : Nat) (q : vw_C), classes[k]? = some q → u_Kn s q.1 q.2.1 q.2.2 (D.1 k) (D.2 k) := by
    refine ⟨(fun k => if k = 0 then c0 else c1, fun k => if k = 0 then iS0 else iS1), ?_⟩
    intro k q hq
    match k, hq with
    | 0, hq => cases hq; exact hKn0
    | 1, hq => cases hq; exact hKn1
    | k + 2, hq => simp [classes] at hq
  have hS : va_S (fun q : Nat => s.heap.size ≤ q) s.heap s.heap [] := va_S.rf
  have hK : va_K D classes [] s := ⟨hKc, fun k q h => by simp at h⟩
  have hP : va_P D classes [] s.heap := fun k q h => by simp at h
  have hD : va_D (fun q : Nat => s.heap.size ≤ q) [] := ⟨fun i j p q h => by simp at h, fun k q h => by simp at h⟩
  have hl := lv_entry ([.ref b]) (n := 4) (Nat.le_of_ble_eq_true rfl)
  rw [lg_entry_eq]
  generalize (lg_sl ([.ref b]) ++ List.replicate (4 - (lg_sl ([.ref b])).length) Slot.unset).toArray = ls at hl ⊢
  have hl : lv_has ls 4 [(0, .ref b)] := hl
  refine va_new (ci := 0) (fs := bl_d) (C := R_d) (T := F_d) (N := 15) hx hb hts i_d t_d t_d_ok hown (hts (.classLink R_law 7 R_d) (by decide +kernel)) (hts (.instantiable R_d 15) (by decide +kernel)) (hts (.initialized R_d) (by decide +kernel)) hK hP hD hS hA rfl (fun j hj => by rcases (show j = 0 ∨ j = 1 ∨ j = 2 ∨ j = 3 ∨ j = 4 ∨ j = 5 ∨ j = 6 ∨ j = 7 ∨ j = 8 ∨ j = 9 ∨ j = 10 ∨ j = 11 ∨ j = 12 ∨ j = 13 ∨ j = 14 by omega) with rfl | rfl | rfl | rfl | rfl | rfl | rfl | rfl | rfl | rfl | rfl | rfl | rfl | rfl | rfl <;> rfl) (Nat.le_of_ble_eq_true rfl) (Nat.le_of_ble_eq_true rfl) d_l_law_0.1 (fun qd H hP hD hS => ?_)
  have hP : va_P D classes [(qd, .inr (0, bl_d))] H := hP
  have hD : va_D (fun q : Nat => s.heap.size ≤ q) [(qd, .inr (0, bl_d))] := hD
  refine W.widen (k := 1) (n := 15) (Nat.le_of_ble_eq_true rfl) (Nat.le_of_ble_eq_true rfl) ?_
  refine lv_dup hx hb d_l_law_3.1 rfl ?_
  refine lv_aload_n hx hb d_l_law_4.1 rfl (lv_at hl 0 rfl) ?_
  refine lv_iconst (v := iI ((0 : Nat) : Int)) hx hb d_l_law_5.1 rfl ?_
  refine w_cell hx hb hml hown hts hX hbl hbA hL (by decide) hl.1 hP hS (Nat.le_of_ble_eq_true rfl) (by decide) (d_l_law_6) (fun H locs hP hS => ?_)
  refine lv_aload_n hx hb d_l_law_9.1 rfl (lv_at hl 0 rfl) ?_
  refine lv_iconst (v := iI ((1 : Nat) : Int)) hx hb d_l_law_10.1 rfl ?_
  refine w_cell hx hb hml hown hts hX hbl hbA hL (by decide) hl.1 hP hS (Nat.le_of_ble_eq_true rfl) (by decide) (d_l_law_11) (fun H locs hP hS => ?_)
  have hPc := hP.sub (ws' := [(qd, .inr (0, bl_d))]) [0] rfl
  have hDc := hD.sub (ws' := [(qd, .inr (0, bl_d))]) [0] (by decide) rfl
  have hKc := hK.sub (tys' := []) [] rfl
  have hFc := va_free (wc := [(qd, .inr (0, bl_d))]) hD hS hA [0] rfl
  refine va_callv (va_runI (As := [.int (iI (cvS L xs 0)), .int (iI (cvS L xs 1))]) (rest := [.ref qd]) ⟨hx, hb, hml, hown, hts⟩ (c_d_init l D qd H.size (cvS_rng L xs 0) (cvS_rng L xs 1)) (cwI 2 hts gi_d rfl rfl rfl (hts (.initialized R_d) (by decide +kernel)) (hts (.methodLink R_law 15 y_d_init) (by decide +kernel)) (hts (.instanceMethod y_d_init) (by decide +kernel)) rfl (by decide +kernel) ⟨Nat.le_of_ble_eq_true rfl, Nat.le_of_ble_eq_true rfl⟩) ⟨fun a U g mk q => by obtain ⟨q0, q1, qP, qK, qD⟩ := q; exact ⟨q0, q1, qP, va_K.moved (u := U) (U := U.calling g mk a) (Vm.Alike.refl U.vm) qK, qD⟩, fun U hU hW => ⟨rfl, by rw [hU], by rw [hU]; exact hPc, va_K.moved hW.alike hKc, hDc.weaken (fun _ _ _ _ => trivial)⟩⟩ rfl rfl hl.1 rfl (lv_room (Nat.le_of_ble_eq_true rfl)) d_l_law_14.1 ⟨Nat.le_of_ble_eq_true rfl, Nat.le_of_ble_eq_true rfl⟩) hS (fun q _ h => hFc q h) hFc (fun u t H1 locs ht hvm hw hB hz1 hk1 hS => ?_)
  obtain ⟨q, kd⟩ := u
  obtain ⟨hP1, hKd, hD1⟩ := hB
  rw [ht] at hP1
  have hKd : va_K D classes (ty_k kd) s := va_K.moved hvm.symm hKd
  have hw : q 0 = qd := hw
  subst hw
  generalize hSd : ciS (cl37 (cvS L xs 0)) (cl99 (cvS L xs 1)) 49 = Sd at hP1 hD1
  obtain ⟨hP, hD⟩ := va_join (wr := []) (w1 := td_ws q kd Sd) hP hD [0] [] rfl rfl (by decide) (by decide) hk1 hFc hP1 hD1
  have hP : va_P D classes (td_ws q kd Sd) H1 := hP
  have hD : va_D (fun q : Nat => s.heap.size ≤ q) (td_ws q kd Sd) := hD
  refine W.widen (k := 11) (n := 287) (Nat.le_of_ble_eq_true rfl) (Nat.le_of_ble_eq_true rfl) ?_
  refine lv_astore_n (lv' := [(1, .ref (q 0)), (0, .ref b)]) hx hb d_l_law_17.1 rfl hl (by decide) rfl (fun ls hl => ?_)
  refine va_new (ci := 1) (fs := bl_m) (C := R_m) (T := F_m) (N := 5) hx hb hts i_m t_m t_m_ok hown (hts (.classLink R_law 18 R_m) (by decide +kernel)) (hts (.instantiable R_m 5) (by decide +kernel)) (hts (.initialized R_m) (by decide +kernel)) hK hP hD hS hA rfl (fun j hj => by rcases (show j = 0 ∨ j = 1 ∨ j = 2 ∨ j = 3 ∨ j = 4 by omega) with rfl | rfl | rfl | rfl | rfl <;> rfl) (Nat.le_of_ble_eq_true rfl) (Nat.le_of_ble_eq_true rfl) d_l_law_18.1 (fun qm H hP hD hS => ?_)
  refine W.widen (k := 12) (n := 292) (Nat.le_of_ble_eq_true rfl) (Nat.le_of_ble_eq_true rfl) ?_
  refine lv_dup hx hb d_l_law_21.1 rfl ?_
  refine lv_aload_n hx hb d_l_law_22.1 rfl (lv_at hl 1 rfl) ?_
  refine lv_iconst (v := iI ((0 : Nat) : Int)) hx hb d_l_law_23.1 rfl ?_
  refine w_cell hx hb hml hown hts hX hbl hbA hL (by decide) hl.1 hP hS (Nat.le_of_ble_eq_true rfl) (by decide) (d_l_law_24) (fun H locs hP hS => ?_)
  refine lv_aload_n hx hb d_l_law_27.1 rfl (lv_at hl 1 rfl) ?_
  refine lv_iconst (v := iI ((1 : Nat) : Int)) hx hb d_l_law_28.1 rfl ?_
  refine w_cell hx hb hml hown hts hX hbl hbA hL (by decide) hl.1 hP hS (Nat.le_of_ble_eq_true rfl) (by decide) (d_l_law_29) (fun H locs hP hS => ?_)
  have hPc := hP.sub (ws' := [(qm, .inr (1, bl_m))]) [11] rfl
  have hDc := hD.sub (ws' := [(qm, .inr (1, bl_m))]) [11] (by decide) rfl
  have hFc := va_free (wc := [(qm, .inr (1, bl_m))]) hD hS hA [11] rfl
  refine va_callv (va_runI (As := [.int (iI (cvS L xs 0)), .int (iI (cvS L xs 1))]) (rest := [.ref qm]) ⟨hx, hb, hml, hown, hts⟩ (c_m_init l D qm H.size (cvS_rng L xs 0) (cvS_rng L xs 1)) (cwI 2 hts gi_m rfl rfl rfl (hts (.initialized R_m) (by decide +kernel)) (hts (.methodLink R_law 20 y_m_init) (by decide +kernel)) (hts (.instanceMethod y_m_init) (by decide +kernel)) rfl (by decide +kernel) ⟨Nat.le_of_ble_eq_true rfl, Nat.le_of_ble_eq_true rfl⟩) ⟨fun a U g mk q => by obtain ⟨q0, q1, qP, qK, qD⟩ := q; exact ⟨q0, q1, qP, va_K.moved (u := U) (U := U.calling g mk a) (Vm.Alike.refl U.vm) qK, qD⟩, fun U hU hW => ⟨rfl, by rw [hU], by rw [hU]; exact hPc, va_K.moved hW.alike hKc, hDc.weaken (fun _ _ _ _ => trivial)⟩⟩ rfl rfl hl.1 rfl (lv_room (Nat.le_of_ble_eq_true rfl)) d_l_law_32.1 ⟨Nat.le_of_ble_eq_true rfl, Nat.le_of_ble_eq_true rfl⟩) hS (fun q _ h => hFc q h) hFc (fun u t H1 locs ht hvm hw hB hz1 hk1 hS => ?_)
  obtain ⟨q2, km⟩ := u
  obtain ⟨hP1, hKm, hD1⟩ := hB
  rw [ht] at hP1
  have hKm : va_K D classes (ty_k km) s := va_K.moved hvm.symm hKm
  have hw : q2 0 = qm := hw
  subst hw
  generalize hMd : miS (cl37 (cvS L xs 0)) (cl99 (cvS L xs 1)) = Md at hP1 hD1
  obtain ⟨hP, hD⟩ := va_join (wr := td_ws q kd Sd) (w1 := md_ws q2 km Md) hP hD [11] [0, 1, 2, 3, 4, 5, 6, 7, 8, 9, 10] rfl rfl (by decide) (by decide) hk1 hFc hP1 hD1
  have hP : va_P D classes (wl q q2 kd km (jn Sd Md)) H1 := hP
  have hD : va_D (fun q : Nat => s.heap.size ≤ q) (wl q q2 kd km (jn Sd Md)) := hD
  have hK2 : va_K D classes (ty_2 kd km) s := hKd.app hKm
  refine W.widen (k := 15) (n := 397) (Nat.le_of_ble_eq_true rfl) (Nat.le_of_ble_eq_true rfl) ?_
  refine lv_astore_n (lv' := [(2, .ref (q2 0)), (1, .ref (q 0)), (0, .ref b)]) hx hb d_l_law_35.1 rfl hl (by decide) rfl (fun ls hl => ?_)
  refine lv_iconst (v := iI ((2 : Nat) : Int)) hx hb d_l_law_36.1 rfl ?_
  refine lv_istore_n (lv' := [(3, .int (iI ((2 : Nat) : Int))), (2, .ref (q2 0)), (1, .ref (q 0)), (0, .ref b)]) hx hb d_l_law_37.1 rfl hl (by decide) rfl (fun ls hl => ?_)
  have hLI : LI (cl37 (cvS L xs 0)) Sd Md := by rw [← hSd, ← hMd]; exact LI_start _ _
  have hlo := lo_of4 hl ⟨rfl, rfl, rfl, rfl⟩
  refine law_loop (X := (p, l, e, room_1, s, m, #[Value.ref b], below, meth, c, lw_Z below #[Value.ref b] s, D, (fun q : Nat => s.heap.size ≤ q), 4, 15, 397)) (n := cl37 (cvS L xs 0)) ⟨hx, hb, hml, hown, hts, hK2, fun S => (wl_ok q q2 kd km).D S hD, rfl, Nat.le_refl _, Nat.le_refl _⟩ ⟨hX, hbl, hbA⟩ hL ?_ (L + 5) 2 Sd Md (by omega) (by omega) hLI H1 locs ls hP hS hlo
  intro Z pc nx Lv hdc H2 locs2 ls2 hP2 hS2 hl2
  refine va_forget (fun q hq => hS2.2.2 q hq) ?_
  exact lw_ret hx hb hr hlocks hdc.1
end
section
-- ===== YOUR PART ENDS =====
set_option maxHeartbeats 4000000 in
theorem lw_walk (l : Launch) (b : Addr) (xs : List Int32) : MetFree l x (headSpec (Jvm.Cond.code x code maxLocals ret :: tables_1) room_1) (lw_P b xs) (fun _ _ _ _ _ => True) lw_Q := by
  refine MetFree.of_bodyS (code := code) (maxLocals := maxLocals) (ret := ret) (by decide) ?_ ?_
  · intro args s m h hn
    obtain ⟨meth, c, h1, h2, h3, h4, h5, h6, -, -⟩ := Cond.code_spec hn (atoms_spec (ws := Jvm.Cond.code x code maxLocals ret :: tables_1) h _ List.mem_cons_self)
    exact ⟨meth, c, h1, h2, h3, h4, h5, h6⟩
  · intro p e s m args below meth c s₁ B hml0 hP _
    obtain ⟨rfl, hx, hbd, hgv⟩ := hP
    obtain ⟨scr, harrAt, hlist, hof, hsmall⟩ := hx
    obtain ⟨hcb, hkn, -, -⟩ := State.arrayAt?_spec harrAt
    have hown : s.vm.findClass R_law = some m.cls := findClass_of_methodNamed B.named
    have hts0 : ∀ c ∈ (Jvm.Cond.code x code maxLocals ret :: tables_1), c.before #[Value.ref b] s = true := atoms_spec (ws := Jvm.Cond.code x code maxLocals ret :: tables_1) B.pre
    have hts : ∀ w ∈ lw_tbl, w.before #[Value.ref b] s = true := k2_hts_sels lw_privs (fun w hw => hts0 w (List.mem_cons_of_mem _ hw)) lw_privs_ok
    have hml : c.maxLocals = 4 := B.maxLocals_eq (hts0 _ List.mem_cons_self)
    have X₀ : Stand p l e room_1 s m #[Value.ref b] below meth c s₁ [] 0 0 := Stand.of_body B
    have hh0 : s₁.heap = s.heap := by rw [B.state]; rfl
    have hsz : scr.slots.size = xs.length := by rw [← Array.length_toList, hlist, List.length_map]
    have hval : ∀ j : Nat, j < xs.length → scr.slots[j]? = some (.int (xs.getD j 0)) := fun j hj => by
      rw [← Array.getElem?_toList, hlist]
      simp [hj]
    have hbl : b < s.heap.size := (Array.getElem?_eq_some_iff.mp hcb).1
    have hX : va_X b xs.length (fun j => xs.getD j 0) s s.heap := ⟨scr, hcb, hof, hkn, hsz, hval⟩
    have K : W p l e room_1 s m #[Value.ref b] below meth c s₁.heap [] 0 0 (lw_Z below #[Value.ref b] s) (entryFrame m ([Value.ref b] : List Value).toArray 4) := by
      rw [hh0]
      exact whole_start l hbd ⟨B.exec, B.bytes, B.returns, hml, hown, hts, hX, hbl, B.notSynchronized, hgv⟩
    obtain ⟨t, a1, o, b1, b2, b3⟩ := K s₁ rfl X₀
    exact ⟨t, o, a1, b1, b2, b3⟩
theorem lw_pre_spec {args : Array Value} {s : State} (h : (Jvm.Cond.and given_1 narrow_1).before args s = true) (hr : rest_1_c.before args s = true) : ∃ (b : Addr) (xs : List Int32), lw_P b xs args s := by
  have hs := flat_of_before _ h
  have hq := flat_of_before _ hr
  have hc : (Cond.count 1).before args s = true := hs _ (by decide +kernel)
  have harr : (Cond.arrayOf (.arg 0) .int).before args s = true := hs _ (by decide +kernel)
  have hle : (Cond.le (.length (.arg 0)) (.int 2050)).before args s = true := hs _ (by decide +kernel)
  have hlen : (Cond.isInt (.length (.arg 0))).before args s = true := hq _ (by decide +kernel)
  have hall : (Cond.all (.arg 0) (.isInt (.elem (.arg 0) (.index 0)))).before args s = true := hq _ (by decide +kernel)
  obtain ⟨b, xs, hb, hx⟩ := State.ints_of_pre rfl harr hlen hall
  have hsm : xs.length < 2 ^ 31 := hx.choose_spec.2.2.2
  have hev : (Term.length (.arg 0)).eval args s none [] s = some (.int xs.length.toInt32) := hx.length_eval hb
  have hv := Cond.le_ints hev (show (Term.int 2050).eval args s none [] s = some (.int 2050) from rfl)
  have hd : xs.length.toInt32 ≤ 2050 := by
    simpa [Cond.before, Cond.holds, hv] using hle
  have hN : xs.length ≤ 2050 := (Int32.ofNat_le_ofNat hsm (by decide)).mp (show Int32.ofNat xs.length ≤ Int32.ofNat 2050 from hd)
  exact ⟨b, xs, Cond.one_arg hc (show args[0]? = some (.ref b) from hb), hx, hN, h⟩
theorem lw_comes (l : Launch) : Comes l x (Jvm.Cond.code x code maxLocals ret :: tables_1) room_1 (fun tb e args s => Calls_1 tb e args s ∧ rest_1 tb e args s ∧ Pre_1 tb e args s)
    (fun _ _ args s o t => lw_Q args s o t) := by
  intro p e ha hc hk s m args below hf hfit hheap happ hpre
  obtain ⟨b, xs, hP⟩ := lw_pre_spec hpre.2.2 hpre.2.1
  obtain ⟨k, o, h1, h2, h3, hQ⟩ := lw_walk l b xs p e ha hc hk s m args below hf ((Spec.applies_iff_loose hf).mp happ).1 hP trivial
  exact ⟨k, o, h1, h2, h3, hQ⟩
theorem lw_frame {s t : State} {o : Outcome} {args : Array Value} (h : Framed s o t [] 15 397) :
    Framed s o t (fieldLocs frame_1_writes args s ++ arrayLocs frame_1_arrays args s ++ staticLocs frame_1_statics s) 15 397 := h
theorem lw_limb (L : Cond) (hL : ∀ (args : Array Value) (s t : State), L.after args s (.returned (some (.int 1))) t = true) :
    ArmFor flags0 classFile x code maxLocals ret World_1 tables_1 room_1 Calls_1 rest_1 Pre_1
      (fun tb e a s o t => postC L tb e a s o t ∧ Framed s o t (fieldLocs frame_1_writes a s ++ arrayLocs frame_1_arrays a s ++ staticLocs frame_1_statics s) 15 397) := by
  intro l _ _ _ p e ha hc hk s m args below hf hfit hheap happ hpre
  obtain ⟨k, o, h1, h2, h3, rfl, hF⟩ := lw_comes l p e ha hc hk s m args below hf hfit hheap happ hpre
  exact ⟨k, _, h1, h2, h3, hL args s _, lw_frame hF⟩
theorem i_vc : Claimed_1_1 ∧ Claimed_1_2 := ⟨lw_limb limb_1_1 (fun args s t => by simp [limb_1_1, Cond.after, Cond.holds, Cond.value]), lw_limb limb_1_2 (fun args s t => Cond.after_iff.mpr (by
  first | (rw [show limb_1_2 = Cond.eq .result (.int 1) from rfl, Cond.eq_ints (x := 1) (y := 1) rfl rfl]; simp; done) | (simp [limb_1_2, Cond.value, Term.eval]; done)))⟩
end
