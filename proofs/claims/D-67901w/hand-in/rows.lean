section
-- ===== PART A: goes FIRST, ahead of the names: the tables' words, and 'selects' of the private methods out of them =====
/-- a private method of a class that the tables say can be made, by its rows of tables_1 -/
def lw_okq (q : MethodName × Nat) : Prop := (q.1.cls ≠ "java/lang/invoke/MethodHandle" ∧ q.1.cls ≠ "java/lang/invoke/VarHandle") ∧ Cond.instantiable q.1.cls q.2 ∈ tables_1 ∧ Cond.privateMethod q.1 ∈ tables_1 ∧ Cond.instanceMethod q.1 ∈ tables_1
theorem lw_p0 : lw_okq (⟨"java/lang/Throwable", "fillInStackTrace", "(I)Ljava/lang/Throwable;"⟩, 6) := ⟨⟨by decide +kernel, by decide +kernel⟩, List.mem_of_getElem? (i := 83) (by decide +kernel), List.mem_of_getElem? (i := 81) (by decide +kernel), List.mem_of_getElem? (i := 82) (by decide +kernel)⟩
theorem lw_p1 : lw_okq (⟨"ShareDesk", "is", "(I)Z"⟩, 5) := ⟨⟨by decide +kernel, by decide +kernel⟩, List.mem_of_getElem? (i := 10) (by decide +kernel), List.mem_of_getElem? (i := 115) (by decide +kernel), List.mem_of_getElem? (i := 116) (by decide +kernel)⟩
theorem lw_p2 : lw_okq (⟨"ShareDesk", "ready", "(II)V"⟩, 5) := ⟨⟨by decide +kernel, by decide +kernel⟩, List.mem_of_getElem? (i := 10) (by decide +kernel), List.mem_of_getElem? (i := 128) (by decide +kernel), List.mem_of_getElem? (i := 129) (by decide +kernel)⟩
theorem lw_p3 : lw_okq (⟨"ShareDesk", "give", "(II[I)V"⟩, 5) := ⟨⟨by decide +kernel, by decide +kernel⟩, List.mem_of_getElem? (i := 10) (by decide +kernel), List.mem_of_getElem? (i := 147) (by decide +kernel), List.mem_of_getElem? (i := 148) (by decide +kernel)⟩
theorem lw_p4 : lw_okq (⟨"ShareDesk", "rests", "(I[I)V"⟩, 5) := ⟨⟨by decide +kernel, by decide +kernel⟩, List.mem_of_getElem? (i := 10) (by decide +kernel), List.mem_of_getElem? (i := 151) (by decide +kernel), List.mem_of_getElem? (i := 152) (by decide +kernel)⟩
theorem lw_p5 : lw_okq (⟨"ShareDesk", "quotients", "(II[I)V"⟩, 5) := ⟨⟨by decide +kernel, by decide +kernel⟩, List.mem_of_getElem? (i := 10) (by decide +kernel), List.mem_of_getElem? (i := 156) (by decide +kernel), List.mem_of_getElem? (i := 157) (by decide +kernel)⟩
theorem lw_p6 : lw_okq (⟨"ShareDeskModel", "fails", "(ZI)Z"⟩, 6) := ⟨⟨by decide +kernel, by decide +kernel⟩, List.mem_of_getElem? (i := 197) (by decide +kernel), List.mem_of_getElem? (i := 236) (by decide +kernel), List.mem_of_getElem? (i := 237) (by decide +kernel)⟩
theorem lw_p7 : lw_okq (⟨"ShareDeskModel", "isParty", "(I)Z"⟩, 6) := ⟨⟨by decide +kernel, by decide +kernel⟩, List.mem_of_getElem? (i := 197) (by decide +kernel), List.mem_of_getElem? (i := 244) (by decide +kernel), List.mem_of_getElem? (i := 245) (by decide +kernel)⟩
theorem lw_p8 : lw_okq (⟨"ShareDeskModel", "all", "()J"⟩, 6) := ⟨⟨by decide +kernel, by decide +kernel⟩, List.mem_of_getElem? (i := 197) (by decide +kernel), List.mem_of_getElem? (i := 258) (by decide +kernel), List.mem_of_getElem? (i := 259) (by decide +kernel)⟩
theorem lw_p9 : lw_okq (⟨"ShareDeskModel", "give", "(II)V"⟩, 6) := ⟨⟨by decide +kernel, by decide +kernel⟩, List.mem_of_getElem? (i := 197) (by decide +kernel), List.mem_of_getElem? (i := 262) (by decide +kernel), List.mem_of_getElem? (i := 263) (by decide +kernel)⟩
theorem lw_p10 : lw_okq (⟨"ShareDeskModel", "parts", "(I)V"⟩, 6) := ⟨⟨by decide +kernel, by decide +kernel⟩, List.mem_of_getElem? (i := 197) (by decide +kernel), List.mem_of_getElem? (i := 266) (by decide +kernel), List.mem_of_getElem? (i := 267) (by decide +kernel)⟩
theorem lw_p11 : lw_okq (⟨"ShareDeskModel", "one", "(I)V"⟩, 6) := ⟨⟨by decide +kernel, by decide +kernel⟩, List.mem_of_getElem? (i := 197) (by decide +kernel), List.mem_of_getElem? (i := 270) (by decide +kernel), List.mem_of_getElem? (i := 271) (by decide +kernel)⟩
def lw_privs_1 : List (MethodName × Nat) := [(⟨"java/lang/Throwable", "fillInStackTrace", "(I)Ljava/lang/Throwable;"⟩, 6), (⟨"ShareDesk", "is", "(I)Z"⟩, 5), (⟨"ShareDesk", "ready", "(II)V"⟩, 5), (⟨"ShareDesk", "give", "(II[I)V"⟩, 5), (⟨"ShareDesk", "rests", "(I[I)V"⟩, 5), (⟨"ShareDesk", "quotients", "(II[I)V"⟩, 5), (⟨"ShareDeskModel", "fails", "(ZI)Z"⟩, 6), (⟨"ShareDeskModel", "isParty", "(I)Z"⟩, 6), (⟨"ShareDeskModel", "all", "()J"⟩, 6), (⟨"ShareDeskModel", "give", "(II)V"⟩, 6), (⟨"ShareDeskModel", "parts", "(I)V"⟩, 6), (⟨"ShareDeskModel", "one", "(I)V"⟩, 6)]
theorem lw_r1 : ∀ q ∈ lw_privs_1, lw_okq q := List.forall_mem_cons.mpr ⟨lw_p0, List.forall_mem_cons.mpr ⟨lw_p1, List.forall_mem_cons.mpr ⟨lw_p2, List.forall_mem_cons.mpr ⟨lw_p3, List.forall_mem_cons.mpr ⟨lw_p4, List.forall_mem_cons.mpr ⟨lw_p5, List.forall_mem_cons.mpr ⟨lw_p6, List.forall_mem_cons.mpr ⟨lw_p7, List.forall_mem_cons.mpr ⟨lw_p8, List.forall_mem_cons.mpr ⟨lw_p9, List.forall_mem_cons.mpr ⟨lw_p10, List.forall_mem_cons.mpr ⟨lw_p11, fun _ h => absurd h List.not_mem_nil⟩⟩⟩⟩⟩⟩⟩⟩⟩⟩⟩⟩
def lw_privs : List (MethodName × Nat) := lw_privs_1
def lw_tbl : List Cond := k2_sels lw_privs ++ tables_1
theorem lw_privs_ok : ∀ q ∈ lw_privs, lw_okq q := lw_r1
/-! my names and words -/
def gws : List Cond := lw_tbl.filter goodWord
theorem gw_mem {w : Cond} (i : Nat) (h : lw_tbl[i]? = some w) (hg : goodWord w = true) : w ∈ gws := List.mem_filter.mpr ⟨List.mem_of_getElem? h, hg⟩
def F_sd : u_T := fun k => match k with
  | 0 => ("ShareDesk", "weight", "[I", true)
  | 1 => ("ShareDesk", "share", "[I", true)
  | 2 => ("ShareDesk", "other", "[I", true)
  | 3 => ("ShareDesk", "parties", "I", false)
  | _ => ("ShareDesk", "whole", "I", false)
def t_sd : Nat → FieldType := fun k => match k with
  | 0 => .array .int
  | 1 => .array .int
  | 2 => .array .int
  | 3 => .int
  | _ => .int
def F_sm : u_T := fun k => match k with
  | 0 => ("ShareDeskModel", "err", "I", false)
  | 1 => ("ShareDeskModel", "parties", "I", false)
  | 2 => ("ShareDeskModel", "weights", "[J", true)
  | 3 => ("ShareDeskModel", "shares", "[J", true)
  | 4 => ("ShareDeskModel", "kept", "[J", true)
  | _ => ("ShareDeskModel", "got", "[Z", true)
def t_sm : Nat → FieldType := fun k => match k with
  | 0 => .int
  | 1 => .int
  | 2 => .array .long
  | 3 => .array .long
  | 4 => .array .long
  | _ => .array .boolean
abbrev cls2 : List vw_C := [("ShareDesk", F_sd, 5), ("ShareDeskModel", F_sm, 6)]
theorem n_sd : ∀ a, a < 5 → ∀ b, b < 5 → a ≠ b → (F_sd a).2.1 ≠ (F_sd b).2.1 := by decide +kernel
theorem t_sd_ok : ∀ k, k < 5 → parseFieldDescriptor (F_sd k).2.2.1 = some (t_sd k) := by decide +kernel
theorem n_sm : ∀ a, a < 6 → ∀ b, b < 6 → a ≠ b → (F_sm a).2.1 ≠ (F_sm b).2.1 := by decide +kernel
theorem t_sm_ok : ∀ k, k < 6 → parseFieldDescriptor (F_sm k).2.2.1 = some (t_sm k) := by decide +kernel
abbrev b_sd_init : ByteArray := prog_1_method_1_code
def y_sd_init : MethodName := ⟨"ShareDesk", "<init>", "()V"⟩
def w_sd_init : List Cond := .code y_sd_init b_sd_init 1 none :: gws
abbrev b_sl_begin : ByteArray := method_3_code
def y_sl_begin : MethodName := ⟨"ShareDeskLaw", "begin", "(LShareDesk;I)I"⟩
def w_sl_begin : List Cond := .codeWith y_sl_begin b_sl_begin 3 (some .int) [((0), (5), (8), (13))] :: gws
abbrev b_sd_begin : ByteArray := prog_1_method_4_code
def y_sd_begin : MethodName := ⟨"ShareDesk", "begin", "(I)V"⟩
def w_sd_begin : List Cond := .code y_sd_begin b_sd_begin 3 none :: gws
abbrev b_sd_good : ByteArray := prog_1_method_2_code
def y_sd_good : MethodName := ⟨"ShareDesk", "good", "(Z)V"⟩
def w_sd_good : List Cond := .code y_sd_good b_sd_good 1 none :: gws
abbrev b_sl_weight : ByteArray := method_4_code
def y_sl_weight : MethodName := ⟨"ShareDeskLaw", "weight", "(LShareDesk;II[J)I"⟩
def w_sl_weight : List Cond := .codeWith y_sl_weight b_sl_weight 5 (some .int) [((0), (10), (13), (13))] :: gws
abbrev b_sd_weight : ByteArray := prog_1_method_5_code
def y_sd_weight : MethodName := ⟨"ShareDesk", "weight", "(II)I"⟩
def w_sd_weight : List Cond := .code y_sd_weight b_sd_weight 4 (some .int) :: gws
abbrev b_sd_is : ByteArray := prog_1_method_3_code
def y_sd_is : MethodName := ⟨"ShareDesk", "is", "(I)Z"⟩
def w_sd_is : List Cond := .code y_sd_is b_sd_is 2 (some .boolean) :: gws
abbrev b_sl_share : ByteArray := method_5_code
def y_sl_share : MethodName := ⟨"ShareDeskLaw", "share", "(LShareDesk;III[J)I"⟩
def w_sl_share : List Cond := .codeWith y_sl_share b_sl_share 6 (some .int) [((0), (12), (15), (13)), ((0), (12), (19), (23))] :: gws
abbrev b_sd_share : ByteArray := prog_1_method_11_code
def y_sd_share : MethodName := ⟨"ShareDesk", "share", "(III)I"⟩
def w_sd_share : List Cond := .code y_sd_share b_sd_share 4 (some .int) :: gws
abbrev b_sd_ready : ByteArray := prog_1_method_6_code
def y_sd_ready : MethodName := ⟨"ShareDesk", "ready", "(II)V"⟩
def w_sd_ready : List Cond := .code y_sd_ready b_sd_ready 3 none :: gws
abbrev b_sd_give : ByteArray := prog_1_method_7_code
def y_sd_give : MethodName := ⟨"ShareDesk", "give", "(II[I)V"⟩
def w_sd_give : List Cond := .code y_sd_give b_sd_give 4 none :: gws
abbrev b_sd_rests : ByteArray := prog_1_method_8_code
def y_sd_rests : MethodName := ⟨"ShareDesk", "rests", "(I[I)V"⟩
def w_sd_rests : List Cond := .code y_sd_rests b_sd_rests 11 none :: gws
abbrev b_sd_quot : ByteArray := prog_1_method_9_code
def y_sd_quot : MethodName := ⟨"ShareDesk", "quotients", "(II[I)V"⟩
def w_sd_quot : List Cond := .code y_sd_quot b_sd_quot 9 none :: gws
abbrev b_jm_max : ByteArray := prog_7_method_65_code
def y_jm_max : MethodName := ⟨"java/lang/Math", "max", "(II)I"⟩
def w_jm_max : List Cond := .code y_jm_max b_jm_max 2 (some .int) :: gws
abbrev b_sd_by : ByteArray := prog_1_method_10_code
def y_sd_by : MethodName := ⟨"ShareDesk", "by", "(II)I"⟩
def w_sd_by : List Cond := .code y_sd_by b_sd_by 2 (some .int) :: gws
abbrev b_sl_over : ByteArray := method_6_code
def y_sl_over : MethodName := ⟨"ShareDeskLaw", "over", "(LShareDesk;III[J)I"⟩
def w_sl_over : List Cond := .codeWith y_sl_over b_sl_over 6 (some .int) [((0), (11), (14), (13)), ((0), (11), (18), (23))] :: gws
abbrev b_sd_over : ByteArray := prog_1_method_12_code
def y_sd_over : MethodName := ⟨"ShareDesk", "over", "(III)J"⟩
def w_sd_over : List Cond := .code y_sd_over b_sd_over 4 (some .long) :: gws
abbrev b_sl_next : ByteArray := method_7_code
def y_sl_next : MethodName := ⟨"ShareDeskLaw", "next", "(LShareDesk;II[J)I"⟩
def w_sl_next : List Cond := .codeWith y_sl_next b_sl_next 5 (some .int) [((0), (10), (13), (13)), ((0), (10), (17), (23))] :: gws
abbrev b_sd_next : ByteArray := prog_1_method_13_code
def y_sd_next : MethodName := ⟨"ShareDesk", "next", "(II)I"⟩
def w_sd_next : List Cond := .code y_sd_next b_sd_next 5 (some .int) :: gws
abbrev b_sl_least : ByteArray := method_8_code
def y_sl_least : MethodName := ⟨"ShareDeskLaw", "least", "(LShareDesk;III[J)I"⟩
def w_sl_least : List Cond := .codeWith y_sl_least b_sl_least 6 (some .int) [((0), (12), (15), (13)), ((0), (12), (19), (23))] :: gws
abbrev b_sd_least : ByteArray := prog_1_method_14_code
def y_sd_least : MethodName := ⟨"ShareDesk", "least", "(III)I"⟩
def w_sd_least : List Cond := .code y_sd_least b_sd_least 10 (some .int) :: gws
abbrev b_sl_count : ByteArray := method_9_code
def y_sl_count : MethodName := ⟨"ShareDeskLaw", "count", "(LShareDesk;I[J)I"⟩
def w_sl_count : List Cond := .codeWith y_sl_count b_sl_count 4 (some .int) [((0), (9), (12), (13))] :: gws
abbrev b_sd_count : ByteArray := prog_1_method_15_code
def y_sd_count : MethodName := ⟨"ShareDesk", "count", "(I)I"⟩
def w_sd_count : List Cond := .code y_sd_count b_sd_count 4 (some .int) :: gws
abbrev b_sm_init : ByteArray := prog_3_method_1_code
def y_sm_init : MethodName := ⟨"ShareDeskModel", "<init>", "()V"⟩
def w_sm_init : List Cond := .code y_sm_init b_sm_init 1 none :: gws
abbrev b_sm_thrown : ByteArray := prog_3_method_2_code
def y_sm_thrown : MethodName := ⟨"ShareDeskModel", "thrown", "()I"⟩
def w_sm_thrown : List Cond := .code y_sm_thrown b_sm_thrown 1 (some .int) :: gws
abbrev b_sm_begin : ByteArray := prog_3_method_8_code
def y_sm_begin : MethodName := ⟨"ShareDeskModel", "begin", "(I)V"⟩
def w_sm_begin : List Cond := .code y_sm_begin b_sm_begin 3 none :: gws
abbrev b_sm_in : ByteArray := prog_3_method_3_code
def y_sm_in : MethodName := ⟨"ShareDeskModel", "in", "(JJJ)Z"⟩
def w_sm_in : List Cond := .code y_sm_in b_sm_in 6 (some .boolean) :: gws
abbrev b_sm_fails : ByteArray := prog_3_method_4_code
def y_sm_fails : MethodName := ⟨"ShareDeskModel", "fails", "(ZI)Z"⟩
def w_sm_fails : List Cond := .code y_sm_fails b_sm_fails 3 (some .boolean) :: gws
abbrev b_sm_weight : ByteArray := prog_3_method_9_code
def y_sm_weight : MethodName := ⟨"ShareDeskModel", "weight", "(II)I"⟩
def w_sm_weight : List Cond := .code y_sm_weight b_sm_weight 4 (some .int) :: gws
abbrev b_sm_isParty : ByteArray := prog_3_method_6_code
def y_sm_isParty : MethodName := ⟨"ShareDeskModel", "isParty", "(I)Z"⟩
def w_sm_isParty : List Cond := .code y_sm_isParty b_sm_isParty 2 (some .boolean) :: gws
abbrev b_sm_share : ByteArray := prog_3_method_13_code
def y_sm_share : MethodName := ⟨"ShareDeskModel", "share", "(III)I"⟩
def w_sm_share : List Cond := .code y_sm_share b_sm_share 4 (some .int) :: gws
abbrev b_sm_isWay : ByteArray := prog_3_method_7_code
def y_sm_isWay : MethodName := ⟨"ShareDeskModel", "isWay", "(I)Z"⟩
def w_sm_isWay : List Cond := .code y_sm_isWay b_sm_isWay 1 (some .boolean) :: gws
abbrev b_sm_all : ByteArray := prog_3_method_5_code
def y_sm_all : MethodName := ⟨"ShareDeskModel", "all", "()J"⟩
def w_sm_all : List Cond := .code y_sm_all b_sm_all 4 (some .long) :: gws
abbrev b_sm_give : ByteArray := prog_3_method_12_code
def y_sm_give : MethodName := ⟨"ShareDeskModel", "give", "(II)V"⟩
def w_sm_give : List Cond := .code y_sm_give b_sm_give 4 none :: gws
abbrev b_sm_parts : ByteArray := prog_3_method_10_code
def y_sm_parts : MethodName := ⟨"ShareDeskModel", "parts", "(I)V"⟩
def w_sm_parts : List Cond := .code y_sm_parts b_sm_parts 8 none :: gws
abbrev b_sm_one : ByteArray := prog_3_method_11_code
def y_sm_one : MethodName := ⟨"ShareDeskModel", "one", "(I)V"⟩
def w_sm_one : List Cond := .code y_sm_one b_sm_one 4 none :: gws
abbrev b_sm_over : ByteArray := prog_3_method_14_code
def y_sm_over : MethodName := ⟨"ShareDeskModel", "over", "(III)J"⟩
def w_sm_over : List Cond := .code y_sm_over b_sm_over 4 (some .long) :: gws
abbrev b_sm_next : ByteArray := prog_3_method_15_code
def y_sm_next : MethodName := ⟨"ShareDeskModel", "next", "(II)I"⟩
def w_sm_next : List Cond := .code y_sm_next b_sm_next 5 (some .int) :: gws
abbrev b_sm_least : ByteArray := prog_3_method_16_code
def y_sm_least : MethodName := ⟨"ShareDeskModel", "least", "(III)I"⟩
def w_sm_least : List Cond := .code y_sm_least b_sm_least 5 (some .int) :: gws
abbrev b_sm_count : ByteArray := prog_3_method_17_code
def y_sm_count : MethodName := ⟨"ShareDeskModel", "count", "(I)I"⟩
def w_sm_count : List Cond := .code y_sm_count b_sm_count 4 (some .int) :: gws
theorem ks_0 : Cond.selects "java/lang/Throwable" ⟨"java/lang/Throwable", "fillInStackTrace", "(I)Ljava/lang/Throwable;"⟩ ⟨"java/lang/Throwable", "fillInStackTrace", "(I)Ljava/lang/Throwable;"⟩ ∈ gws := gw_mem 0 rfl rfl
theorem ks_1 : Cond.selects "ShareDesk" ⟨"ShareDesk", "is", "(I)Z"⟩ ⟨"ShareDesk", "is", "(I)Z"⟩ ∈ gws := gw_mem 1 rfl rfl
theorem ks_2 : Cond.selects "ShareDesk" ⟨"ShareDesk", "ready", "(II)V"⟩ ⟨"ShareDesk", "ready", "(II)V"⟩ ∈ gws := gw_mem 2 rfl rfl
theorem ks_3 : Cond.selects "ShareDesk" ⟨"ShareDesk", "give", "(II[I)V"⟩ ⟨"ShareDesk", "give", "(II[I)V"⟩ ∈ gws := gw_mem 3 rfl rfl
theorem ks_4 : Cond.selects "ShareDesk" ⟨"ShareDesk", "rests", "(I[I)V"⟩ ⟨"ShareDesk", "rests", "(I[I)V"⟩ ∈ gws := gw_mem 4 rfl rfl
theorem ks_5 : Cond.selects "ShareDesk" ⟨"ShareDesk", "quotients", "(II[I)V"⟩ ⟨"ShareDesk", "quotients", "(II[I)V"⟩ ∈ gws := gw_mem 5 rfl rfl
theorem ks_6 : Cond.selects "ShareDeskModel" ⟨"ShareDeskModel", "fails", "(ZI)Z"⟩ ⟨"ShareDeskModel", "fails", "(ZI)Z"⟩ ∈ gws := gw_mem 6 rfl rfl
theorem ks_7 : Cond.selects "ShareDeskModel" ⟨"ShareDeskModel", "isParty", "(I)Z"⟩ ⟨"ShareDeskModel", "isParty", "(I)Z"⟩ ∈ gws := gw_mem 7 rfl rfl
theorem ks_8 : Cond.selects "ShareDeskModel" ⟨"ShareDeskModel", "all", "()J"⟩ ⟨"ShareDeskModel", "all", "()J"⟩ ∈ gws := gw_mem 8 rfl rfl
theorem ks_9 : Cond.selects "ShareDeskModel" ⟨"ShareDeskModel", "give", "(II)V"⟩ ⟨"ShareDeskModel", "give", "(II)V"⟩ ∈ gws := gw_mem 9 rfl rfl
theorem ks_10 : Cond.selects "ShareDeskModel" ⟨"ShareDeskModel", "parts", "(I)V"⟩ ⟨"ShareDeskModel", "parts", "(I)V"⟩ ∈ gws := gw_mem 10 rfl rfl
theorem ks_11 : Cond.selects "ShareDeskModel" ⟨"ShareDeskModel", "one", "(I)V"⟩ ⟨"ShareDeskModel", "one", "(I)V"⟩ ∈ gws := gw_mem 11 rfl rfl
theorem k_0 : (.initialized "ShareDeskLaw" : Cond) ∈ gws := gw_mem 12 rfl rfl
theorem k_1 : (.initialized "ShareDesk" : Cond) ∈ gws := gw_mem 13 rfl rfl
theorem k_2 : (.initialized "ShareDeskModel" : Cond) ∈ gws := gw_mem 14 rfl rfl
theorem k_3 : (.initialized "java/lang/Throwable" : Cond) ∈ gws := gw_mem 15 rfl rfl
theorem k_4 : (.initialized "java/lang/Exception" : Cond) ∈ gws := gw_mem 16 rfl rfl
theorem k_5 : (.initialized "java/lang/RuntimeException" : Cond) ∈ gws := gw_mem 17 rfl rfl
theorem k_6 : (.initialized "java/lang/IllegalArgumentException" : Cond) ∈ gws := gw_mem 18 rfl rfl
theorem k_7 : (.initialized "java/lang/IllegalStateException" : Cond) ∈ gws := gw_mem 19 rfl rfl
theorem k_8 : (.initialized "java/lang/Math" : Cond) ∈ gws := gw_mem 20 rfl rfl
theorem k_9 : (.classLink "ShareDeskLaw" (8) "ShareDesk" : Cond) ∈ gws := gw_mem 21 rfl rfl
theorem k_10 : (.instantiable "ShareDesk" (5) : Cond) ∈ gws := gw_mem 22 rfl rfl
theorem k_11 : (.methodLink "ShareDeskLaw" (39) ⟨"ShareDesk", "<init>", "()V"⟩ : Cond) ∈ gws := gw_mem 23 rfl rfl
theorem k_12 : (.instanceMethod ⟨"ShareDesk", "<init>", "()V"⟩ : Cond) ∈ gws := gw_mem 24 rfl rfl
theorem k_13 : (.code ⟨"ShareDesk", "<init>", "()V"⟩ prog_1_method_1_code (1) none : Cond) ∈ gws := gw_mem 25 rfl rfl
theorem k_14 : (.methodLink "ShareDesk" (1) ⟨"java/lang/Object", "<init>", "()V"⟩ : Cond) ∈ gws := gw_mem 26 rfl rfl
theorem k_15 : (.instanceMethod ⟨"java/lang/Object", "<init>", "()V"⟩ : Cond) ∈ gws := gw_mem 27 rfl rfl
theorem k_16 : (.code ⟨"java/lang/Object", "<init>", "()V"⟩ object_method_1_code (1) none : Cond) ∈ gws := gw_mem 28 rfl rfl
theorem k_17 : (.fieldLink "ShareDesk" (9) "ShareDesk" "weight" "[I" : Cond) ∈ gws := gw_mem 29 rfl rfl
theorem k_18 : (.fieldLink "ShareDesk" (13) "ShareDesk" "share" "[I" : Cond) ∈ gws := gw_mem 30 rfl rfl
theorem k_19 : (.fieldLink "ShareDesk" (16) "ShareDesk" "other" "[I" : Cond) ∈ gws := gw_mem 31 rfl rfl
theorem k_20 : (.fieldLink "ShareDesk" (19) "ShareDesk" "parties" "I" : Cond) ∈ gws := gw_mem 32 rfl rfl
theorem k_21 : (.fieldLink "ShareDesk" (30) "ShareDesk" "whole" "I" : Cond) ∈ gws := gw_mem 33 rfl rfl
theorem k_22 : (.laysFinal "ShareDesk" "ShareDesk" "weight" "[I" : Cond) ∈ gws := gw_mem 34 rfl rfl
theorem k_24 : (.laysFinal "ShareDesk" "ShareDesk" "share" "[I" : Cond) ∈ gws := gw_mem 36 rfl rfl
theorem k_26 : (.laysFinal "ShareDesk" "ShareDesk" "other" "[I" : Cond) ∈ gws := gw_mem 38 rfl rfl
theorem k_28 : (.lays "ShareDesk" "ShareDesk" "parties" "I" : Cond) ∈ gws := gw_mem 40 rfl rfl
theorem k_30 : (.lays "ShareDesk" "ShareDesk" "whole" "I" : Cond) ∈ gws := gw_mem 42 rfl rfl
theorem k_33 : (.arrayClass .int : Cond) ∈ gws := gw_mem 45 rfl rfl
theorem k_34 : (.methodLink "ShareDeskLaw" (43) ⟨"ShareDeskLaw", "begin", "(LShareDesk;I)I"⟩ : Cond) ∈ gws := gw_mem 46 rfl rfl
theorem k_35 : (.static ⟨"ShareDeskLaw", "begin", "(LShareDesk;I)I"⟩ : Cond) ∈ gws := gw_mem 47 rfl rfl
theorem k_36 : (.codeWith ⟨"ShareDeskLaw", "begin", "(LShareDesk;I)I"⟩ method_3_code (3) (some .int) [((0), (5), (8), (13))] : Cond) ∈ gws := gw_mem 48 rfl rfl
theorem k_37 : (.classLink "ShareDeskLaw" (13) "java/lang/IllegalArgumentException" : Cond) ∈ gws := gw_mem 49 rfl rfl
theorem k_38 : (.methodLink "ShareDeskLaw" (7) ⟨"ShareDesk", "begin", "(I)V"⟩ : Cond) ∈ gws := gw_mem 50 rfl rfl
theorem k_39 : (.instanceMethod ⟨"ShareDesk", "begin", "(I)V"⟩ : Cond) ∈ gws := gw_mem 51 rfl rfl
theorem k_40 : (.selects "ShareDesk" ⟨"ShareDesk", "begin", "(I)V"⟩ ⟨"ShareDesk", "begin", "(I)V"⟩ : Cond) ∈ gws := gw_mem 52 rfl rfl
theorem k_41 : (.code ⟨"ShareDesk", "begin", "(I)V"⟩ prog_1_method_4_code (3) none : Cond) ∈ gws := gw_mem 53 rfl rfl
theorem k_42 : (.methodLink "ShareDesk" (26) ⟨"ShareDesk", "good", "(Z)V"⟩ : Cond) ∈ gws := gw_mem 54 rfl rfl
theorem k_43 : (.static ⟨"ShareDesk", "good", "(Z)V"⟩ : Cond) ∈ gws := gw_mem 55 rfl rfl
theorem k_44 : (.code ⟨"ShareDesk", "good", "(Z)V"⟩ prog_1_method_2_code (1) none : Cond) ∈ gws := gw_mem 56 rfl rfl
theorem k_45 : (.classLink "ShareDesk" (23) "java/lang/IllegalArgumentException" : Cond) ∈ gws := gw_mem 57 rfl rfl
theorem k_46 : (.instantiable "java/lang/IllegalArgumentException" (6) : Cond) ∈ gws := gw_mem 58 rfl rfl
theorem k_54 : (.selects "java/lang/IllegalArgumentException" ⟨"java/lang/Throwable", "fillInStackTrace", "(I)Ljava/lang/Throwable;"⟩ ⟨"java/lang/Throwable", "fillInStackTrace", "(I)Ljava/lang/Throwable;"⟩ : Cond) ∈ gws := gw_mem 66 rfl rfl
theorem k_55 : (.selects "java/lang/IllegalArgumentException" ⟨"java/lang/Throwable", "fillInStackTrace", "()Ljava/lang/Throwable;"⟩ ⟨"java/lang/Throwable", "fillInStackTrace", "()Ljava/lang/Throwable;"⟩ : Cond) ∈ gws := gw_mem 67 rfl rfl
theorem k_56 : (.lays "java/lang/IllegalArgumentException" "java/lang/Throwable" "cause" "Ljava/lang/Throwable;" : Cond) ∈ gws := gw_mem 68 rfl rfl
theorem k_57 : (.lays "java/lang/Throwable" "java/lang/Throwable" "cause" "Ljava/lang/Throwable;" : Cond) ∈ gws := gw_mem 69 rfl rfl
theorem k_58 : (.lays "java/lang/IllegalArgumentException" "java/lang/Throwable" "stackTrace" "[Ljava/lang/StackTraceElement;" : Cond) ∈ gws := gw_mem 70 rfl rfl
theorem k_59 : (.lays "java/lang/Throwable" "java/lang/Throwable" "stackTrace" "[Ljava/lang/StackTraceElement;" : Cond) ∈ gws := gw_mem 71 rfl rfl
theorem k_60 : (.lays "java/lang/IllegalArgumentException" "java/lang/Throwable" "suppressedExceptions" "Ljava/util/List;" : Cond) ∈ gws := gw_mem 72 rfl rfl
theorem k_61 : (.lays "java/lang/Throwable" "java/lang/Throwable" "suppressedExceptions" "Ljava/util/List;" : Cond) ∈ gws := gw_mem 73 rfl rfl
theorem k_62 : (.lays "java/lang/IllegalArgumentException" "java/lang/Throwable" "detailMessage" "Ljava/lang/String;" : Cond) ∈ gws := gw_mem 74 rfl rfl
theorem k_63 : (.lays "java/lang/Throwable" "java/lang/Throwable" "detailMessage" "Ljava/lang/String;" : Cond) ∈ gws := gw_mem 75 rfl rfl
theorem k_64 : (.lays "java/lang/IllegalArgumentException" "java/lang/Throwable" "backtrace" "Ljava/lang/Object;" : Cond) ∈ gws := gw_mem 76 rfl rfl
theorem k_65 : (.lays "java/lang/Throwable" "java/lang/Throwable" "backtrace" "Ljava/lang/Object;" : Cond) ∈ gws := gw_mem 77 rfl rfl
theorem k_66 : (.fieldLink "java/lang/Throwable" (198) "java/lang/Throwable" "backtrace" "Ljava/lang/Object;" : Cond) ∈ gws := gw_mem 78 rfl rfl
theorem k_67 : (.superclass "java/lang/Throwable" "java/lang/Object" : Cond) ∈ gws := gw_mem 79 rfl rfl
theorem k_68 : (.instanceMethod ⟨"java/lang/Throwable", "<init>", "()V"⟩ : Cond) ∈ gws := gw_mem 80 rfl rfl
theorem k_69 : (.code ⟨"java/lang/Throwable", "<init>", "()V"⟩ prog_9_method_1_code (1) none : Cond) ∈ gws := gw_mem 81 rfl rfl
theorem k_70 : (.methodLink "java/lang/Throwable" (1) ⟨"java/lang/Object", "<init>", "()V"⟩ : Cond) ∈ gws := gw_mem 82 rfl rfl
theorem k_71 : (.fieldLink "java/lang/Throwable" (13) "java/lang/Throwable" "UNASSIGNED_STACK" "[Ljava/lang/StackTraceElement;" : Cond) ∈ gws := gw_mem 83 rfl rfl
theorem k_73 : (.fieldLink "java/lang/Throwable" (20) "java/lang/Throwable" "SUPPRESSED_SENTINEL" "Ljava/util/List;" : Cond) ∈ gws := gw_mem 85 rfl rfl
theorem k_75 : (.methodLink "java/lang/Throwable" (27) ⟨"java/lang/Throwable", "fillInStackTrace", "()Ljava/lang/Throwable;"⟩ : Cond) ∈ gws := gw_mem 87 rfl rfl
theorem k_76 : (.instanceMethod ⟨"java/lang/Throwable", "fillInStackTrace", "()Ljava/lang/Throwable;"⟩ : Cond) ∈ gws := gw_mem 88 rfl rfl
theorem k_78 : (.selects "java/lang/IllegalStateException" ⟨"java/lang/Throwable", "fillInStackTrace", "()Ljava/lang/Throwable;"⟩ ⟨"java/lang/Throwable", "fillInStackTrace", "()Ljava/lang/Throwable;"⟩ : Cond) ∈ gws := gw_mem 90 rfl rfl
theorem k_79 : (.codeSync ⟨"java/lang/Throwable", "fillInStackTrace", "()Ljava/lang/Throwable;"⟩ prog_9_method_18_code (1) (some (.object "java/lang/Throwable")) : Cond) ∈ gws := gw_mem 91 rfl rfl
theorem k_80 : (.methodLink "java/lang/Throwable" (202) ⟨"java/lang/Throwable", "fillInStackTrace", "(I)Ljava/lang/Throwable;"⟩ : Cond) ∈ gws := gw_mem 92 rfl rfl
theorem k_82 : (.instanceMethod ⟨"java/lang/Throwable", "fillInStackTrace", "(I)Ljava/lang/Throwable;"⟩ : Cond) ∈ gws := gw_mem 94 rfl rfl
theorem k_83 : (.instantiable "java/lang/Throwable" (6) : Cond) ∈ gws := gw_mem 95 rfl rfl
theorem k_84 : (.native ⟨"java/lang/Throwable", "fillInStackTrace", "(I)Ljava/lang/Throwable;"⟩ : Cond) ∈ gws := gw_mem 96 rfl rfl
theorem k_85 : (.methodLink "ShareDesk" (25) ⟨"java/lang/IllegalArgumentException", "<init>", "()V"⟩ : Cond) ∈ gws := gw_mem 97 rfl rfl
theorem k_86 : (.instanceMethod ⟨"java/lang/IllegalArgumentException", "<init>", "()V"⟩ : Cond) ∈ gws := gw_mem 98 rfl rfl
theorem k_87 : (.code ⟨"java/lang/IllegalArgumentException", "<init>", "()V"⟩ prog_5_method_1_code (1) none : Cond) ∈ gws := gw_mem 99 rfl rfl
theorem k_88 : (.methodLink "java/lang/IllegalArgumentException" (1) ⟨"java/lang/RuntimeException", "<init>", "()V"⟩ : Cond) ∈ gws := gw_mem 100 rfl rfl
theorem k_89 : (.instanceMethod ⟨"java/lang/RuntimeException", "<init>", "()V"⟩ : Cond) ∈ gws := gw_mem 101 rfl rfl
theorem k_90 : (.code ⟨"java/lang/RuntimeException", "<init>", "()V"⟩ prog_8_method_1_code (1) none : Cond) ∈ gws := gw_mem 102 rfl rfl
theorem k_91 : (.methodLink "java/lang/RuntimeException" (1) ⟨"java/lang/Exception", "<init>", "()V"⟩ : Cond) ∈ gws := gw_mem 103 rfl rfl
theorem k_92 : (.instanceMethod ⟨"java/lang/Exception", "<init>", "()V"⟩ : Cond) ∈ gws := gw_mem 104 rfl rfl
theorem k_93 : (.code ⟨"java/lang/Exception", "<init>", "()V"⟩ prog_4_method_1_code (1) none : Cond) ∈ gws := gw_mem 105 rfl rfl
theorem k_94 : (.methodLink "java/lang/Exception" (1) ⟨"java/lang/Throwable", "<init>", "()V"⟩ : Cond) ∈ gws := gw_mem 106 rfl rfl
theorem k_95 : (.fieldLink "java/lang/Throwable" (198) "java/lang/Throwable" "backtrace" "Ljava/lang/Object;" : Cond) ∈ gws := gw_mem 107 rfl rfl
theorem k_96 : (.fieldLink "java/lang/Throwable" (7) "java/lang/Throwable" "cause" "Ljava/lang/Throwable;" : Cond) ∈ gws := gw_mem 108 rfl rfl
theorem k_97 : (.fieldLink "java/lang/Throwable" (17) "java/lang/Throwable" "stackTrace" "[Ljava/lang/StackTraceElement;" : Cond) ∈ gws := gw_mem 109 rfl rfl
theorem k_98 : (.fieldLink "java/lang/Throwable" (24) "java/lang/Throwable" "suppressedExceptions" "Ljava/util/List;" : Cond) ∈ gws := gw_mem 110 rfl rfl
theorem k_103 : (.lays "java/lang/IllegalArgumentException" "java/lang/Throwable" "depth" "I" : Cond) ∈ gws := gw_mem 115 rfl rfl
theorem k_107 : (.methodLink "ShareDeskLaw" (53) ⟨"ShareDeskLaw", "weight", "(LShareDesk;II[J)I"⟩ : Cond) ∈ gws := gw_mem 119 rfl rfl
theorem k_108 : (.static ⟨"ShareDeskLaw", "weight", "(LShareDesk;II[J)I"⟩ : Cond) ∈ gws := gw_mem 120 rfl rfl
theorem k_109 : (.codeWith ⟨"ShareDeskLaw", "weight", "(LShareDesk;II[J)I"⟩ method_4_code (5) (some .int) [((0), (10), (13), (13))] : Cond) ∈ gws := gw_mem 121 rfl rfl
theorem k_110 : (.methodLink "ShareDeskLaw" (15) ⟨"ShareDesk", "weight", "(II)I"⟩ : Cond) ∈ gws := gw_mem 122 rfl rfl
theorem k_111 : (.instanceMethod ⟨"ShareDesk", "weight", "(II)I"⟩ : Cond) ∈ gws := gw_mem 123 rfl rfl
theorem k_112 : (.selects "ShareDesk" ⟨"ShareDesk", "weight", "(II)I"⟩ ⟨"ShareDesk", "weight", "(II)I"⟩ : Cond) ∈ gws := gw_mem 124 rfl rfl
theorem k_113 : (.code ⟨"ShareDesk", "weight", "(II)I"⟩ prog_1_method_5_code (4) (some .int) : Cond) ∈ gws := gw_mem 125 rfl rfl
theorem k_114 : (.methodLink "ShareDesk" (33) ⟨"ShareDesk", "is", "(I)Z"⟩ : Cond) ∈ gws := gw_mem 126 rfl rfl
theorem k_116 : (.instanceMethod ⟨"ShareDesk", "is", "(I)Z"⟩ : Cond) ∈ gws := gw_mem 128 rfl rfl
theorem k_117 : (.code ⟨"ShareDesk", "is", "(I)Z"⟩ prog_1_method_3_code (2) (some .boolean) : Cond) ∈ gws := gw_mem 129 rfl rfl
theorem k_118 : (.constant "ShareDesk" (37) (100000 : Int32) : Cond) ∈ gws := gw_mem 130 rfl rfl
theorem k_119 : (.methodLink "ShareDeskLaw" (57) ⟨"ShareDeskLaw", "share", "(LShareDesk;III[J)I"⟩ : Cond) ∈ gws := gw_mem 131 rfl rfl
theorem k_120 : (.static ⟨"ShareDeskLaw", "share", "(LShareDesk;III[J)I"⟩ : Cond) ∈ gws := gw_mem 132 rfl rfl
theorem k_121 : (.codeWith ⟨"ShareDeskLaw", "share", "(LShareDesk;III[J)I"⟩ method_5_code (6) (some .int) [((0), (12), (15), (13)), ((0), (12), (19), (23))] : Cond) ∈ gws := gw_mem 133 rfl rfl
theorem k_122 : (.classLink "ShareDeskLaw" (23) "java/lang/IllegalStateException" : Cond) ∈ gws := gw_mem 134 rfl rfl
theorem k_123 : (.methodLink "ShareDeskLaw" (19) ⟨"ShareDesk", "share", "(III)I"⟩ : Cond) ∈ gws := gw_mem 135 rfl rfl
theorem k_124 : (.instanceMethod ⟨"ShareDesk", "share", "(III)I"⟩ : Cond) ∈ gws := gw_mem 136 rfl rfl
theorem k_125 : (.selects "ShareDesk" ⟨"ShareDesk", "share", "(III)I"⟩ ⟨"ShareDesk", "share", "(III)I"⟩ : Cond) ∈ gws := gw_mem 137 rfl rfl
theorem k_126 : (.code ⟨"ShareDesk", "share", "(III)I"⟩ prog_1_method_11_code (4) (some .int) : Cond) ∈ gws := gw_mem 138 rfl rfl
theorem k_127 : (.methodLink "ShareDesk" (62) ⟨"ShareDesk", "ready", "(II)V"⟩ : Cond) ∈ gws := gw_mem 139 rfl rfl
theorem k_129 : (.instanceMethod ⟨"ShareDesk", "ready", "(II)V"⟩ : Cond) ∈ gws := gw_mem 141 rfl rfl
theorem k_130 : (.code ⟨"ShareDesk", "ready", "(II)V"⟩ prog_1_method_6_code (3) none : Cond) ∈ gws := gw_mem 142 rfl rfl
theorem k_131 : (.classLink "ShareDesk" (38) "java/lang/IllegalStateException" : Cond) ∈ gws := gw_mem 143 rfl rfl
theorem k_132 : (.instantiable "java/lang/IllegalStateException" (6) : Cond) ∈ gws := gw_mem 144 rfl rfl
theorem k_134 : (.selects "java/lang/IllegalStateException" ⟨"java/lang/Throwable", "fillInStackTrace", "(I)Ljava/lang/Throwable;"⟩ ⟨"java/lang/Throwable", "fillInStackTrace", "(I)Ljava/lang/Throwable;"⟩ : Cond) ∈ gws := gw_mem 146 rfl rfl
theorem k_135 : (.lays "java/lang/IllegalStateException" "java/lang/Throwable" "cause" "Ljava/lang/Throwable;" : Cond) ∈ gws := gw_mem 147 rfl rfl
theorem k_136 : (.lays "java/lang/IllegalStateException" "java/lang/Throwable" "stackTrace" "[Ljava/lang/StackTraceElement;" : Cond) ∈ gws := gw_mem 148 rfl rfl
theorem k_137 : (.lays "java/lang/IllegalStateException" "java/lang/Throwable" "suppressedExceptions" "Ljava/util/List;" : Cond) ∈ gws := gw_mem 149 rfl rfl
theorem k_138 : (.lays "java/lang/IllegalStateException" "java/lang/Throwable" "detailMessage" "Ljava/lang/String;" : Cond) ∈ gws := gw_mem 150 rfl rfl
theorem k_139 : (.lays "java/lang/IllegalStateException" "java/lang/Throwable" "backtrace" "Ljava/lang/Object;" : Cond) ∈ gws := gw_mem 151 rfl rfl
theorem k_140 : (.methodLink "ShareDesk" (40) ⟨"java/lang/IllegalStateException", "<init>", "()V"⟩ : Cond) ∈ gws := gw_mem 152 rfl rfl
theorem k_141 : (.instanceMethod ⟨"java/lang/IllegalStateException", "<init>", "()V"⟩ : Cond) ∈ gws := gw_mem 153 rfl rfl
theorem k_142 : (.code ⟨"java/lang/IllegalStateException", "<init>", "()V"⟩ prog_6_method_1_code (1) none : Cond) ∈ gws := gw_mem 154 rfl rfl
theorem k_143 : (.methodLink "java/lang/IllegalStateException" (1) ⟨"java/lang/RuntimeException", "<init>", "()V"⟩ : Cond) ∈ gws := gw_mem 155 rfl rfl
theorem k_144 : (.lays "java/lang/IllegalStateException" "java/lang/Throwable" "depth" "I" : Cond) ∈ gws := gw_mem 156 rfl rfl
theorem k_146 : (.methodLink "ShareDesk" (66) ⟨"ShareDesk", "give", "(II[I)V"⟩ : Cond) ∈ gws := gw_mem 158 rfl rfl
theorem k_148 : (.instanceMethod ⟨"ShareDesk", "give", "(II[I)V"⟩ : Cond) ∈ gws := gw_mem 160 rfl rfl
theorem k_149 : (.code ⟨"ShareDesk", "give", "(II[I)V"⟩ prog_1_method_7_code (4) none : Cond) ∈ gws := gw_mem 161 rfl rfl
theorem k_150 : (.methodLink "ShareDesk" (41) ⟨"ShareDesk", "rests", "(I[I)V"⟩ : Cond) ∈ gws := gw_mem 162 rfl rfl
theorem k_152 : (.instanceMethod ⟨"ShareDesk", "rests", "(I[I)V"⟩ : Cond) ∈ gws := gw_mem 164 rfl rfl
theorem k_153 : (.code ⟨"ShareDesk", "rests", "(I[I)V"⟩ prog_1_method_8_code (11) none : Cond) ∈ gws := gw_mem 165 rfl rfl
theorem k_154 : (.constantLong "ShareDesk" (49) (-1 : Int64) : Cond) ∈ gws := gw_mem 166 rfl rfl
theorem k_155 : (.methodLink "ShareDesk" (45) ⟨"ShareDesk", "quotients", "(II[I)V"⟩ : Cond) ∈ gws := gw_mem 167 rfl rfl
theorem k_157 : (.instanceMethod ⟨"ShareDesk", "quotients", "(II[I)V"⟩ : Cond) ∈ gws := gw_mem 169 rfl rfl
theorem k_158 : (.code ⟨"ShareDesk", "quotients", "(II[I)V"⟩ prog_1_method_9_code (9) none : Cond) ∈ gws := gw_mem 170 rfl rfl
theorem k_159 : (.methodLink "ShareDesk" (51) ⟨"java/lang/Math", "max", "(II)I"⟩ : Cond) ∈ gws := gw_mem 171 rfl rfl
theorem k_160 : (.static ⟨"java/lang/Math", "max", "(II)I"⟩ : Cond) ∈ gws := gw_mem 172 rfl rfl
theorem k_161 : (.code ⟨"java/lang/Math", "max", "(II)I"⟩ prog_7_method_65_code (2) (some .int) : Cond) ∈ gws := gw_mem 173 rfl rfl
theorem k_162 : (.constantLong "ShareDesk" (57) (2 : Int64) : Cond) ∈ gws := gw_mem 174 rfl rfl
theorem k_163 : (.methodLink "ShareDesk" (59) ⟨"ShareDesk", "by", "(II)I"⟩ : Cond) ∈ gws := gw_mem 175 rfl rfl
theorem k_164 : (.static ⟨"ShareDesk", "by", "(II)I"⟩ : Cond) ∈ gws := gw_mem 176 rfl rfl
theorem k_165 : (.code ⟨"ShareDesk", "by", "(II)I"⟩ prog_1_method_10_code (2) (some .int) : Cond) ∈ gws := gw_mem 177 rfl rfl
theorem k_166 : (.methodLink "ShareDeskLaw" (61) ⟨"ShareDeskLaw", "over", "(LShareDesk;III[J)I"⟩ : Cond) ∈ gws := gw_mem 178 rfl rfl
theorem k_167 : (.static ⟨"ShareDeskLaw", "over", "(LShareDesk;III[J)I"⟩ : Cond) ∈ gws := gw_mem 179 rfl rfl
theorem k_168 : (.codeWith ⟨"ShareDeskLaw", "over", "(LShareDesk;III[J)I"⟩ method_6_code (6) (some .int) [((0), (11), (14), (13)), ((0), (11), (18), (23))] : Cond) ∈ gws := gw_mem 180 rfl rfl
theorem k_169 : (.methodLink "ShareDeskLaw" (25) ⟨"ShareDesk", "over", "(III)J"⟩ : Cond) ∈ gws := gw_mem 181 rfl rfl
theorem k_170 : (.instanceMethod ⟨"ShareDesk", "over", "(III)J"⟩ : Cond) ∈ gws := gw_mem 182 rfl rfl
theorem k_171 : (.selects "ShareDesk" ⟨"ShareDesk", "over", "(III)J"⟩ ⟨"ShareDesk", "over", "(III)J"⟩ : Cond) ∈ gws := gw_mem 183 rfl rfl
theorem k_172 : (.code ⟨"ShareDesk", "over", "(III)J"⟩ prog_1_method_12_code (4) (some .long) : Cond) ∈ gws := gw_mem 184 rfl rfl
theorem k_173 : (.methodLink "ShareDesk" (69) ⟨"ShareDesk", "share", "(III)I"⟩ : Cond) ∈ gws := gw_mem 185 rfl rfl
theorem k_174 : (.methodLink "ShareDeskLaw" (64) ⟨"ShareDeskLaw", "next", "(LShareDesk;II[J)I"⟩ : Cond) ∈ gws := gw_mem 186 rfl rfl
theorem k_175 : (.static ⟨"ShareDeskLaw", "next", "(LShareDesk;II[J)I"⟩ : Cond) ∈ gws := gw_mem 187 rfl rfl
theorem k_176 : (.codeWith ⟨"ShareDeskLaw", "next", "(LShareDesk;II[J)I"⟩ method_7_code (5) (some .int) [((0), (10), (13), (13)), ((0), (10), (17), (23))] : Cond) ∈ gws := gw_mem 188 rfl rfl
theorem k_177 : (.methodLink "ShareDeskLaw" (29) ⟨"ShareDesk", "next", "(II)I"⟩ : Cond) ∈ gws := gw_mem 189 rfl rfl
theorem k_178 : (.instanceMethod ⟨"ShareDesk", "next", "(II)I"⟩ : Cond) ∈ gws := gw_mem 190 rfl rfl
theorem k_179 : (.selects "ShareDesk" ⟨"ShareDesk", "next", "(II)I"⟩ ⟨"ShareDesk", "next", "(II)I"⟩ : Cond) ∈ gws := gw_mem 191 rfl rfl
theorem k_180 : (.code ⟨"ShareDesk", "next", "(II)I"⟩ prog_1_method_13_code (5) (some .int) : Cond) ∈ gws := gw_mem 192 rfl rfl
theorem k_181 : (.methodLink "ShareDeskLaw" (67) ⟨"ShareDeskLaw", "least", "(LShareDesk;III[J)I"⟩ : Cond) ∈ gws := gw_mem 193 rfl rfl
theorem k_182 : (.static ⟨"ShareDeskLaw", "least", "(LShareDesk;III[J)I"⟩ : Cond) ∈ gws := gw_mem 194 rfl rfl
theorem k_183 : (.codeWith ⟨"ShareDeskLaw", "least", "(LShareDesk;III[J)I"⟩ method_8_code (6) (some .int) [((0), (12), (15), (13)), ((0), (12), (19), (23))] : Cond) ∈ gws := gw_mem 195 rfl rfl
theorem k_184 : (.methodLink "ShareDeskLaw" (32) ⟨"ShareDesk", "least", "(III)I"⟩ : Cond) ∈ gws := gw_mem 196 rfl rfl
theorem k_185 : (.instanceMethod ⟨"ShareDesk", "least", "(III)I"⟩ : Cond) ∈ gws := gw_mem 197 rfl rfl
theorem k_186 : (.selects "ShareDesk" ⟨"ShareDesk", "least", "(III)I"⟩ ⟨"ShareDesk", "least", "(III)I"⟩ : Cond) ∈ gws := gw_mem 198 rfl rfl
theorem k_187 : (.code ⟨"ShareDesk", "least", "(III)I"⟩ prog_1_method_14_code (10) (some .int) : Cond) ∈ gws := gw_mem 199 rfl rfl
theorem k_188 : (.constantLong "ShareDesk" (72) (10000 : Int64) : Cond) ∈ gws := gw_mem 200 rfl rfl
theorem k_189 : (.methodLink "ShareDeskLaw" (70) ⟨"ShareDeskLaw", "count", "(LShareDesk;I[J)I"⟩ : Cond) ∈ gws := gw_mem 201 rfl rfl
theorem k_190 : (.static ⟨"ShareDeskLaw", "count", "(LShareDesk;I[J)I"⟩ : Cond) ∈ gws := gw_mem 202 rfl rfl
theorem k_191 : (.codeWith ⟨"ShareDeskLaw", "count", "(LShareDesk;I[J)I"⟩ method_9_code (4) (some .int) [((0), (9), (12), (13))] : Cond) ∈ gws := gw_mem 203 rfl rfl
theorem k_192 : (.methodLink "ShareDeskLaw" (35) ⟨"ShareDesk", "count", "(I)I"⟩ : Cond) ∈ gws := gw_mem 204 rfl rfl
theorem k_193 : (.instanceMethod ⟨"ShareDesk", "count", "(I)I"⟩ : Cond) ∈ gws := gw_mem 205 rfl rfl
theorem k_194 : (.selects "ShareDesk" ⟨"ShareDesk", "count", "(I)I"⟩ ⟨"ShareDesk", "count", "(I)I"⟩ : Cond) ∈ gws := gw_mem 206 rfl rfl
theorem k_195 : (.code ⟨"ShareDesk", "count", "(I)I"⟩ prog_1_method_15_code (4) (some .int) : Cond) ∈ gws := gw_mem 207 rfl rfl
theorem k_196 : (.classLink "ShareDeskLaw" (40) "ShareDeskModel" : Cond) ∈ gws := gw_mem 208 rfl rfl
theorem k_197 : (.instantiable "ShareDeskModel" (6) : Cond) ∈ gws := gw_mem 209 rfl rfl
theorem k_198 : (.methodLink "ShareDeskLaw" (42) ⟨"ShareDeskModel", "<init>", "()V"⟩ : Cond) ∈ gws := gw_mem 210 rfl rfl
theorem k_199 : (.instanceMethod ⟨"ShareDeskModel", "<init>", "()V"⟩ : Cond) ∈ gws := gw_mem 211 rfl rfl
theorem k_200 : (.code ⟨"ShareDeskModel", "<init>", "()V"⟩ prog_3_method_1_code (1) none : Cond) ∈ gws := gw_mem 212 rfl rfl
theorem k_201 : (.methodLink "ShareDeskModel" (1) ⟨"java/lang/Object", "<init>", "()V"⟩ : Cond) ∈ gws := gw_mem 213 rfl rfl
theorem k_202 : (.fieldLink "ShareDeskModel" (27) "ShareDeskModel" "err" "I" : Cond) ∈ gws := gw_mem 214 rfl rfl
theorem k_203 : (.fieldLink "ShareDeskModel" (7) "ShareDeskModel" "parties" "I" : Cond) ∈ gws := gw_mem 215 rfl rfl
theorem k_204 : (.fieldLink "ShareDeskModel" (13) "ShareDeskModel" "weights" "[J" : Cond) ∈ gws := gw_mem 216 rfl rfl
theorem k_205 : (.fieldLink "ShareDeskModel" (17) "ShareDeskModel" "shares" "[J" : Cond) ∈ gws := gw_mem 217 rfl rfl
theorem k_206 : (.fieldLink "ShareDeskModel" (20) "ShareDeskModel" "kept" "[J" : Cond) ∈ gws := gw_mem 218 rfl rfl
theorem k_207 : (.fieldLink "ShareDeskModel" (23) "ShareDeskModel" "got" "[Z" : Cond) ∈ gws := gw_mem 219 rfl rfl
theorem k_208 : (.lays "ShareDeskModel" "ShareDeskModel" "err" "I" : Cond) ∈ gws := gw_mem 220 rfl rfl
theorem k_210 : (.lays "ShareDeskModel" "ShareDeskModel" "parties" "I" : Cond) ∈ gws := gw_mem 222 rfl rfl
theorem k_212 : (.laysFinal "ShareDeskModel" "ShareDeskModel" "weights" "[J" : Cond) ∈ gws := gw_mem 224 rfl rfl
theorem k_214 : (.laysFinal "ShareDeskModel" "ShareDeskModel" "shares" "[J" : Cond) ∈ gws := gw_mem 226 rfl rfl
theorem k_216 : (.laysFinal "ShareDeskModel" "ShareDeskModel" "kept" "[J" : Cond) ∈ gws := gw_mem 228 rfl rfl
theorem k_218 : (.laysFinal "ShareDeskModel" "ShareDeskModel" "got" "[Z" : Cond) ∈ gws := gw_mem 230 rfl rfl
theorem k_221 : (.arrayClass .long : Cond) ∈ gws := gw_mem 233 rfl rfl
theorem k_222 : (.arrayClass .boolean : Cond) ∈ gws := gw_mem 234 rfl rfl
theorem k_223 : (.methodLink "ShareDeskLaw" (49) ⟨"ShareDeskModel", "thrown", "()I"⟩ : Cond) ∈ gws := gw_mem 235 rfl rfl
theorem k_224 : (.instanceMethod ⟨"ShareDeskModel", "thrown", "()I"⟩ : Cond) ∈ gws := gw_mem 236 rfl rfl
theorem k_225 : (.selects "ShareDeskModel" ⟨"ShareDeskModel", "thrown", "()I"⟩ ⟨"ShareDeskModel", "thrown", "()I"⟩ : Cond) ∈ gws := gw_mem 237 rfl rfl
theorem k_226 : (.code ⟨"ShareDeskModel", "thrown", "()I"⟩ prog_3_method_2_code (1) (some .int) : Cond) ∈ gws := gw_mem 238 rfl rfl
theorem k_227 : (.methodLink "ShareDeskLaw" (48) ⟨"ShareDeskModel", "begin", "(I)V"⟩ : Cond) ∈ gws := gw_mem 239 rfl rfl
theorem k_228 : (.instanceMethod ⟨"ShareDeskModel", "begin", "(I)V"⟩ : Cond) ∈ gws := gw_mem 240 rfl rfl
theorem k_229 : (.selects "ShareDeskModel" ⟨"ShareDeskModel", "begin", "(I)V"⟩ ⟨"ShareDeskModel", "begin", "(I)V"⟩ : Cond) ∈ gws := gw_mem 241 rfl rfl
theorem k_230 : (.code ⟨"ShareDeskModel", "begin", "(I)V"⟩ prog_3_method_8_code (3) none : Cond) ∈ gws := gw_mem 242 rfl rfl
theorem k_231 : (.constantLong "ShareDeskModel" (36) (8 : Int64) : Cond) ∈ gws := gw_mem 243 rfl rfl
theorem k_232 : (.methodLink "ShareDeskModel" (30) ⟨"ShareDeskModel", "in", "(JJJ)Z"⟩ : Cond) ∈ gws := gw_mem 244 rfl rfl
theorem k_233 : (.static ⟨"ShareDeskModel", "in", "(JJJ)Z"⟩ : Cond) ∈ gws := gw_mem 245 rfl rfl
theorem k_234 : (.code ⟨"ShareDeskModel", "in", "(JJJ)Z"⟩ prog_3_method_3_code (6) (some .boolean) : Cond) ∈ gws := gw_mem 246 rfl rfl
theorem k_235 : (.methodLink "ShareDeskModel" (38) ⟨"ShareDeskModel", "fails", "(ZI)Z"⟩ : Cond) ∈ gws := gw_mem 247 rfl rfl
theorem k_237 : (.instanceMethod ⟨"ShareDeskModel", "fails", "(ZI)Z"⟩ : Cond) ∈ gws := gw_mem 249 rfl rfl
theorem k_238 : (.code ⟨"ShareDeskModel", "fails", "(ZI)Z"⟩ prog_3_method_4_code (3) (some .boolean) : Cond) ∈ gws := gw_mem 250 rfl rfl
theorem k_239 : (.methodLink "ShareDeskLaw" (56) ⟨"ShareDeskModel", "weight", "(II)I"⟩ : Cond) ∈ gws := gw_mem 251 rfl rfl
theorem k_240 : (.instanceMethod ⟨"ShareDeskModel", "weight", "(II)I"⟩ : Cond) ∈ gws := gw_mem 252 rfl rfl
theorem k_241 : (.selects "ShareDeskModel" ⟨"ShareDeskModel", "weight", "(II)I"⟩ ⟨"ShareDeskModel", "weight", "(II)I"⟩ : Cond) ∈ gws := gw_mem 253 rfl rfl
theorem k_242 : (.code ⟨"ShareDeskModel", "weight", "(II)I"⟩ prog_3_method_9_code (4) (some .int) : Cond) ∈ gws := gw_mem 254 rfl rfl
theorem k_243 : (.methodLink "ShareDeskModel" (42) ⟨"ShareDeskModel", "isParty", "(I)Z"⟩ : Cond) ∈ gws := gw_mem 255 rfl rfl
theorem k_245 : (.instanceMethod ⟨"ShareDeskModel", "isParty", "(I)Z"⟩ : Cond) ∈ gws := gw_mem 257 rfl rfl
theorem k_246 : (.code ⟨"ShareDeskModel", "isParty", "(I)Z"⟩ prog_3_method_6_code (2) (some .boolean) : Cond) ∈ gws := gw_mem 258 rfl rfl
theorem k_247 : (.constantLong "ShareDeskModel" (46) (100000 : Int64) : Cond) ∈ gws := gw_mem 259 rfl rfl
theorem k_248 : (.methodLink "ShareDeskLaw" (60) ⟨"ShareDeskModel", "share", "(III)I"⟩ : Cond) ∈ gws := gw_mem 260 rfl rfl
theorem k_249 : (.instanceMethod ⟨"ShareDeskModel", "share", "(III)I"⟩ : Cond) ∈ gws := gw_mem 261 rfl rfl
theorem k_250 : (.selects "ShareDeskModel" ⟨"ShareDeskModel", "share", "(III)I"⟩ ⟨"ShareDeskModel", "share", "(III)I"⟩ : Cond) ∈ gws := gw_mem 262 rfl rfl
theorem k_251 : (.code ⟨"ShareDeskModel", "share", "(III)I"⟩ prog_3_method_13_code (4) (some .int) : Cond) ∈ gws := gw_mem 263 rfl rfl
theorem k_252 : (.methodLink "ShareDeskModel" (59) ⟨"ShareDeskModel", "isWay", "(I)Z"⟩ : Cond) ∈ gws := gw_mem 264 rfl rfl
theorem k_253 : (.static ⟨"ShareDeskModel", "isWay", "(I)Z"⟩ : Cond) ∈ gws := gw_mem 265 rfl rfl
theorem k_254 : (.code ⟨"ShareDeskModel", "isWay", "(I)Z"⟩ prog_3_method_7_code (1) (some .boolean) : Cond) ∈ gws := gw_mem 266 rfl rfl
theorem k_255 : (.constantLong "ShareDeskModel" (34) (2 : Int64) : Cond) ∈ gws := gw_mem 267 rfl rfl
theorem k_256 : (.constantLong "ShareDeskModel" (62) (10000 : Int64) : Cond) ∈ gws := gw_mem 268 rfl rfl
theorem k_257 : (.methodLink "ShareDeskModel" (48) ⟨"ShareDeskModel", "all", "()J"⟩ : Cond) ∈ gws := gw_mem 269 rfl rfl
theorem k_259 : (.instanceMethod ⟨"ShareDeskModel", "all", "()J"⟩ : Cond) ∈ gws := gw_mem 271 rfl rfl
theorem k_260 : (.code ⟨"ShareDeskModel", "all", "()J"⟩ prog_3_method_5_code (4) (some .long) : Cond) ∈ gws := gw_mem 272 rfl rfl
theorem k_261 : (.methodLink "ShareDeskModel" (64) ⟨"ShareDeskModel", "give", "(II)V"⟩ : Cond) ∈ gws := gw_mem 273 rfl rfl
theorem k_263 : (.instanceMethod ⟨"ShareDeskModel", "give", "(II)V"⟩ : Cond) ∈ gws := gw_mem 275 rfl rfl
theorem k_264 : (.code ⟨"ShareDeskModel", "give", "(II)V"⟩ prog_3_method_12_code (4) none : Cond) ∈ gws := gw_mem 276 rfl rfl
theorem k_265 : (.methodLink "ShareDeskModel" (52) ⟨"ShareDeskModel", "parts", "(I)V"⟩ : Cond) ∈ gws := gw_mem 277 rfl rfl
theorem k_267 : (.instanceMethod ⟨"ShareDeskModel", "parts", "(I)V"⟩ : Cond) ∈ gws := gw_mem 279 rfl rfl
theorem k_268 : (.code ⟨"ShareDeskModel", "parts", "(I)V"⟩ prog_3_method_10_code (8) none : Cond) ∈ gws := gw_mem 280 rfl rfl
theorem k_269 : (.methodLink "ShareDeskModel" (56) ⟨"ShareDeskModel", "one", "(I)V"⟩ : Cond) ∈ gws := gw_mem 281 rfl rfl
theorem k_271 : (.instanceMethod ⟨"ShareDeskModel", "one", "(I)V"⟩ : Cond) ∈ gws := gw_mem 283 rfl rfl
theorem k_272 : (.code ⟨"ShareDeskModel", "one", "(I)V"⟩ prog_3_method_11_code (4) none : Cond) ∈ gws := gw_mem 284 rfl rfl
theorem k_273 : (.methodLink "ShareDeskLaw" (63) ⟨"ShareDeskModel", "over", "(III)J"⟩ : Cond) ∈ gws := gw_mem 285 rfl rfl
theorem k_274 : (.instanceMethod ⟨"ShareDeskModel", "over", "(III)J"⟩ : Cond) ∈ gws := gw_mem 286 rfl rfl
theorem k_275 : (.selects "ShareDeskModel" ⟨"ShareDeskModel", "over", "(III)J"⟩ ⟨"ShareDeskModel", "over", "(III)J"⟩ : Cond) ∈ gws := gw_mem 287 rfl rfl
theorem k_276 : (.code ⟨"ShareDeskModel", "over", "(III)J"⟩ prog_3_method_14_code (4) (some .long) : Cond) ∈ gws := gw_mem 288 rfl rfl
theorem k_277 : (.methodLink "ShareDeskLaw" (66) ⟨"ShareDeskModel", "next", "(II)I"⟩ : Cond) ∈ gws := gw_mem 289 rfl rfl
theorem k_278 : (.instanceMethod ⟨"ShareDeskModel", "next", "(II)I"⟩ : Cond) ∈ gws := gw_mem 290 rfl rfl
theorem k_279 : (.selects "ShareDeskModel" ⟨"ShareDeskModel", "next", "(II)I"⟩ ⟨"ShareDeskModel", "next", "(II)I"⟩ : Cond) ∈ gws := gw_mem 291 rfl rfl
theorem k_280 : (.code ⟨"ShareDeskModel", "next", "(II)I"⟩ prog_3_method_15_code (5) (some .int) : Cond) ∈ gws := gw_mem 292 rfl rfl
theorem k_281 : (.constantLong "ShareDeskModel" (68) (9999 : Int64) : Cond) ∈ gws := gw_mem 293 rfl rfl
theorem k_282 : (.methodLink "ShareDeskLaw" (69) ⟨"ShareDeskModel", "least", "(III)I"⟩ : Cond) ∈ gws := gw_mem 294 rfl rfl
theorem k_283 : (.instanceMethod ⟨"ShareDeskModel", "least", "(III)I"⟩ : Cond) ∈ gws := gw_mem 295 rfl rfl
theorem k_284 : (.selects "ShareDeskModel" ⟨"ShareDeskModel", "least", "(III)I"⟩ ⟨"ShareDeskModel", "least", "(III)I"⟩ : Cond) ∈ gws := gw_mem 296 rfl rfl
theorem k_285 : (.code ⟨"ShareDeskModel", "least", "(III)I"⟩ prog_3_method_16_code (5) (some .int) : Cond) ∈ gws := gw_mem 297 rfl rfl
theorem k_286 : (.methodLink "ShareDeskLaw" (73) ⟨"ShareDeskModel", "count", "(I)I"⟩ : Cond) ∈ gws := gw_mem 298 rfl rfl
theorem k_287 : (.instanceMethod ⟨"ShareDeskModel", "count", "(I)I"⟩ : Cond) ∈ gws := gw_mem 299 rfl rfl
theorem k_288 : (.selects "ShareDeskModel" ⟨"ShareDeskModel", "count", "(I)I"⟩ ⟨"ShareDeskModel", "count", "(I)I"⟩ : Cond) ∈ gws := gw_mem 300 rfl rfl
theorem k_289 : (.code ⟨"ShareDeskModel", "count", "(I)I"⟩ prog_3_method_17_code (4) (some .int) : Cond) ∈ gws := gw_mem 301 rfl rfl
theorem u_sd : ∀ w ∈ u_ws "ShareDesk" F_sd 5, w ∈ gws := by
  intro w hw
  obtain ⟨k, hk, rfl⟩ := List.mem_map.mp hw
  have hk := List.mem_range.mp hk
  rcases (show k = 0 ∨ k = 1 ∨ k = 2 ∨ k = 3 ∨ k = 4 by omega) with rfl | rfl | rfl | rfl | rfl
  · exact k_22
  · exact k_24
  · exact k_26
  · exact k_28
  · exact k_30
theorem u_sm : ∀ w ∈ u_ws "ShareDeskModel" F_sm 6, w ∈ gws := by
  intro w hw
  obtain ⟨k, hk, rfl⟩ := List.mem_map.mp hw
  have hk := List.mem_range.mp hk
  rcases (show k = 0 ∨ k = 1 ∨ k = 2 ∨ k = 3 ∨ k = 4 ∨ k = 5 by omega) with rfl | rfl | rfl | rfl | rfl | rfl
  · exact k_208
  · exact k_210
  · exact k_212
  · exact k_214
  · exact k_216
  · exact k_218
end
section
theorem d_sd_init_0 : decode b_sd_init 0 = .ok (.aload_n 0, 1) := by decide +kernel
theorem d_sd_init_1 : decode b_sd_init 1 = .ok (.invokespecial 1, 3) := by decide +kernel
theorem d_sd_init_4 : decode b_sd_init 4 = .ok (.aload_n 0, 1) := by decide +kernel
theorem d_sd_init_5 : decode b_sd_init 5 = .ok (.bipush 8, 2) := by decide +kernel
theorem d_sd_init_7 : decode b_sd_init 7 = .ok (.newarray .int, 2) := by decide +kernel
theorem d_sd_init_9 : decode b_sd_init 9 = .ok (.putfield 9, 3) := by decide +kernel
theorem d_sd_init_12 : decode b_sd_init 12 = .ok (.aload_n 0, 1) := by decide +kernel
theorem d_sd_init_13 : decode b_sd_init 13 = .ok (.bipush 8, 2) := by decide +kernel
theorem d_sd_init_15 : decode b_sd_init 15 = .ok (.newarray .int, 2) := by decide +kernel
theorem d_sd_init_17 : decode b_sd_init 17 = .ok (.putfield 13, 3) := by decide +kernel
theorem d_sd_init_20 : decode b_sd_init 20 = .ok (.aload_n 0, 1) := by decide +kernel
theorem d_sd_init_21 : decode b_sd_init 21 = .ok (.bipush 8, 2) := by decide +kernel
theorem d_sd_init_23 : decode b_sd_init 23 = .ok (.newarray .int, 2) := by decide +kernel
theorem d_sd_init_25 : decode b_sd_init 25 = .ok (.putfield 16, 3) := by decide +kernel
theorem d_sd_init_28 : decode b_sd_init 28 = .ok (.aload_n 0, 1) := by decide +kernel
theorem d_sd_init_29 : decode b_sd_init 29 = .ok (.iconst 2, 1) := by decide +kernel
theorem d_sd_init_30 : decode b_sd_init 30 = .ok (.putfield 19, 3) := by decide +kernel
theorem d_sd_init_33 : decode b_sd_init 33 = .ok (.return_, 1) := by decide +kernel
theorem d_sd_begin_0 : decode b_sd_begin 0 = .ok (.iload_n 1, 1) := by decide +kernel
theorem d_sd_begin_1 : decode b_sd_begin 1 = .ok (.ifCond .le 13, 3) := by decide +kernel
theorem d_sd_begin_4 : decode b_sd_begin 4 = .ok (.iload_n 1, 1) := by decide +kernel
theorem d_sd_begin_5 : decode b_sd_begin 5 = .ok (.bipush 8, 2) := by decide +kernel
theorem d_sd_begin_7 : decode b_sd_begin 7 = .ok (.if_icmp .gt 7, 3) := by decide +kernel
theorem d_sd_begin_10 : decode b_sd_begin 10 = .ok (.iconst 1, 1) := by decide +kernel
theorem d_sd_begin_11 : decode b_sd_begin 11 = .ok (.goto 4, 3) := by decide +kernel
theorem d_sd_begin_14 : decode b_sd_begin 14 = .ok (.iconst 0, 1) := by decide +kernel
theorem d_sd_begin_15 : decode b_sd_begin 15 = .ok (.invokestatic 26, 3) := by decide +kernel
theorem d_sd_begin_18 : decode b_sd_begin 18 = .ok (.aload_n 0, 1) := by decide +kernel
theorem d_sd_begin_19 : decode b_sd_begin 19 = .ok (.iload_n 1, 1) := by decide +kernel
theorem d_sd_begin_20 : decode b_sd_begin 20 = .ok (.putfield 19, 3) := by decide +kernel
theorem d_sd_begin_23 : decode b_sd_begin 23 = .ok (.aload_n 0, 1) := by decide +kernel
theorem d_sd_begin_24 : decode b_sd_begin 24 = .ok (.iconst 0, 1) := by decide +kernel
theorem d_sd_begin_25 : decode b_sd_begin 25 = .ok (.putfield 30, 3) := by decide +kernel
theorem d_sd_begin_28 : decode b_sd_begin 28 = .ok (.iconst 0, 1) := by decide +kernel
theorem d_sd_begin_29 : decode b_sd_begin 29 = .ok (.istore_n 2, 1) := by decide +kernel
theorem d_sd_begin_30 : decode b_sd_begin 30 = .ok (.iload_n 2, 1) := by decide +kernel
theorem d_sd_begin_31 : decode b_sd_begin 31 = .ok (.bipush 8, 2) := by decide +kernel
theorem d_sd_begin_33 : decode b_sd_begin 33 = .ok (.if_icmp .ge 16, 3) := by decide +kernel
theorem d_sd_begin_36 : decode b_sd_begin 36 = .ok (.aload_n 0, 1) := by decide +kernel
theorem d_sd_begin_37 : decode b_sd_begin 37 = .ok (.getfield 9, 3) := by decide +kernel
theorem d_sd_begin_40 : decode b_sd_begin 40 = .ok (.iload_n 2, 1) := by decide +kernel
theorem d_sd_begin_41 : decode b_sd_begin 41 = .ok (.iconst 0, 1) := by decide +kernel
theorem d_sd_begin_42 : decode b_sd_begin 42 = .ok (.iastore, 1) := by decide +kernel
theorem d_sd_begin_43 : decode b_sd_begin 43 = .ok (.iinc 2 1, 3) := by decide +kernel
theorem d_sd_begin_46 : decode b_sd_begin 46 = .ok (.goto (-16), 3) := by decide +kernel
theorem d_sd_begin_49 : decode b_sd_begin 49 = .ok (.return_, 1) := by decide +kernel
theorem d_sd_good_0 : decode b_sd_good 0 = .ok (.iload_n 0, 1) := by decide +kernel
theorem d_sd_good_1 : decode b_sd_good 1 = .ok (.ifCond .ne 11, 3) := by decide +kernel
theorem d_sd_good_4 : decode b_sd_good 4 = .ok (.new 23, 3) := by decide +kernel
theorem d_sd_good_7 : decode b_sd_good 7 = .ok (.dup, 1) := by decide +kernel
theorem d_sd_good_8 : decode b_sd_good 8 = .ok (.invokespecial 25, 3) := by decide +kernel
theorem d_sd_good_11 : decode b_sd_good 11 = .ok (.athrow, 1) := by decide +kernel
theorem d_sd_good_12 : decode b_sd_good 12 = .ok (.return_, 1) := by decide +kernel
theorem d_sd_weight_0 : decode b_sd_weight 0 = .ok (.aload_n 0, 1) := by decide +kernel
theorem d_sd_weight_1 : decode b_sd_weight 1 = .ok (.iload_n 1, 1) := by decide +kernel
theorem d_sd_weight_2 : decode b_sd_weight 2 = .ok (.invokevirtual 33, 3) := by decide +kernel
theorem d_sd_weight_5 : decode b_sd_weight 5 = .ok (.ifCond .eq 17, 3) := by decide +kernel
theorem d_sd_weight_8 : decode b_sd_weight 8 = .ok (.iload_n 2, 1) := by decide +kernel
theorem d_sd_weight_9 : decode b_sd_weight 9 = .ok (.ifCond .lt 13, 3) := by decide +kernel
theorem d_sd_weight_12 : decode b_sd_weight 12 = .ok (.iload_n 2, 1) := by decide +kernel
theorem d_sd_weight_13 : decode b_sd_weight 13 = .ok (.ldc 37, 2) := by decide +kernel
theorem d_sd_weight_15 : decode b_sd_weight 15 = .ok (.if_icmp .gt 7, 3) := by decide +kernel
theorem d_sd_weight_18 : decode b_sd_weight 18 = .ok (.iconst 1, 1) := by decide +kernel
theorem d_sd_weight_19 : decode b_sd_weight 19 = .ok (.goto 4, 3) := by decide +kernel
theorem d_sd_weight_22 : decode b_sd_weight 22 = .ok (.iconst 0, 1) := by decide +kernel
theorem d_sd_weight_23 : decode b_sd_weight 23 = .ok (.invokestatic 26, 3) := by decide +kernel
theorem d_sd_weight_26 : decode b_sd_weight 26 = .ok (.aload_n 0, 1) := by decide +kernel
theorem d_sd_weight_27 : decode b_sd_weight 27 = .ok (.getfield 9, 3) := by decide +kernel
theorem d_sd_weight_30 : decode b_sd_weight 30 = .ok (.iload_n 1, 1) := by decide +kernel
theorem d_sd_weight_31 : decode b_sd_weight 31 = .ok (.iaload, 1) := by decide +kernel
theorem d_sd_weight_32 : decode b_sd_weight 32 = .ok (.istore_n 3, 1) := by decide +kernel
theorem d_sd_weight_33 : decode b_sd_weight 33 = .ok (.aload_n 0, 1) := by decide +kernel
theorem d_sd_weight_34 : decode b_sd_weight 34 = .ok (.getfield 9, 3) := by decide +kernel
theorem d_sd_weight_37 : decode b_sd_weight 37 = .ok (.iload_n 1, 1) := by decide +kernel
theorem d_sd_weight_38 : decode b_sd_weight 38 = .ok (.iload_n 2, 1) := by decide +kernel
theorem d_sd_weight_39 : decode b_sd_weight 39 = .ok (.iastore, 1) := by decide +kernel
theorem d_sd_weight_40 : decode b_sd_weight 40 = .ok (.aload_n 0, 1) := by decide +kernel
theorem d_sd_weight_41 : decode b_sd_weight 41 = .ok (.dup, 1) := by decide +kernel
theorem d_sd_weight_42 : decode b_sd_weight 42 = .ok (.getfield 30, 3) := by decide +kernel
theorem d_sd_weight_45 : decode b_sd_weight 45 = .ok (.iload_n 2, 1) := by decide +kernel
theorem d_sd_weight_46 : decode b_sd_weight 46 = .ok (.iload_n 3, 1) := by decide +kernel
theorem d_sd_weight_47 : decode b_sd_weight 47 = .ok (.isub, 1) := by decide +kernel
theorem d_sd_weight_48 : decode b_sd_weight 48 = .ok (.iadd, 1) := by decide +kernel
theorem d_sd_weight_49 : decode b_sd_weight 49 = .ok (.putfield 30, 3) := by decide +kernel
theorem d_sd_weight_52 : decode b_sd_weight 52 = .ok (.iload_n 3, 1) := by decide +kernel
theorem d_sd_weight_53 : decode b_sd_weight 53 = .ok (.ireturn, 1) := by decide +kernel
theorem d_sd_is_0 : decode b_sd_is 0 = .ok (.iload_n 1, 1) := by decide +kernel
theorem d_sd_is_1 : decode b_sd_is 1 = .ok (.ifCond .lt 15, 3) := by decide +kernel
theorem d_sd_is_4 : decode b_sd_is 4 = .ok (.iload_n 1, 1) := by decide +kernel
theorem d_sd_is_5 : decode b_sd_is 5 = .ok (.aload_n 0, 1) := by decide +kernel
theorem d_sd_is_6 : decode b_sd_is 6 = .ok (.getfield 19, 3) := by decide +kernel
theorem d_sd_is_9 : decode b_sd_is 9 = .ok (.if_icmp .ge 7, 3) := by decide +kernel
theorem d_sd_is_12 : decode b_sd_is 12 = .ok (.iconst 1, 1) := by decide +kernel
theorem d_sd_is_13 : decode b_sd_is 13 = .ok (.goto 4, 3) := by decide +kernel
theorem d_sd_is_16 : decode b_sd_is 16 = .ok (.iconst 0, 1) := by decide +kernel
theorem d_sd_is_17 : decode b_sd_is 17 = .ok (.ireturn, 1) := by decide +kernel
theorem d_sd_share_0 : decode b_sd_share 0 = .ok (.aload_n 0, 1) := by decide +kernel
theorem d_sd_share_1 : decode b_sd_share 1 = .ok (.iload_n 3, 1) := by decide +kernel
theorem d_sd_share_2 : decode b_sd_share 2 = .ok (.invokevirtual 33, 3) := by decide +kernel
theorem d_sd_share_5 : decode b_sd_share 5 = .ok (.invokestatic 26, 3) := by decide +kernel
theorem d_sd_share_8 : decode b_sd_share 8 = .ok (.aload_n 0, 1) := by decide +kernel
theorem d_sd_share_9 : decode b_sd_share 9 = .ok (.iload_n 1, 1) := by decide +kernel
theorem d_sd_share_10 : decode b_sd_share 10 = .ok (.iload_n 2, 1) := by decide +kernel
theorem d_sd_share_11 : decode b_sd_share 11 = .ok (.invokevirtual 62, 3) := by decide +kernel
theorem d_sd_share_14 : decode b_sd_share 14 = .ok (.aload_n 0, 1) := by decide +kernel
theorem d_sd_share_15 : decode b_sd_share 15 = .ok (.iload_n 1, 1) := by decide +kernel
theorem d_sd_share_16 : decode b_sd_share 16 = .ok (.iload_n 2, 1) := by decide +kernel
theorem d_sd_share_17 : decode b_sd_share 17 = .ok (.aload_n 0, 1) := by decide +kernel
theorem d_sd_share_18 : decode b_sd_share 18 = .ok (.getfield 13, 3) := by decide +kernel
theorem d_sd_share_21 : decode b_sd_share 21 = .ok (.invokevirtual 66, 3) := by decide +kernel
theorem d_sd_share_24 : decode b_sd_share 24 = .ok (.aload_n 0, 1) := by decide +kernel
theorem d_sd_share_25 : decode b_sd_share 25 = .ok (.getfield 13, 3) := by decide +kernel
theorem d_sd_share_28 : decode b_sd_share 28 = .ok (.iload_n 3, 1) := by decide +kernel
theorem d_sd_share_29 : decode b_sd_share 29 = .ok (.iaload, 1) := by decide +kernel
theorem d_sd_share_30 : decode b_sd_share 30 = .ok (.ireturn, 1) := by decide +kernel
theorem d_sd_ready_0 : decode b_sd_ready 0 = .ok (.iload_n 1, 1) := by decide +kernel
theorem d_sd_ready_1 : decode b_sd_ready 1 = .ok (.ifCond .lt 23, 3) := by decide +kernel
theorem d_sd_ready_4 : decode b_sd_ready 4 = .ok (.iload_n 1, 1) := by decide +kernel
theorem d_sd_ready_5 : decode b_sd_ready 5 = .ok (.iconst 3, 1) := by decide +kernel
theorem d_sd_ready_6 : decode b_sd_ready 6 = .ok (.if_icmp .ge 18, 3) := by decide +kernel
theorem d_sd_ready_9 : decode b_sd_ready 9 = .ok (.iload_n 2, 1) := by decide +kernel
theorem d_sd_ready_10 : decode b_sd_ready 10 = .ok (.ifCond .lt 14, 3) := by decide +kernel
theorem d_sd_ready_13 : decode b_sd_ready 13 = .ok (.iload_n 2, 1) := by decide +kernel
theorem d_sd_ready_14 : decode b_sd_ready 14 = .ok (.sipush 10000, 3) := by decide +kernel
theorem d_sd_ready_17 : decode b_sd_ready 17 = .ok (.if_icmp .gt 7, 3) := by decide +kernel
theorem d_sd_ready_20 : decode b_sd_ready 20 = .ok (.iconst 1, 1) := by decide +kernel
theorem d_sd_ready_21 : decode b_sd_ready 21 = .ok (.goto 4, 3) := by decide +kernel
theorem d_sd_ready_24 : decode b_sd_ready 24 = .ok (.iconst 0, 1) := by decide +kernel
theorem d_sd_ready_25 : decode b_sd_ready 25 = .ok (.invokestatic 26, 3) := by decide +kernel
theorem d_sd_ready_28 : decode b_sd_ready 28 = .ok (.aload_n 0, 1) := by decide +kernel
theorem d_sd_ready_29 : decode b_sd_ready 29 = .ok (.getfield 30, 3) := by decide +kernel
theorem d_sd_ready_32 : decode b_sd_ready 32 = .ok (.ifCond .ne 11, 3) := by decide +kernel
theorem d_sd_ready_35 : decode b_sd_ready 35 = .ok (.new 38, 3) := by decide +kernel
theorem d_sd_ready_38 : decode b_sd_ready 38 = .ok (.dup, 1) := by decide +kernel
theorem d_sd_ready_39 : decode b_sd_ready 39 = .ok (.invokespecial 40, 3) := by decide +kernel
theorem d_sd_ready_42 : decode b_sd_ready 42 = .ok (.athrow, 1) := by decide +kernel
theorem d_sd_ready_43 : decode b_sd_ready 43 = .ok (.return_, 1) := by decide +kernel
theorem d_sd_give_0 : decode b_sd_give 0 = .ok (.iload_n 1, 1) := by decide +kernel
theorem d_sd_give_1 : decode b_sd_give 1 = .ok (.ifCond .ne 12, 3) := by decide +kernel
theorem d_sd_give_4 : decode b_sd_give 4 = .ok (.aload_n 0, 1) := by decide +kernel
theorem d_sd_give_5 : decode b_sd_give 5 = .ok (.iload_n 2, 1) := by decide +kernel
theorem d_sd_give_6 : decode b_sd_give 6 = .ok (.aload_n 3, 1) := by decide +kernel
theorem d_sd_give_7 : decode b_sd_give 7 = .ok (.invokevirtual 41, 3) := by decide +kernel
theorem d_sd_give_10 : decode b_sd_give 10 = .ok (.goto 10, 3) := by decide +kernel
theorem d_sd_give_13 : decode b_sd_give 13 = .ok (.aload_n 0, 1) := by decide +kernel
theorem d_sd_give_14 : decode b_sd_give 14 = .ok (.iload_n 1, 1) := by decide +kernel
theorem d_sd_give_15 : decode b_sd_give 15 = .ok (.iload_n 2, 1) := by decide +kernel
theorem d_sd_give_16 : decode b_sd_give 16 = .ok (.aload_n 3, 1) := by decide +kernel
theorem d_sd_give_17 : decode b_sd_give 17 = .ok (.invokevirtual 45, 3) := by decide +kernel
theorem d_sd_give_20 : decode b_sd_give 20 = .ok (.return_, 1) := by decide +kernel
theorem d_sd_rests_0 : decode b_sd_rests 0 = .ok (.iload_n 1, 1) := by decide +kernel
theorem d_sd_rests_1 : decode b_sd_rests 1 = .ok (.istore_n 3, 1) := by decide +kernel
theorem d_sd_rests_2 : decode b_sd_rests 2 = .ok (.iconst 0, 1) := by decide +kernel
theorem d_sd_rests_3 : decode b_sd_rests 3 = .ok (.istore 4, 2) := by decide +kernel
theorem d_sd_rests_5 : decode b_sd_rests 5 = .ok (.iconst 0, 1) := by decide +kernel
theorem d_sd_rests_6 : decode b_sd_rests 6 = .ok (.istore 5, 2) := by decide +kernel
theorem d_sd_rests_8 : decode b_sd_rests 8 = .ok (.iload 5, 2) := by decide +kernel
theorem d_sd_rests_10 : decode b_sd_rests 10 = .ok (.aload_n 0, 1) := by decide +kernel
theorem d_sd_rests_11 : decode b_sd_rests 11 = .ok (.getfield 19, 3) := by decide +kernel
theorem d_sd_rests_14 : decode b_sd_rests 14 = .ok (.if_icmp .ge 38, 3) := by decide +kernel
theorem d_sd_rests_17 : decode b_sd_rests 17 = .ok (.aload_n 2, 1) := by decide +kernel
theorem d_sd_rests_18 : decode b_sd_rests 18 = .ok (.iload 5, 2) := by decide +kernel
theorem d_sd_rests_20 : decode b_sd_rests 20 = .ok (.iload_n 1, 1) := by decide +kernel
theorem d_sd_rests_21 : decode b_sd_rests 21 = .ok (.i2l, 1) := by decide +kernel
theorem d_sd_rests_22 : decode b_sd_rests 22 = .ok (.aload_n 0, 1) := by decide +kernel
theorem d_sd_rests_23 : decode b_sd_rests 23 = .ok (.getfield 9, 3) := by decide +kernel
theorem d_sd_rests_26 : decode b_sd_rests 26 = .ok (.iload 5, 2) := by decide +kernel
theorem d_sd_rests_28 : decode b_sd_rests 28 = .ok (.iaload, 1) := by decide +kernel
theorem d_sd_rests_29 : decode b_sd_rests 29 = .ok (.i2l, 1) := by decide +kernel
theorem d_sd_rests_30 : decode b_sd_rests 30 = .ok (.lmul, 1) := by decide +kernel
theorem d_sd_rests_31 : decode b_sd_rests 31 = .ok (.aload_n 0, 1) := by decide +kernel
theorem d_sd_rests_32 : decode b_sd_rests 32 = .ok (.getfield 30, 3) := by decide +kernel
theorem d_sd_rests_35 : decode b_sd_rests 35 = .ok (.i2l, 1) := by decide +kernel
theorem d_sd_rests_36 : decode b_sd_rests 36 = .ok (.ldiv, 1) := by decide +kernel
theorem d_sd_rests_37 : decode b_sd_rests 37 = .ok (.l2i, 1) := by decide +kernel
theorem d_sd_rests_38 : decode b_sd_rests 38 = .ok (.iastore, 1) := by decide +kernel
theorem d_sd_rests_39 : decode b_sd_rests 39 = .ok (.iload_n 3, 1) := by decide +kernel
theorem d_sd_rests_40 : decode b_sd_rests 40 = .ok (.aload_n 2, 1) := by decide +kernel
theorem d_sd_rests_41 : decode b_sd_rests 41 = .ok (.iload 5, 2) := by decide +kernel
theorem d_sd_rests_43 : decode b_sd_rests 43 = .ok (.iaload, 1) := by decide +kernel
theorem d_sd_rests_44 : decode b_sd_rests 44 = .ok (.isub, 1) := by decide +kernel
theorem d_sd_rests_45 : decode b_sd_rests 45 = .ok (.istore_n 3, 1) := by decide +kernel
theorem d_sd_rests_46 : decode b_sd_rests 46 = .ok (.iinc 5 1, 3) := by decide +kernel
theorem d_sd_rests_49 : decode b_sd_rests 49 = .ok (.goto (-41), 3) := by decide +kernel
theorem d_sd_rests_52 : decode b_sd_rests 52 = .ok (.iload_n 3, 1) := by decide +kernel
theorem d_sd_rests_53 : decode b_sd_rests 53 = .ok (.ifCond .le 97, 3) := by decide +kernel
theorem d_sd_rests_56 : decode b_sd_rests 56 = .ok (.iconst (-1), 1) := by decide +kernel
theorem d_sd_rests_57 : decode b_sd_rests 57 = .ok (.istore 5, 2) := by decide +kernel
theorem d_sd_rests_59 : decode b_sd_rests 59 = .ok (.ldc2_w 49, 3) := by decide +kernel
theorem d_sd_rests_62 : decode b_sd_rests 62 = .ok (.lstore 6, 2) := by decide +kernel
theorem d_sd_rests_64 : decode b_sd_rests 64 = .ok (.iconst 0, 1) := by decide +kernel
theorem d_sd_rests_65 : decode b_sd_rests 65 = .ok (.istore 8, 2) := by decide +kernel
theorem d_sd_rests_67 : decode b_sd_rests 67 = .ok (.iload 8, 2) := by decide +kernel
theorem d_sd_rests_69 : decode b_sd_rests 69 = .ok (.aload_n 0, 1) := by decide +kernel
theorem d_sd_rests_70 : decode b_sd_rests 70 = .ok (.getfield 19, 3) := by decide +kernel
theorem d_sd_rests_73 : decode b_sd_rests 73 = .ok (.if_icmp .ge 54, 3) := by decide +kernel
theorem d_sd_rests_76 : decode b_sd_rests 76 = .ok (.iload_n 1, 1) := by decide +kernel
theorem d_sd_rests_77 : decode b_sd_rests 77 = .ok (.i2l, 1) := by decide +kernel
theorem d_sd_rests_78 : decode b_sd_rests 78 = .ok (.aload_n 0, 1) := by decide +kernel
theorem d_sd_rests_79 : decode b_sd_rests 79 = .ok (.getfield 9, 3) := by decide +kernel
theorem d_sd_rests_82 : decode b_sd_rests 82 = .ok (.iload 8, 2) := by decide +kernel
theorem d_sd_rests_84 : decode b_sd_rests 84 = .ok (.iaload, 1) := by decide +kernel
theorem d_sd_rests_85 : decode b_sd_rests 85 = .ok (.i2l, 1) := by decide +kernel
theorem d_sd_rests_86 : decode b_sd_rests 86 = .ok (.lmul, 1) := by decide +kernel
theorem d_sd_rests_87 : decode b_sd_rests 87 = .ok (.aload_n 0, 1) := by decide +kernel
theorem d_sd_rests_88 : decode b_sd_rests 88 = .ok (.getfield 30, 3) := by decide +kernel
theorem d_sd_rests_91 : decode b_sd_rests 91 = .ok (.i2l, 1) := by decide +kernel
theorem d_sd_rests_92 : decode b_sd_rests 92 = .ok (.lrem, 1) := by decide +kernel
theorem d_sd_rests_93 : decode b_sd_rests 93 = .ok (.lstore 9, 2) := by decide +kernel
theorem d_sd_rests_95 : decode b_sd_rests 95 = .ok (.iload 4, 2) := by decide +kernel
theorem d_sd_rests_97 : decode b_sd_rests 97 = .ok (.iload 8, 2) := by decide +kernel
theorem d_sd_rests_99 : decode b_sd_rests 99 = .ok (.ishr, 1) := by decide +kernel
theorem d_sd_rests_100 : decode b_sd_rests 100 = .ok (.iconst 1, 1) := by decide +kernel
theorem d_sd_rests_101 : decode b_sd_rests 101 = .ok (.iand, 1) := by decide +kernel
theorem d_sd_rests_102 : decode b_sd_rests 102 = .ok (.ifCond .ne 19, 3) := by decide +kernel
theorem d_sd_rests_105 : decode b_sd_rests 105 = .ok (.lload 9, 2) := by decide +kernel
theorem d_sd_rests_107 : decode b_sd_rests 107 = .ok (.lload 6, 2) := by decide +kernel
theorem d_sd_rests_109 : decode b_sd_rests 109 = .ok (.lcmp, 1) := by decide +kernel
theorem d_sd_rests_110 : decode b_sd_rests 110 = .ok (.ifCond .le 11, 3) := by decide +kernel
theorem d_sd_rests_113 : decode b_sd_rests 113 = .ok (.iload 8, 2) := by decide +kernel
theorem d_sd_rests_115 : decode b_sd_rests 115 = .ok (.istore 5, 2) := by decide +kernel
theorem d_sd_rests_117 : decode b_sd_rests 117 = .ok (.lload 9, 2) := by decide +kernel
theorem d_sd_rests_119 : decode b_sd_rests 119 = .ok (.lstore 6, 2) := by decide +kernel
theorem d_sd_rests_121 : decode b_sd_rests 121 = .ok (.iinc 8 1, 3) := by decide +kernel
theorem d_sd_rests_124 : decode b_sd_rests 124 = .ok (.goto (-57), 3) := by decide +kernel
theorem d_sd_rests_127 : decode b_sd_rests 127 = .ok (.aload_n 2, 1) := by decide +kernel
theorem d_sd_rests_128 : decode b_sd_rests 128 = .ok (.iload 5, 2) := by decide +kernel
theorem d_sd_rests_130 : decode b_sd_rests 130 = .ok (.dup2, 1) := by decide +kernel
theorem d_sd_rests_131 : decode b_sd_rests 131 = .ok (.iaload, 1) := by decide +kernel
theorem d_sd_rests_132 : decode b_sd_rests 132 = .ok (.iconst 1, 1) := by decide +kernel
theorem d_sd_rests_133 : decode b_sd_rests 133 = .ok (.iadd, 1) := by decide +kernel
theorem d_sd_rests_134 : decode b_sd_rests 134 = .ok (.iastore, 1) := by decide +kernel
theorem d_sd_rests_135 : decode b_sd_rests 135 = .ok (.iload 4, 2) := by decide +kernel
theorem d_sd_rests_137 : decode b_sd_rests 137 = .ok (.iconst 1, 1) := by decide +kernel
theorem d_sd_rests_138 : decode b_sd_rests 138 = .ok (.iload 5, 2) := by decide +kernel
theorem d_sd_rests_140 : decode b_sd_rests 140 = .ok (.ishl, 1) := by decide +kernel
theorem d_sd_rests_141 : decode b_sd_rests 141 = .ok (.ior, 1) := by decide +kernel
theorem d_sd_rests_142 : decode b_sd_rests 142 = .ok (.istore 4, 2) := by decide +kernel
theorem d_sd_rests_144 : decode b_sd_rests 144 = .ok (.iinc 3 (-1), 3) := by decide +kernel
theorem d_sd_rests_147 : decode b_sd_rests 147 = .ok (.goto (-95), 3) := by decide +kernel
theorem d_sd_rests_150 : decode b_sd_rests 150 = .ok (.return_, 1) := by decide +kernel
theorem d_sd_quot_0 : decode b_sd_quot 0 = .ok (.iload_n 1, 1) := by decide +kernel
theorem d_sd_quot_1 : decode b_sd_quot 1 = .ok (.iconst 1, 1) := by decide +kernel
theorem d_sd_quot_2 : decode b_sd_quot 2 = .ok (.if_icmp .ne 7, 3) := by decide +kernel
theorem d_sd_quot_5 : decode b_sd_quot 5 = .ok (.iload_n 2, 1) := by decide +kernel
theorem d_sd_quot_6 : decode b_sd_quot 6 = .ok (.goto 13, 3) := by decide +kernel
theorem d_sd_quot_9 : decode b_sd_quot 9 = .ok (.iconst 0, 1) := by decide +kernel
theorem d_sd_quot_10 : decode b_sd_quot 10 = .ok (.iload_n 2, 1) := by decide +kernel
theorem d_sd_quot_11 : decode b_sd_quot 11 = .ok (.aload_n 0, 1) := by decide +kernel
theorem d_sd_quot_12 : decode b_sd_quot 12 = .ok (.getfield 19, 3) := by decide +kernel
theorem d_sd_quot_15 : decode b_sd_quot 15 = .ok (.isub, 1) := by decide +kernel
theorem d_sd_quot_16 : decode b_sd_quot 16 = .ok (.invokestatic 51, 3) := by decide +kernel
theorem d_sd_quot_19 : decode b_sd_quot 19 = .ok (.istore 4, 2) := by decide +kernel
theorem d_sd_quot_21 : decode b_sd_quot 21 = .ok (.iload_n 2, 1) := by decide +kernel
theorem d_sd_quot_22 : decode b_sd_quot 22 = .ok (.istore 5, 2) := by decide +kernel
theorem d_sd_quot_24 : decode b_sd_quot 24 = .ok (.iconst 0, 1) := by decide +kernel
theorem d_sd_quot_25 : decode b_sd_quot 25 = .ok (.istore 6, 2) := by decide +kernel
theorem d_sd_quot_27 : decode b_sd_quot 27 = .ok (.iload 6, 2) := by decide +kernel
theorem d_sd_quot_29 : decode b_sd_quot 29 = .ok (.aload_n 0, 1) := by decide +kernel
theorem d_sd_quot_30 : decode b_sd_quot 30 = .ok (.getfield 19, 3) := by decide +kernel
theorem d_sd_quot_33 : decode b_sd_quot 33 = .ok (.if_icmp .ge 77, 3) := by decide +kernel
theorem d_sd_quot_36 : decode b_sd_quot 36 = .ok (.iload 4, 2) := by decide +kernel
theorem d_sd_quot_38 : decode b_sd_quot 38 = .ok (.i2l, 1) := by decide +kernel
theorem d_sd_quot_39 : decode b_sd_quot 39 = .ok (.aload_n 0, 1) := by decide +kernel
theorem d_sd_quot_40 : decode b_sd_quot 40 = .ok (.getfield 9, 3) := by decide +kernel
theorem d_sd_quot_43 : decode b_sd_quot 43 = .ok (.iload 6, 2) := by decide +kernel
theorem d_sd_quot_45 : decode b_sd_quot 45 = .ok (.iaload, 1) := by decide +kernel
theorem d_sd_quot_46 : decode b_sd_quot 46 = .ok (.i2l, 1) := by decide +kernel
theorem d_sd_quot_47 : decode b_sd_quot 47 = .ok (.lmul, 1) := by decide +kernel
theorem d_sd_quot_48 : decode b_sd_quot 48 = .ok (.lstore 7, 2) := by decide +kernel
theorem d_sd_quot_50 : decode b_sd_quot 50 = .ok (.aload_n 3, 1) := by decide +kernel
theorem d_sd_quot_51 : decode b_sd_quot 51 = .ok (.iload 6, 2) := by decide +kernel
theorem d_sd_quot_53 : decode b_sd_quot 53 = .ok (.iload_n 1, 1) := by decide +kernel
theorem d_sd_quot_54 : decode b_sd_quot 54 = .ok (.iconst 1, 1) := by decide +kernel
theorem d_sd_quot_55 : decode b_sd_quot 55 = .ok (.if_icmp .ne 14, 3) := by decide +kernel
theorem d_sd_quot_58 : decode b_sd_quot 58 = .ok (.lload 7, 2) := by decide +kernel
theorem d_sd_quot_60 : decode b_sd_quot 60 = .ok (.aload_n 0, 1) := by decide +kernel
theorem d_sd_quot_61 : decode b_sd_quot 61 = .ok (.getfield 30, 3) := by decide +kernel
theorem d_sd_quot_64 : decode b_sd_quot 64 = .ok (.i2l, 1) := by decide +kernel
theorem d_sd_quot_65 : decode b_sd_quot 65 = .ok (.ldiv, 1) := by decide +kernel
theorem d_sd_quot_66 : decode b_sd_quot 66 = .ok (.goto 27, 3) := by decide +kernel
theorem d_sd_quot_69 : decode b_sd_quot 69 = .ok (.ldc2_w 57, 3) := by decide +kernel
theorem d_sd_quot_72 : decode b_sd_quot 72 = .ok (.lload 7, 2) := by decide +kernel
theorem d_sd_quot_74 : decode b_sd_quot 74 = .ok (.lmul, 1) := by decide +kernel
theorem d_sd_quot_75 : decode b_sd_quot 75 = .ok (.aload_n 0, 1) := by decide +kernel
theorem d_sd_quot_76 : decode b_sd_quot 76 = .ok (.getfield 30, 3) := by decide +kernel
theorem d_sd_quot_79 : decode b_sd_quot 79 = .ok (.i2l, 1) := by decide +kernel
theorem d_sd_quot_80 : decode b_sd_quot 80 = .ok (.ladd, 1) := by decide +kernel
theorem d_sd_quot_81 : decode b_sd_quot 81 = .ok (.lconst 1, 1) := by decide +kernel
theorem d_sd_quot_82 : decode b_sd_quot 82 = .ok (.lsub, 1) := by decide +kernel
theorem d_sd_quot_83 : decode b_sd_quot 83 = .ok (.ldc2_w 57, 3) := by decide +kernel
theorem d_sd_quot_86 : decode b_sd_quot 86 = .ok (.aload_n 0, 1) := by decide +kernel
theorem d_sd_quot_87 : decode b_sd_quot 87 = .ok (.getfield 30, 3) := by decide +kernel
theorem d_sd_quot_90 : decode b_sd_quot 90 = .ok (.i2l, 1) := by decide +kernel
theorem d_sd_quot_91 : decode b_sd_quot 91 = .ok (.lmul, 1) := by decide +kernel
theorem d_sd_quot_92 : decode b_sd_quot 92 = .ok (.ldiv, 1) := by decide +kernel
theorem d_sd_quot_93 : decode b_sd_quot 93 = .ok (.l2i, 1) := by decide +kernel
theorem d_sd_quot_94 : decode b_sd_quot 94 = .ok (.iastore, 1) := by decide +kernel
theorem d_sd_quot_95 : decode b_sd_quot 95 = .ok (.iload 5, 2) := by decide +kernel
theorem d_sd_quot_97 : decode b_sd_quot 97 = .ok (.aload_n 3, 1) := by decide +kernel
theorem d_sd_quot_98 : decode b_sd_quot 98 = .ok (.iload 6, 2) := by decide +kernel
theorem d_sd_quot_100 : decode b_sd_quot 100 = .ok (.iaload, 1) := by decide +kernel
theorem d_sd_quot_101 : decode b_sd_quot 101 = .ok (.isub, 1) := by decide +kernel
theorem d_sd_quot_102 : decode b_sd_quot 102 = .ok (.istore 5, 2) := by decide +kernel
theorem d_sd_quot_104 : decode b_sd_quot 104 = .ok (.iinc 6 1, 3) := by decide +kernel
theorem d_sd_quot_107 : decode b_sd_quot 107 = .ok (.goto (-80), 3) := by decide +kernel
theorem d_sd_quot_110 : decode b_sd_quot 110 = .ok (.iload 5, 2) := by decide +kernel
theorem d_sd_quot_112 : decode b_sd_quot 112 = .ok (.ifCond .le 82, 3) := by decide +kernel
theorem d_sd_quot_115 : decode b_sd_quot 115 = .ok (.iconst 0, 1) := by decide +kernel
theorem d_sd_quot_116 : decode b_sd_quot 116 = .ok (.istore 6, 2) := by decide +kernel
theorem d_sd_quot_118 : decode b_sd_quot 118 = .ok (.iconst 1, 1) := by decide +kernel
theorem d_sd_quot_119 : decode b_sd_quot 119 = .ok (.istore 7, 2) := by decide +kernel
theorem d_sd_quot_121 : decode b_sd_quot 121 = .ok (.iload 7, 2) := by decide +kernel
theorem d_sd_quot_123 : decode b_sd_quot 123 = .ok (.aload_n 0, 1) := by decide +kernel
theorem d_sd_quot_124 : decode b_sd_quot 124 = .ok (.getfield 19, 3) := by decide +kernel
theorem d_sd_quot_127 : decode b_sd_quot 127 = .ok (.if_icmp .ge 53, 3) := by decide +kernel
theorem d_sd_quot_130 : decode b_sd_quot 130 = .ok (.aload_n 0, 1) := by decide +kernel
theorem d_sd_quot_131 : decode b_sd_quot 131 = .ok (.getfield 9, 3) := by decide +kernel
theorem d_sd_quot_134 : decode b_sd_quot 134 = .ok (.iload 7, 2) := by decide +kernel
theorem d_sd_quot_136 : decode b_sd_quot 136 = .ok (.iaload, 1) := by decide +kernel
theorem d_sd_quot_137 : decode b_sd_quot 137 = .ok (.i2l, 1) := by decide +kernel
theorem d_sd_quot_138 : decode b_sd_quot 138 = .ok (.iload_n 1, 1) := by decide +kernel
theorem d_sd_quot_139 : decode b_sd_quot 139 = .ok (.aload_n 3, 1) := by decide +kernel
theorem d_sd_quot_140 : decode b_sd_quot 140 = .ok (.iload 6, 2) := by decide +kernel
theorem d_sd_quot_142 : decode b_sd_quot 142 = .ok (.iaload, 1) := by decide +kernel
theorem d_sd_quot_143 : decode b_sd_quot 143 = .ok (.invokestatic 59, 3) := by decide +kernel
theorem d_sd_quot_146 : decode b_sd_quot 146 = .ok (.i2l, 1) := by decide +kernel
theorem d_sd_quot_147 : decode b_sd_quot 147 = .ok (.lmul, 1) := by decide +kernel
theorem d_sd_quot_148 : decode b_sd_quot 148 = .ok (.aload_n 0, 1) := by decide +kernel
theorem d_sd_quot_149 : decode b_sd_quot 149 = .ok (.getfield 9, 3) := by decide +kernel
theorem d_sd_quot_152 : decode b_sd_quot 152 = .ok (.iload 6, 2) := by decide +kernel
theorem d_sd_quot_154 : decode b_sd_quot 154 = .ok (.iaload, 1) := by decide +kernel
theorem d_sd_quot_155 : decode b_sd_quot 155 = .ok (.i2l, 1) := by decide +kernel
theorem d_sd_quot_156 : decode b_sd_quot 156 = .ok (.iload_n 1, 1) := by decide +kernel
theorem d_sd_quot_157 : decode b_sd_quot 157 = .ok (.aload_n 3, 1) := by decide +kernel
theorem d_sd_quot_158 : decode b_sd_quot 158 = .ok (.iload 7, 2) := by decide +kernel
theorem d_sd_quot_160 : decode b_sd_quot 160 = .ok (.iaload, 1) := by decide +kernel
theorem d_sd_quot_161 : decode b_sd_quot 161 = .ok (.invokestatic 59, 3) := by decide +kernel
theorem d_sd_quot_164 : decode b_sd_quot 164 = .ok (.i2l, 1) := by decide +kernel
theorem d_sd_quot_165 : decode b_sd_quot 165 = .ok (.lmul, 1) := by decide +kernel
theorem d_sd_quot_166 : decode b_sd_quot 166 = .ok (.lcmp, 1) := by decide +kernel
theorem d_sd_quot_167 : decode b_sd_quot 167 = .ok (.ifCond .le 7, 3) := by decide +kernel
theorem d_sd_quot_170 : decode b_sd_quot 170 = .ok (.iload 7, 2) := by decide +kernel
theorem d_sd_quot_172 : decode b_sd_quot 172 = .ok (.istore 6, 2) := by decide +kernel
theorem d_sd_quot_174 : decode b_sd_quot 174 = .ok (.iinc 7 1, 3) := by decide +kernel
theorem d_sd_quot_177 : decode b_sd_quot 177 = .ok (.goto (-56), 3) := by decide +kernel
theorem d_sd_quot_180 : decode b_sd_quot 180 = .ok (.aload_n 3, 1) := by decide +kernel
theorem d_sd_quot_181 : decode b_sd_quot 181 = .ok (.iload 6, 2) := by decide +kernel
theorem d_sd_quot_183 : decode b_sd_quot 183 = .ok (.dup2, 1) := by decide +kernel
theorem d_sd_quot_184 : decode b_sd_quot 184 = .ok (.iaload, 1) := by decide +kernel
theorem d_sd_quot_185 : decode b_sd_quot 185 = .ok (.iconst 1, 1) := by decide +kernel
theorem d_sd_quot_186 : decode b_sd_quot 186 = .ok (.iadd, 1) := by decide +kernel
theorem d_sd_quot_187 : decode b_sd_quot 187 = .ok (.iastore, 1) := by decide +kernel
theorem d_sd_quot_188 : decode b_sd_quot 188 = .ok (.iinc 5 (-1), 3) := by decide +kernel
theorem d_sd_quot_191 : decode b_sd_quot 191 = .ok (.goto (-81), 3) := by decide +kernel
theorem d_sd_quot_194 : decode b_sd_quot 194 = .ok (.return_, 1) := by decide +kernel
theorem d_sd_by_0 : decode b_sd_by 0 = .ok (.iload_n 0, 1) := by decide +kernel
theorem d_sd_by_1 : decode b_sd_by 1 = .ok (.iconst 1, 1) := by decide +kernel
theorem d_sd_by_2 : decode b_sd_by 2 = .ok (.if_icmp .ne 9, 3) := by decide +kernel
theorem d_sd_by_5 : decode b_sd_by 5 = .ok (.iload_n 1, 1) := by decide +kernel
theorem d_sd_by_6 : decode b_sd_by 6 = .ok (.iconst 1, 1) := by decide +kernel
theorem d_sd_by_7 : decode b_sd_by 7 = .ok (.iadd, 1) := by decide +kernel
theorem d_sd_by_8 : decode b_sd_by 8 = .ok (.goto 8, 3) := by decide +kernel
theorem d_sd_by_11 : decode b_sd_by 11 = .ok (.iconst 2, 1) := by decide +kernel
theorem d_sd_by_12 : decode b_sd_by 12 = .ok (.iload_n 1, 1) := by decide +kernel
theorem d_sd_by_13 : decode b_sd_by 13 = .ok (.imul, 1) := by decide +kernel
theorem d_sd_by_14 : decode b_sd_by 14 = .ok (.iconst 1, 1) := by decide +kernel
theorem d_sd_by_15 : decode b_sd_by 15 = .ok (.iadd, 1) := by decide +kernel
theorem d_sd_by_16 : decode b_sd_by 16 = .ok (.ireturn, 1) := by decide +kernel
theorem d_sd_over_0 : decode b_sd_over 0 = .ok (.aload_n 0, 1) := by decide +kernel
theorem d_sd_over_1 : decode b_sd_over 1 = .ok (.iload_n 1, 1) := by decide +kernel
theorem d_sd_over_2 : decode b_sd_over 2 = .ok (.iload_n 2, 1) := by decide +kernel
theorem d_sd_over_3 : decode b_sd_over 3 = .ok (.iload_n 3, 1) := by decide +kernel
theorem d_sd_over_4 : decode b_sd_over 4 = .ok (.invokevirtual 69, 3) := by decide +kernel
theorem d_sd_over_7 : decode b_sd_over 7 = .ok (.i2l, 1) := by decide +kernel
theorem d_sd_over_8 : decode b_sd_over 8 = .ok (.aload_n 0, 1) := by decide +kernel
theorem d_sd_over_9 : decode b_sd_over 9 = .ok (.getfield 30, 3) := by decide +kernel
theorem d_sd_over_12 : decode b_sd_over 12 = .ok (.i2l, 1) := by decide +kernel
theorem d_sd_over_13 : decode b_sd_over 13 = .ok (.lmul, 1) := by decide +kernel
theorem d_sd_over_14 : decode b_sd_over 14 = .ok (.iload_n 2, 1) := by decide +kernel
theorem d_sd_over_15 : decode b_sd_over 15 = .ok (.i2l, 1) := by decide +kernel
theorem d_sd_over_16 : decode b_sd_over 16 = .ok (.aload_n 0, 1) := by decide +kernel
theorem d_sd_over_17 : decode b_sd_over 17 = .ok (.getfield 9, 3) := by decide +kernel
theorem d_sd_over_20 : decode b_sd_over 20 = .ok (.iload_n 3, 1) := by decide +kernel
theorem d_sd_over_21 : decode b_sd_over 21 = .ok (.iaload, 1) := by decide +kernel
theorem d_sd_over_22 : decode b_sd_over 22 = .ok (.i2l, 1) := by decide +kernel
theorem d_sd_over_23 : decode b_sd_over 23 = .ok (.lmul, 1) := by decide +kernel
theorem d_sd_over_24 : decode b_sd_over 24 = .ok (.lsub, 1) := by decide +kernel
theorem d_sd_over_25 : decode b_sd_over 25 = .ok (.lreturn, 1) := by decide +kernel
theorem d_sd_next_0 : decode b_sd_next 0 = .ok (.iload_n 2, 1) := by decide +kernel
theorem d_sd_next_1 : decode b_sd_next 1 = .ok (.sipush 10000, 3) := by decide +kernel
theorem d_sd_next_4 : decode b_sd_next 4 = .ok (.if_icmp .ge 7, 3) := by decide +kernel
theorem d_sd_next_7 : decode b_sd_next 7 = .ok (.iconst 1, 1) := by decide +kernel
theorem d_sd_next_8 : decode b_sd_next 8 = .ok (.goto 4, 3) := by decide +kernel
theorem d_sd_next_11 : decode b_sd_next 11 = .ok (.iconst 0, 1) := by decide +kernel
theorem d_sd_next_12 : decode b_sd_next 12 = .ok (.invokestatic 26, 3) := by decide +kernel
theorem d_sd_next_15 : decode b_sd_next 15 = .ok (.aload_n 0, 1) := by decide +kernel
theorem d_sd_next_16 : decode b_sd_next 16 = .ok (.iload_n 1, 1) := by decide +kernel
theorem d_sd_next_17 : decode b_sd_next 17 = .ok (.iload_n 2, 1) := by decide +kernel
theorem d_sd_next_18 : decode b_sd_next 18 = .ok (.invokevirtual 62, 3) := by decide +kernel
theorem d_sd_next_21 : decode b_sd_next 21 = .ok (.aload_n 0, 1) := by decide +kernel
theorem d_sd_next_22 : decode b_sd_next 22 = .ok (.iload_n 1, 1) := by decide +kernel
theorem d_sd_next_23 : decode b_sd_next 23 = .ok (.iload_n 2, 1) := by decide +kernel
theorem d_sd_next_24 : decode b_sd_next 24 = .ok (.aload_n 0, 1) := by decide +kernel
theorem d_sd_next_25 : decode b_sd_next 25 = .ok (.getfield 13, 3) := by decide +kernel
theorem d_sd_next_28 : decode b_sd_next 28 = .ok (.invokevirtual 66, 3) := by decide +kernel
theorem d_sd_next_31 : decode b_sd_next 31 = .ok (.aload_n 0, 1) := by decide +kernel
theorem d_sd_next_32 : decode b_sd_next 32 = .ok (.iload_n 1, 1) := by decide +kernel
theorem d_sd_next_33 : decode b_sd_next 33 = .ok (.iload_n 2, 1) := by decide +kernel
theorem d_sd_next_34 : decode b_sd_next 34 = .ok (.iconst 1, 1) := by decide +kernel
theorem d_sd_next_35 : decode b_sd_next 35 = .ok (.iadd, 1) := by decide +kernel
theorem d_sd_next_36 : decode b_sd_next 36 = .ok (.aload_n 0, 1) := by decide +kernel
theorem d_sd_next_37 : decode b_sd_next 37 = .ok (.getfield 16, 3) := by decide +kernel
theorem d_sd_next_40 : decode b_sd_next 40 = .ok (.invokevirtual 66, 3) := by decide +kernel
theorem d_sd_next_43 : decode b_sd_next 43 = .ok (.iconst (-1), 1) := by decide +kernel
theorem d_sd_next_44 : decode b_sd_next 44 = .ok (.istore_n 3, 1) := by decide +kernel
theorem d_sd_next_45 : decode b_sd_next 45 = .ok (.iconst 0, 1) := by decide +kernel
theorem d_sd_next_46 : decode b_sd_next 46 = .ok (.istore 4, 2) := by decide +kernel
theorem d_sd_next_48 : decode b_sd_next 48 = .ok (.iload 4, 2) := by decide +kernel
theorem d_sd_next_50 : decode b_sd_next 50 = .ok (.aload_n 0, 1) := by decide +kernel
theorem d_sd_next_51 : decode b_sd_next 51 = .ok (.getfield 19, 3) := by decide +kernel
theorem d_sd_next_54 : decode b_sd_next 54 = .ok (.if_icmp .ge 58, 3) := by decide +kernel
theorem d_sd_next_57 : decode b_sd_next 57 = .ok (.aload_n 0, 1) := by decide +kernel
theorem d_sd_next_58 : decode b_sd_next 58 = .ok (.getfield 16, 3) := by decide +kernel
theorem d_sd_next_61 : decode b_sd_next 61 = .ok (.iload 4, 2) := by decide +kernel
theorem d_sd_next_63 : decode b_sd_next 63 = .ok (.iaload, 1) := by decide +kernel
theorem d_sd_next_64 : decode b_sd_next 64 = .ok (.aload_n 0, 1) := by decide +kernel
theorem d_sd_next_65 : decode b_sd_next 65 = .ok (.getfield 13, 3) := by decide +kernel
theorem d_sd_next_68 : decode b_sd_next 68 = .ok (.iload 4, 2) := by decide +kernel
theorem d_sd_next_70 : decode b_sd_next 70 = .ok (.iaload, 1) := by decide +kernel
theorem d_sd_next_71 : decode b_sd_next 71 = .ok (.if_icmp .ne 6, 3) := by decide +kernel
theorem d_sd_next_74 : decode b_sd_next 74 = .ok (.goto 32, 3) := by decide +kernel
theorem d_sd_next_77 : decode b_sd_next 77 = .ok (.iload_n 3, 1) := by decide +kernel
theorem d_sd_next_78 : decode b_sd_next 78 = .ok (.iconst (-1), 1) := by decide +kernel
theorem d_sd_next_79 : decode b_sd_next 79 = .ok (.if_icmp .ne 22, 3) := by decide +kernel
theorem d_sd_next_82 : decode b_sd_next 82 = .ok (.aload_n 0, 1) := by decide +kernel
theorem d_sd_next_83 : decode b_sd_next 83 = .ok (.getfield 16, 3) := by decide +kernel
theorem d_sd_next_86 : decode b_sd_next 86 = .ok (.iload 4, 2) := by decide +kernel
theorem d_sd_next_88 : decode b_sd_next 88 = .ok (.iaload, 1) := by decide +kernel
theorem d_sd_next_89 : decode b_sd_next 89 = .ok (.aload_n 0, 1) := by decide +kernel
theorem d_sd_next_90 : decode b_sd_next 90 = .ok (.getfield 13, 3) := by decide +kernel
theorem d_sd_next_93 : decode b_sd_next 93 = .ok (.iload 4, 2) := by decide +kernel
theorem d_sd_next_95 : decode b_sd_next 95 = .ok (.iaload, 1) := by decide +kernel
theorem d_sd_next_96 : decode b_sd_next 96 = .ok (.iconst 1, 1) := by decide +kernel
theorem d_sd_next_97 : decode b_sd_next 97 = .ok (.iadd, 1) := by decide +kernel
theorem d_sd_next_98 : decode b_sd_next 98 = .ok (.if_icmp .eq 5, 3) := by decide +kernel
theorem d_sd_next_101 : decode b_sd_next 101 = .ok (.iconst (-1), 1) := by decide +kernel
theorem d_sd_next_102 : decode b_sd_next 102 = .ok (.ireturn, 1) := by decide +kernel
theorem d_sd_next_103 : decode b_sd_next 103 = .ok (.iload 4, 2) := by decide +kernel
theorem d_sd_next_105 : decode b_sd_next 105 = .ok (.istore_n 3, 1) := by decide +kernel
theorem d_sd_next_106 : decode b_sd_next 106 = .ok (.iinc 4 1, 3) := by decide +kernel
theorem d_sd_next_109 : decode b_sd_next 109 = .ok (.goto (-61), 3) := by decide +kernel
theorem d_sd_next_112 : decode b_sd_next 112 = .ok (.iload_n 3, 1) := by decide +kernel
theorem d_sd_next_113 : decode b_sd_next 113 = .ok (.ireturn, 1) := by decide +kernel
theorem d_sd_least_0 : decode b_sd_least 0 = .ok (.aload_n 0, 1) := by decide +kernel
theorem d_sd_least_1 : decode b_sd_least 1 = .ok (.iload_n 3, 1) := by decide +kernel
theorem d_sd_least_2 : decode b_sd_least 2 = .ok (.invokevirtual 33, 3) := by decide +kernel
theorem d_sd_least_5 : decode b_sd_least 5 = .ok (.ifCond .eq 11, 3) := by decide +kernel
theorem d_sd_least_8 : decode b_sd_least 8 = .ok (.iload_n 2, 1) := by decide +kernel
theorem d_sd_least_9 : decode b_sd_least 9 = .ok (.ifCond .lt 7, 3) := by decide +kernel
theorem d_sd_least_12 : decode b_sd_least 12 = .ok (.iconst 1, 1) := by decide +kernel
theorem d_sd_least_13 : decode b_sd_least 13 = .ok (.goto 4, 3) := by decide +kernel
theorem d_sd_least_16 : decode b_sd_least 16 = .ok (.iconst 0, 1) := by decide +kernel
theorem d_sd_least_17 : decode b_sd_least 17 = .ok (.invokestatic 26, 3) := by decide +kernel
theorem d_sd_least_20 : decode b_sd_least 20 = .ok (.aload_n 0, 1) := by decide +kernel
theorem d_sd_least_21 : decode b_sd_least 21 = .ok (.iload_n 1, 1) := by decide +kernel
theorem d_sd_least_22 : decode b_sd_least 22 = .ok (.iconst 0, 1) := by decide +kernel
theorem d_sd_least_23 : decode b_sd_least 23 = .ok (.invokevirtual 62, 3) := by decide +kernel
theorem d_sd_least_26 : decode b_sd_least 26 = .ok (.iload_n 2, 1) := by decide +kernel
theorem d_sd_least_27 : decode b_sd_least 27 = .ok (.ifCond .ne 5, 3) := by decide +kernel
theorem d_sd_least_30 : decode b_sd_least 30 = .ok (.iconst 0, 1) := by decide +kernel
theorem d_sd_least_31 : decode b_sd_least 31 = .ok (.ireturn, 1) := by decide +kernel
theorem d_sd_least_32 : decode b_sd_least 32 = .ok (.aload_n 0, 1) := by decide +kernel
theorem d_sd_least_33 : decode b_sd_least 33 = .ok (.getfield 9, 3) := by decide +kernel
theorem d_sd_least_36 : decode b_sd_least 36 = .ok (.iload_n 3, 1) := by decide +kernel
theorem d_sd_least_37 : decode b_sd_least 37 = .ok (.iaload, 1) := by decide +kernel
theorem d_sd_least_38 : decode b_sd_least 38 = .ok (.ifCond .eq 10, 3) := by decide +kernel
theorem d_sd_least_41 : decode b_sd_least 41 = .ok (.iload_n 2, 1) := by decide +kernel
theorem d_sd_least_42 : decode b_sd_least 42 = .ok (.sipush 10000, 3) := by decide +kernel
theorem d_sd_least_45 : decode b_sd_least 45 = .ok (.if_icmp .le 5, 3) := by decide +kernel
theorem d_sd_least_48 : decode b_sd_least 48 = .ok (.iconst (-1), 1) := by decide +kernel
theorem d_sd_least_49 : decode b_sd_least 49 = .ok (.ireturn, 1) := by decide +kernel
theorem d_sd_least_50 : decode b_sd_least 50 = .ok (.iload_n 1, 1) := by decide +kernel
theorem d_sd_least_51 : decode b_sd_least 51 = .ok (.ifCond .ne 92, 3) := by decide +kernel
theorem d_sd_least_54 : decode b_sd_least 54 = .ok (.iload_n 2, 1) := by decide +kernel
theorem d_sd_least_55 : decode b_sd_least 55 = .ok (.iconst 1, 1) := by decide +kernel
theorem d_sd_least_56 : decode b_sd_least 56 = .ok (.isub, 1) := by decide +kernel
theorem d_sd_least_57 : decode b_sd_least 57 = .ok (.i2l, 1) := by decide +kernel
theorem d_sd_least_58 : decode b_sd_least 58 = .ok (.aload_n 0, 1) := by decide +kernel
theorem d_sd_least_59 : decode b_sd_least 59 = .ok (.getfield 30, 3) := by decide +kernel
theorem d_sd_least_62 : decode b_sd_least 62 = .ok (.i2l, 1) := by decide +kernel
theorem d_sd_least_63 : decode b_sd_least 63 = .ok (.lmul, 1) := by decide +kernel
theorem d_sd_least_64 : decode b_sd_least 64 = .ok (.aload_n 0, 1) := by decide +kernel
theorem d_sd_least_65 : decode b_sd_least 65 = .ok (.getfield 9, 3) := by decide +kernel
theorem d_sd_least_68 : decode b_sd_least 68 = .ok (.iload_n 3, 1) := by decide +kernel
theorem d_sd_least_69 : decode b_sd_least 69 = .ok (.iaload, 1) := by decide +kernel
theorem d_sd_least_70 : decode b_sd_least 70 = .ok (.i2l, 1) := by decide +kernel
theorem d_sd_least_71 : decode b_sd_least 71 = .ok (.ldiv, 1) := by decide +kernel
theorem d_sd_least_72 : decode b_sd_least 72 = .ok (.lstore 4, 2) := by decide +kernel
theorem d_sd_least_74 : decode b_sd_least 74 = .ok (.iload_n 2, 1) := by decide +kernel
theorem d_sd_least_75 : decode b_sd_least 75 = .ok (.i2l, 1) := by decide +kernel
theorem d_sd_least_76 : decode b_sd_least 76 = .ok (.aload_n 0, 1) := by decide +kernel
theorem d_sd_least_77 : decode b_sd_least 77 = .ok (.getfield 30, 3) := by decide +kernel
theorem d_sd_least_80 : decode b_sd_least 80 = .ok (.i2l, 1) := by decide +kernel
theorem d_sd_least_81 : decode b_sd_least 81 = .ok (.lmul, 1) := by decide +kernel
theorem d_sd_least_82 : decode b_sd_least 82 = .ok (.aload_n 0, 1) := by decide +kernel
theorem d_sd_least_83 : decode b_sd_least 83 = .ok (.getfield 9, 3) := by decide +kernel
theorem d_sd_least_86 : decode b_sd_least 86 = .ok (.iload_n 3, 1) := by decide +kernel
theorem d_sd_least_87 : decode b_sd_least 87 = .ok (.iaload, 1) := by decide +kernel
theorem d_sd_least_88 : decode b_sd_least 88 = .ok (.i2l, 1) := by decide +kernel
theorem d_sd_least_89 : decode b_sd_least 89 = .ok (.ldiv, 1) := by decide +kernel
theorem d_sd_least_90 : decode b_sd_least 90 = .ok (.lconst 1, 1) := by decide +kernel
theorem d_sd_least_91 : decode b_sd_least 91 = .ok (.ladd, 1) := by decide +kernel
theorem d_sd_least_92 : decode b_sd_least 92 = .ok (.lstore 6, 2) := by decide +kernel
theorem d_sd_least_94 : decode b_sd_least 94 = .ok (.lload 4, 2) := by decide +kernel
theorem d_sd_least_96 : decode b_sd_least 96 = .ok (.lstore 8, 2) := by decide +kernel
theorem d_sd_least_98 : decode b_sd_least 98 = .ok (.lload 8, 2) := by decide +kernel
theorem d_sd_least_100 : decode b_sd_least 100 = .ok (.lload 6, 2) := by decide +kernel
theorem d_sd_least_102 : decode b_sd_least 102 = .ok (.lcmp, 1) := by decide +kernel
theorem d_sd_least_103 : decode b_sd_least 103 = .ok (.ifCond .gt 38, 3) := by decide +kernel
theorem d_sd_least_106 : decode b_sd_least 106 = .ok (.lload 8, 2) := by decide +kernel
theorem d_sd_least_108 : decode b_sd_least 108 = .ok (.ldc2_w 72, 3) := by decide +kernel
theorem d_sd_least_111 : decode b_sd_least 111 = .ok (.lcmp, 1) := by decide +kernel
theorem d_sd_least_112 : decode b_sd_least 112 = .ok (.ifCond .gt 29, 3) := by decide +kernel
theorem d_sd_least_115 : decode b_sd_least 115 = .ok (.aload_n 0, 1) := by decide +kernel
theorem d_sd_least_116 : decode b_sd_least 116 = .ok (.iconst 0, 1) := by decide +kernel
theorem d_sd_least_117 : decode b_sd_least 117 = .ok (.lload 8, 2) := by decide +kernel
theorem d_sd_least_119 : decode b_sd_least 119 = .ok (.l2i, 1) := by decide +kernel
theorem d_sd_least_120 : decode b_sd_least 120 = .ok (.iload_n 3, 1) := by decide +kernel
theorem d_sd_least_121 : decode b_sd_least 121 = .ok (.invokevirtual 69, 3) := by decide +kernel
theorem d_sd_least_124 : decode b_sd_least 124 = .ok (.iload_n 2, 1) := by decide +kernel
theorem d_sd_least_125 : decode b_sd_least 125 = .ok (.if_icmp .lt 7, 3) := by decide +kernel
theorem d_sd_least_128 : decode b_sd_least 128 = .ok (.lload 8, 2) := by decide +kernel
theorem d_sd_least_130 : decode b_sd_least 130 = .ok (.l2i, 1) := by decide +kernel
theorem d_sd_least_131 : decode b_sd_least 131 = .ok (.ireturn, 1) := by decide +kernel
theorem d_sd_least_132 : decode b_sd_least 132 = .ok (.lload 8, 2) := by decide +kernel
theorem d_sd_least_134 : decode b_sd_least 134 = .ok (.lconst 1, 1) := by decide +kernel
theorem d_sd_least_135 : decode b_sd_least 135 = .ok (.ladd, 1) := by decide +kernel
theorem d_sd_least_136 : decode b_sd_least 136 = .ok (.lstore 8, 2) := by decide +kernel
theorem d_sd_least_138 : decode b_sd_least 138 = .ok (.goto (-40), 3) := by decide +kernel
theorem d_sd_least_141 : decode b_sd_least 141 = .ok (.iconst (-1), 1) := by decide +kernel
theorem d_sd_least_142 : decode b_sd_least 142 = .ok (.ireturn, 1) := by decide +kernel
theorem d_sd_least_143 : decode b_sd_least 143 = .ok (.iconst 0, 1) := by decide +kernel
theorem d_sd_least_144 : decode b_sd_least 144 = .ok (.istore 4, 2) := by decide +kernel
theorem d_sd_least_146 : decode b_sd_least 146 = .ok (.sipush 10000, 3) := by decide +kernel
theorem d_sd_least_149 : decode b_sd_least 149 = .ok (.istore 5, 2) := by decide +kernel
theorem d_sd_least_151 : decode b_sd_least 151 = .ok (.aload_n 0, 1) := by decide +kernel
theorem d_sd_least_152 : decode b_sd_least 152 = .ok (.iload_n 1, 1) := by decide +kernel
theorem d_sd_least_153 : decode b_sd_least 153 = .ok (.iload 5, 2) := by decide +kernel
theorem d_sd_least_155 : decode b_sd_least 155 = .ok (.iload_n 3, 1) := by decide +kernel
theorem d_sd_least_156 : decode b_sd_least 156 = .ok (.invokevirtual 69, 3) := by decide +kernel
theorem d_sd_least_159 : decode b_sd_least 159 = .ok (.iload_n 2, 1) := by decide +kernel
theorem d_sd_least_160 : decode b_sd_least 160 = .ok (.if_icmp .ge 5, 3) := by decide +kernel
theorem d_sd_least_163 : decode b_sd_least 163 = .ok (.iconst (-1), 1) := by decide +kernel
theorem d_sd_least_164 : decode b_sd_least 164 = .ok (.ireturn, 1) := by decide +kernel
theorem d_sd_least_165 : decode b_sd_least 165 = .ok (.iload 4, 2) := by decide +kernel
theorem d_sd_least_167 : decode b_sd_least 167 = .ok (.iload 5, 2) := by decide +kernel
theorem d_sd_least_169 : decode b_sd_least 169 = .ok (.if_icmp .ge 40, 3) := by decide +kernel
theorem d_sd_least_172 : decode b_sd_least 172 = .ok (.iload 4, 2) := by decide +kernel
theorem d_sd_least_174 : decode b_sd_least 174 = .ok (.iload 5, 2) := by decide +kernel
theorem d_sd_least_176 : decode b_sd_least 176 = .ok (.iadd, 1) := by decide +kernel
theorem d_sd_least_177 : decode b_sd_least 177 = .ok (.iconst 1, 1) := by decide +kernel
theorem d_sd_least_178 : decode b_sd_least 178 = .ok (.ishr, 1) := by decide +kernel
theorem d_sd_least_179 : decode b_sd_least 179 = .ok (.istore 6, 2) := by decide +kernel
theorem d_sd_least_181 : decode b_sd_least 181 = .ok (.aload_n 0, 1) := by decide +kernel
theorem d_sd_least_182 : decode b_sd_least 182 = .ok (.iload_n 1, 1) := by decide +kernel
theorem d_sd_least_183 : decode b_sd_least 183 = .ok (.iload 6, 2) := by decide +kernel
theorem d_sd_least_185 : decode b_sd_least 185 = .ok (.iload_n 3, 1) := by decide +kernel
theorem d_sd_least_186 : decode b_sd_least 186 = .ok (.invokevirtual 69, 3) := by decide +kernel
theorem d_sd_least_189 : decode b_sd_least 189 = .ok (.iload_n 2, 1) := by decide +kernel
theorem d_sd_least_190 : decode b_sd_least 190 = .ok (.if_icmp .lt 10, 3) := by decide +kernel
theorem d_sd_least_193 : decode b_sd_least 193 = .ok (.iload 6, 2) := by decide +kernel
theorem d_sd_least_195 : decode b_sd_least 195 = .ok (.istore 5, 2) := by decide +kernel
theorem d_sd_least_197 : decode b_sd_least 197 = .ok (.goto 9, 3) := by decide +kernel
theorem d_sd_least_200 : decode b_sd_least 200 = .ok (.iload 6, 2) := by decide +kernel
theorem d_sd_least_202 : decode b_sd_least 202 = .ok (.iconst 1, 1) := by decide +kernel
theorem d_sd_least_203 : decode b_sd_least 203 = .ok (.iadd, 1) := by decide +kernel
theorem d_sd_least_204 : decode b_sd_least 204 = .ok (.istore 4, 2) := by decide +kernel
theorem d_sd_least_206 : decode b_sd_least 206 = .ok (.goto (-41), 3) := by decide +kernel
theorem d_sd_least_209 : decode b_sd_least 209 = .ok (.iload 4, 2) := by decide +kernel
theorem d_sd_least_211 : decode b_sd_least 211 = .ok (.ireturn, 1) := by decide +kernel
theorem d_sd_count_0 : decode b_sd_count 0 = .ok (.iload_n 1, 1) := by decide +kernel
theorem d_sd_count_1 : decode b_sd_count 1 = .ok (.ifCond .lt 12, 3) := by decide +kernel
theorem d_sd_count_4 : decode b_sd_count 4 = .ok (.iload_n 1, 1) := by decide +kernel
theorem d_sd_count_5 : decode b_sd_count 5 = .ok (.iconst 3, 1) := by decide +kernel
theorem d_sd_count_6 : decode b_sd_count 6 = .ok (.if_icmp .ge 7, 3) := by decide +kernel
theorem d_sd_count_9 : decode b_sd_count 9 = .ok (.iconst 1, 1) := by decide +kernel
theorem d_sd_count_10 : decode b_sd_count 10 = .ok (.goto 4, 3) := by decide +kernel
theorem d_sd_count_13 : decode b_sd_count 13 = .ok (.iconst 0, 1) := by decide +kernel
theorem d_sd_count_14 : decode b_sd_count 14 = .ok (.invokestatic 26, 3) := by decide +kernel
theorem d_sd_count_17 : decode b_sd_count 17 = .ok (.iconst 0, 1) := by decide +kernel
theorem d_sd_count_18 : decode b_sd_count 18 = .ok (.istore_n 2, 1) := by decide +kernel
theorem d_sd_count_19 : decode b_sd_count 19 = .ok (.iconst 0, 1) := by decide +kernel
theorem d_sd_count_20 : decode b_sd_count 20 = .ok (.istore_n 3, 1) := by decide +kernel
theorem d_sd_count_21 : decode b_sd_count 21 = .ok (.iload_n 3, 1) := by decide +kernel
theorem d_sd_count_22 : decode b_sd_count 22 = .ok (.aload_n 0, 1) := by decide +kernel
theorem d_sd_count_23 : decode b_sd_count 23 = .ok (.getfield 19, 3) := by decide +kernel
theorem d_sd_count_26 : decode b_sd_count 26 = .ok (.if_icmp .ge 21, 3) := by decide +kernel
theorem d_sd_count_29 : decode b_sd_count 29 = .ok (.aload_n 0, 1) := by decide +kernel
theorem d_sd_count_30 : decode b_sd_count 30 = .ok (.getfield 9, 3) := by decide +kernel
theorem d_sd_count_33 : decode b_sd_count 33 = .ok (.iload_n 3, 1) := by decide +kernel
theorem d_sd_count_34 : decode b_sd_count 34 = .ok (.iaload, 1) := by decide +kernel
theorem d_sd_count_35 : decode b_sd_count 35 = .ok (.ifCond .le 6, 3) := by decide +kernel
theorem d_sd_count_38 : decode b_sd_count 38 = .ok (.iinc 2 1, 3) := by decide +kernel
theorem d_sd_count_41 : decode b_sd_count 41 = .ok (.iinc 3 1, 3) := by decide +kernel
theorem d_sd_count_44 : decode b_sd_count 44 = .ok (.goto (-23), 3) := by decide +kernel
theorem d_sd_count_47 : decode b_sd_count 47 = .ok (.iload_n 1, 1) := by decide +kernel
theorem d_sd_count_48 : decode b_sd_count 48 = .ok (.ifCond .ne 10, 3) := by decide +kernel
theorem d_sd_count_51 : decode b_sd_count 51 = .ok (.aload_n 0, 1) := by decide +kernel
theorem d_sd_count_52 : decode b_sd_count 52 = .ok (.getfield 19, 3) := by decide +kernel
theorem d_sd_count_55 : decode b_sd_count 55 = .ok (.goto 16, 3) := by decide +kernel
theorem d_sd_count_58 : decode b_sd_count 58 = .ok (.iload_n 1, 1) := by decide +kernel
theorem d_sd_count_59 : decode b_sd_count 59 = .ok (.iconst 1, 1) := by decide +kernel
theorem d_sd_count_60 : decode b_sd_count 60 = .ok (.if_icmp .ne 10, 3) := by decide +kernel
theorem d_sd_count_63 : decode b_sd_count 63 = .ok (.aload_n 0, 1) := by decide +kernel
theorem d_sd_count_64 : decode b_sd_count 64 = .ok (.getfield 30, 3) := by decide +kernel
theorem d_sd_count_67 : decode b_sd_count 67 = .ok (.goto 4, 3) := by decide +kernel
theorem d_sd_count_70 : decode b_sd_count 70 = .ok (.iload_n 2, 1) := by decide +kernel
theorem d_sd_count_71 : decode b_sd_count 71 = .ok (.ireturn, 1) := by decide +kernel
end
section
theorem d_sm_init_0 : decode b_sm_init 0 = .ok (.aload_n 0, 1) := by decide +kernel
theorem d_sm_init_1 : decode b_sm_init 1 = .ok (.invokespecial 1, 3) := by decide +kernel
theorem d_sm_init_4 : decode b_sm_init 4 = .ok (.aload_n 0, 1) := by decide +kernel
theorem d_sm_init_5 : decode b_sm_init 5 = .ok (.iconst 2, 1) := by decide +kernel
theorem d_sm_init_6 : decode b_sm_init 6 = .ok (.putfield 7, 3) := by decide +kernel
theorem d_sm_init_9 : decode b_sm_init 9 = .ok (.aload_n 0, 1) := by decide +kernel
theorem d_sm_init_10 : decode b_sm_init 10 = .ok (.bipush 8, 2) := by decide +kernel
theorem d_sm_init_12 : decode b_sm_init 12 = .ok (.newarray .long, 2) := by decide +kernel
theorem d_sm_init_14 : decode b_sm_init 14 = .ok (.putfield 13, 3) := by decide +kernel
theorem d_sm_init_17 : decode b_sm_init 17 = .ok (.aload_n 0, 1) := by decide +kernel
theorem d_sm_init_18 : decode b_sm_init 18 = .ok (.bipush 8, 2) := by decide +kernel
theorem d_sm_init_20 : decode b_sm_init 20 = .ok (.newarray .long, 2) := by decide +kernel
theorem d_sm_init_22 : decode b_sm_init 22 = .ok (.putfield 17, 3) := by decide +kernel
theorem d_sm_init_25 : decode b_sm_init 25 = .ok (.aload_n 0, 1) := by decide +kernel
theorem d_sm_init_26 : decode b_sm_init 26 = .ok (.bipush 8, 2) := by decide +kernel
theorem d_sm_init_28 : decode b_sm_init 28 = .ok (.newarray .long, 2) := by decide +kernel
theorem d_sm_init_30 : decode b_sm_init 30 = .ok (.putfield 20, 3) := by decide +kernel
theorem d_sm_init_33 : decode b_sm_init 33 = .ok (.aload_n 0, 1) := by decide +kernel
theorem d_sm_init_34 : decode b_sm_init 34 = .ok (.bipush 8, 2) := by decide +kernel
theorem d_sm_init_36 : decode b_sm_init 36 = .ok (.newarray .boolean, 2) := by decide +kernel
theorem d_sm_init_38 : decode b_sm_init 38 = .ok (.putfield 23, 3) := by decide +kernel
theorem d_sm_init_41 : decode b_sm_init 41 = .ok (.return_, 1) := by decide +kernel
theorem d_sm_thrown_0 : decode b_sm_thrown 0 = .ok (.aload_n 0, 1) := by decide +kernel
theorem d_sm_thrown_1 : decode b_sm_thrown 1 = .ok (.getfield 27, 3) := by decide +kernel
theorem d_sm_thrown_4 : decode b_sm_thrown 4 = .ok (.ireturn, 1) := by decide +kernel
theorem d_sm_begin_0 : decode b_sm_begin 0 = .ok (.aload_n 0, 1) := by decide +kernel
theorem d_sm_begin_1 : decode b_sm_begin 1 = .ok (.iconst 0, 1) := by decide +kernel
theorem d_sm_begin_2 : decode b_sm_begin 2 = .ok (.putfield 27, 3) := by decide +kernel
theorem d_sm_begin_5 : decode b_sm_begin 5 = .ok (.aload_n 0, 1) := by decide +kernel
theorem d_sm_begin_6 : decode b_sm_begin 6 = .ok (.iload_n 1, 1) := by decide +kernel
theorem d_sm_begin_7 : decode b_sm_begin 7 = .ok (.i2l, 1) := by decide +kernel
theorem d_sm_begin_8 : decode b_sm_begin 8 = .ok (.lconst 1, 1) := by decide +kernel
theorem d_sm_begin_9 : decode b_sm_begin 9 = .ok (.ldc2_w 36, 3) := by decide +kernel
theorem d_sm_begin_12 : decode b_sm_begin 12 = .ok (.invokestatic 30, 3) := by decide +kernel
theorem d_sm_begin_15 : decode b_sm_begin 15 = .ok (.ifCond .ne 7, 3) := by decide +kernel
theorem d_sm_begin_18 : decode b_sm_begin 18 = .ok (.iconst 1, 1) := by decide +kernel
theorem d_sm_begin_19 : decode b_sm_begin 19 = .ok (.goto 4, 3) := by decide +kernel
theorem d_sm_begin_22 : decode b_sm_begin 22 = .ok (.iconst 0, 1) := by decide +kernel
theorem d_sm_begin_23 : decode b_sm_begin 23 = .ok (.iconst 1, 1) := by decide +kernel
theorem d_sm_begin_24 : decode b_sm_begin 24 = .ok (.invokevirtual 38, 3) := by decide +kernel
theorem d_sm_begin_27 : decode b_sm_begin 27 = .ok (.ifCond .eq 4, 3) := by decide +kernel
theorem d_sm_begin_30 : decode b_sm_begin 30 = .ok (.return_, 1) := by decide +kernel
theorem d_sm_begin_31 : decode b_sm_begin 31 = .ok (.aload_n 0, 1) := by decide +kernel
theorem d_sm_begin_32 : decode b_sm_begin 32 = .ok (.iload_n 1, 1) := by decide +kernel
theorem d_sm_begin_33 : decode b_sm_begin 33 = .ok (.putfield 7, 3) := by decide +kernel
theorem d_sm_begin_36 : decode b_sm_begin 36 = .ok (.iconst 0, 1) := by decide +kernel
theorem d_sm_begin_37 : decode b_sm_begin 37 = .ok (.istore_n 2, 1) := by decide +kernel
theorem d_sm_begin_38 : decode b_sm_begin 38 = .ok (.iload_n 2, 1) := by decide +kernel
theorem d_sm_begin_39 : decode b_sm_begin 39 = .ok (.bipush 8, 2) := by decide +kernel
theorem d_sm_begin_41 : decode b_sm_begin 41 = .ok (.if_icmp .ge 16, 3) := by decide +kernel
theorem d_sm_begin_44 : decode b_sm_begin 44 = .ok (.aload_n 0, 1) := by decide +kernel
theorem d_sm_begin_45 : decode b_sm_begin 45 = .ok (.getfield 13, 3) := by decide +kernel
theorem d_sm_begin_48 : decode b_sm_begin 48 = .ok (.iload_n 2, 1) := by decide +kernel
theorem d_sm_begin_49 : decode b_sm_begin 49 = .ok (.lconst 0, 1) := by decide +kernel
theorem d_sm_begin_50 : decode b_sm_begin 50 = .ok (.lastore, 1) := by decide +kernel
theorem d_sm_begin_51 : decode b_sm_begin 51 = .ok (.iinc 2 1, 3) := by decide +kernel
theorem d_sm_begin_54 : decode b_sm_begin 54 = .ok (.goto (-16), 3) := by decide +kernel
theorem d_sm_begin_57 : decode b_sm_begin 57 = .ok (.return_, 1) := by decide +kernel
theorem d_sm_in_0 : decode b_sm_in 0 = .ok (.lload_n 0, 1) := by decide +kernel
theorem d_sm_in_1 : decode b_sm_in 1 = .ok (.lload_n 2, 1) := by decide +kernel
theorem d_sm_in_2 : decode b_sm_in 2 = .ok (.lcmp, 1) := by decide +kernel
theorem d_sm_in_3 : decode b_sm_in 3 = .ok (.ifCond .lt 14, 3) := by decide +kernel
theorem d_sm_in_6 : decode b_sm_in 6 = .ok (.lload_n 0, 1) := by decide +kernel
theorem d_sm_in_7 : decode b_sm_in 7 = .ok (.lload 4, 2) := by decide +kernel
theorem d_sm_in_9 : decode b_sm_in 9 = .ok (.lcmp, 1) := by decide +kernel
theorem d_sm_in_10 : decode b_sm_in 10 = .ok (.ifCond .gt 7, 3) := by decide +kernel
theorem d_sm_in_13 : decode b_sm_in 13 = .ok (.iconst 1, 1) := by decide +kernel
theorem d_sm_in_14 : decode b_sm_in 14 = .ok (.goto 4, 3) := by decide +kernel
theorem d_sm_in_17 : decode b_sm_in 17 = .ok (.iconst 0, 1) := by decide +kernel
theorem d_sm_in_18 : decode b_sm_in 18 = .ok (.ireturn, 1) := by decide +kernel
theorem d_sm_fails_0 : decode b_sm_fails 0 = .ok (.iload_n 1, 1) := by decide +kernel
theorem d_sm_fails_1 : decode b_sm_fails 1 = .ok (.ifCond .eq 15, 3) := by decide +kernel
theorem d_sm_fails_4 : decode b_sm_fails 4 = .ok (.aload_n 0, 1) := by decide +kernel
theorem d_sm_fails_5 : decode b_sm_fails 5 = .ok (.getfield 27, 3) := by decide +kernel
theorem d_sm_fails_8 : decode b_sm_fails 8 = .ok (.ifCond .ne 8, 3) := by decide +kernel
theorem d_sm_fails_11 : decode b_sm_fails 11 = .ok (.aload_n 0, 1) := by decide +kernel
theorem d_sm_fails_12 : decode b_sm_fails 12 = .ok (.iload_n 2, 1) := by decide +kernel
theorem d_sm_fails_13 : decode b_sm_fails 13 = .ok (.putfield 27, 3) := by decide +kernel
theorem d_sm_fails_16 : decode b_sm_fails 16 = .ok (.aload_n 0, 1) := by decide +kernel
theorem d_sm_fails_17 : decode b_sm_fails 17 = .ok (.getfield 27, 3) := by decide +kernel
theorem d_sm_fails_20 : decode b_sm_fails 20 = .ok (.ifCond .eq 7, 3) := by decide +kernel
theorem d_sm_fails_23 : decode b_sm_fails 23 = .ok (.iconst 1, 1) := by decide +kernel
theorem d_sm_fails_24 : decode b_sm_fails 24 = .ok (.goto 4, 3) := by decide +kernel
theorem d_sm_fails_27 : decode b_sm_fails 27 = .ok (.iconst 0, 1) := by decide +kernel
theorem d_sm_fails_28 : decode b_sm_fails 28 = .ok (.ireturn, 1) := by decide +kernel
theorem d_sm_weight_0 : decode b_sm_weight 0 = .ok (.aload_n 0, 1) := by decide +kernel
theorem d_sm_weight_1 : decode b_sm_weight 1 = .ok (.iconst 0, 1) := by decide +kernel
theorem d_sm_weight_2 : decode b_sm_weight 2 = .ok (.putfield 27, 3) := by decide +kernel
theorem d_sm_weight_5 : decode b_sm_weight 5 = .ok (.aload_n 0, 1) := by decide +kernel
theorem d_sm_weight_6 : decode b_sm_weight 6 = .ok (.aload_n 0, 1) := by decide +kernel
theorem d_sm_weight_7 : decode b_sm_weight 7 = .ok (.iload_n 1, 1) := by decide +kernel
theorem d_sm_weight_8 : decode b_sm_weight 8 = .ok (.invokevirtual 42, 3) := by decide +kernel
theorem d_sm_weight_11 : decode b_sm_weight 11 = .ok (.ifCond .eq 15, 3) := by decide +kernel
theorem d_sm_weight_14 : decode b_sm_weight 14 = .ok (.iload_n 2, 1) := by decide +kernel
theorem d_sm_weight_15 : decode b_sm_weight 15 = .ok (.i2l, 1) := by decide +kernel
theorem d_sm_weight_16 : decode b_sm_weight 16 = .ok (.lconst 0, 1) := by decide +kernel
theorem d_sm_weight_17 : decode b_sm_weight 17 = .ok (.ldc2_w 46, 3) := by decide +kernel
theorem d_sm_weight_20 : decode b_sm_weight 20 = .ok (.invokestatic 30, 3) := by decide +kernel
theorem d_sm_weight_23 : decode b_sm_weight 23 = .ok (.ifCond .ne 7, 3) := by decide +kernel
theorem d_sm_weight_26 : decode b_sm_weight 26 = .ok (.iconst 1, 1) := by decide +kernel
theorem d_sm_weight_27 : decode b_sm_weight 27 = .ok (.goto 4, 3) := by decide +kernel
theorem d_sm_weight_30 : decode b_sm_weight 30 = .ok (.iconst 0, 1) := by decide +kernel
theorem d_sm_weight_31 : decode b_sm_weight 31 = .ok (.iconst 1, 1) := by decide +kernel
theorem d_sm_weight_32 : decode b_sm_weight 32 = .ok (.invokevirtual 38, 3) := by decide +kernel
theorem d_sm_weight_35 : decode b_sm_weight 35 = .ok (.ifCond .eq 5, 3) := by decide +kernel
theorem d_sm_weight_38 : decode b_sm_weight 38 = .ok (.iconst 0, 1) := by decide +kernel
theorem d_sm_weight_39 : decode b_sm_weight 39 = .ok (.ireturn, 1) := by decide +kernel
theorem d_sm_weight_40 : decode b_sm_weight 40 = .ok (.aload_n 0, 1) := by decide +kernel
theorem d_sm_weight_41 : decode b_sm_weight 41 = .ok (.getfield 13, 3) := by decide +kernel
theorem d_sm_weight_44 : decode b_sm_weight 44 = .ok (.iload_n 1, 1) := by decide +kernel
theorem d_sm_weight_45 : decode b_sm_weight 45 = .ok (.laload, 1) := by decide +kernel
theorem d_sm_weight_46 : decode b_sm_weight 46 = .ok (.l2i, 1) := by decide +kernel
theorem d_sm_weight_47 : decode b_sm_weight 47 = .ok (.istore_n 3, 1) := by decide +kernel
theorem d_sm_weight_48 : decode b_sm_weight 48 = .ok (.aload_n 0, 1) := by decide +kernel
theorem d_sm_weight_49 : decode b_sm_weight 49 = .ok (.getfield 13, 3) := by decide +kernel
theorem d_sm_weight_52 : decode b_sm_weight 52 = .ok (.iload_n 1, 1) := by decide +kernel
theorem d_sm_weight_53 : decode b_sm_weight 53 = .ok (.iload_n 2, 1) := by decide +kernel
theorem d_sm_weight_54 : decode b_sm_weight 54 = .ok (.i2l, 1) := by decide +kernel
theorem d_sm_weight_55 : decode b_sm_weight 55 = .ok (.lastore, 1) := by decide +kernel
theorem d_sm_weight_56 : decode b_sm_weight 56 = .ok (.iload_n 3, 1) := by decide +kernel
theorem d_sm_weight_57 : decode b_sm_weight 57 = .ok (.ireturn, 1) := by decide +kernel
theorem d_sm_isParty_0 : decode b_sm_isParty 0 = .ok (.iload_n 1, 1) := by decide +kernel
theorem d_sm_isParty_1 : decode b_sm_isParty 1 = .ok (.i2l, 1) := by decide +kernel
theorem d_sm_isParty_2 : decode b_sm_isParty 2 = .ok (.lconst 0, 1) := by decide +kernel
theorem d_sm_isParty_3 : decode b_sm_isParty 3 = .ok (.aload_n 0, 1) := by decide +kernel
theorem d_sm_isParty_4 : decode b_sm_isParty 4 = .ok (.getfield 7, 3) := by decide +kernel
theorem d_sm_isParty_7 : decode b_sm_isParty 7 = .ok (.iconst 1, 1) := by decide +kernel
theorem d_sm_isParty_8 : decode b_sm_isParty 8 = .ok (.isub, 1) := by decide +kernel
theorem d_sm_isParty_9 : decode b_sm_isParty 9 = .ok (.i2l, 1) := by decide +kernel
theorem d_sm_isParty_10 : decode b_sm_isParty 10 = .ok (.invokestatic 30, 3) := by decide +kernel
theorem d_sm_isParty_13 : decode b_sm_isParty 13 = .ok (.ireturn, 1) := by decide +kernel
theorem d_sm_share_0 : decode b_sm_share 0 = .ok (.aload_n 0, 1) := by decide +kernel
theorem d_sm_share_1 : decode b_sm_share 1 = .ok (.iconst 0, 1) := by decide +kernel
theorem d_sm_share_2 : decode b_sm_share 2 = .ok (.putfield 27, 3) := by decide +kernel
theorem d_sm_share_5 : decode b_sm_share 5 = .ok (.aload_n 0, 1) := by decide +kernel
theorem d_sm_share_6 : decode b_sm_share 6 = .ok (.iload_n 1, 1) := by decide +kernel
theorem d_sm_share_7 : decode b_sm_share 7 = .ok (.invokestatic 59, 3) := by decide +kernel
theorem d_sm_share_10 : decode b_sm_share 10 = .ok (.ifCond .eq 23, 3) := by decide +kernel
theorem d_sm_share_13 : decode b_sm_share 13 = .ok (.iload_n 2, 1) := by decide +kernel
theorem d_sm_share_14 : decode b_sm_share 14 = .ok (.i2l, 1) := by decide +kernel
theorem d_sm_share_15 : decode b_sm_share 15 = .ok (.lconst 0, 1) := by decide +kernel
theorem d_sm_share_16 : decode b_sm_share 16 = .ok (.ldc2_w 62, 3) := by decide +kernel
theorem d_sm_share_19 : decode b_sm_share 19 = .ok (.invokestatic 30, 3) := by decide +kernel
theorem d_sm_share_22 : decode b_sm_share 22 = .ok (.ifCond .eq 11, 3) := by decide +kernel
theorem d_sm_share_25 : decode b_sm_share 25 = .ok (.aload_n 0, 1) := by decide +kernel
theorem d_sm_share_26 : decode b_sm_share 26 = .ok (.iload_n 3, 1) := by decide +kernel
theorem d_sm_share_27 : decode b_sm_share 27 = .ok (.invokevirtual 42, 3) := by decide +kernel
theorem d_sm_share_30 : decode b_sm_share 30 = .ok (.ifCond .ne 7, 3) := by decide +kernel
theorem d_sm_share_33 : decode b_sm_share 33 = .ok (.iconst 1, 1) := by decide +kernel
theorem d_sm_share_34 : decode b_sm_share 34 = .ok (.goto 4, 3) := by decide +kernel
theorem d_sm_share_37 : decode b_sm_share 37 = .ok (.iconst 0, 1) := by decide +kernel
theorem d_sm_share_38 : decode b_sm_share 38 = .ok (.iconst 1, 1) := by decide +kernel
theorem d_sm_share_39 : decode b_sm_share 39 = .ok (.invokevirtual 38, 3) := by decide +kernel
theorem d_sm_share_42 : decode b_sm_share 42 = .ok (.ifCond .ne 25, 3) := by decide +kernel
theorem d_sm_share_45 : decode b_sm_share 45 = .ok (.aload_n 0, 1) := by decide +kernel
theorem d_sm_share_46 : decode b_sm_share 46 = .ok (.aload_n 0, 1) := by decide +kernel
theorem d_sm_share_47 : decode b_sm_share 47 = .ok (.invokevirtual 48, 3) := by decide +kernel
theorem d_sm_share_50 : decode b_sm_share 50 = .ok (.lconst 0, 1) := by decide +kernel
theorem d_sm_share_51 : decode b_sm_share 51 = .ok (.lcmp, 1) := by decide +kernel
theorem d_sm_share_52 : decode b_sm_share 52 = .ok (.ifCond .ne 7, 3) := by decide +kernel
theorem d_sm_share_55 : decode b_sm_share 55 = .ok (.iconst 1, 1) := by decide +kernel
theorem d_sm_share_56 : decode b_sm_share 56 = .ok (.goto 4, 3) := by decide +kernel
theorem d_sm_share_59 : decode b_sm_share 59 = .ok (.iconst 0, 1) := by decide +kernel
theorem d_sm_share_60 : decode b_sm_share 60 = .ok (.iconst 2, 1) := by decide +kernel
theorem d_sm_share_61 : decode b_sm_share 61 = .ok (.invokevirtual 38, 3) := by decide +kernel
theorem d_sm_share_64 : decode b_sm_share 64 = .ok (.ifCond .eq 5, 3) := by decide +kernel
theorem d_sm_share_67 : decode b_sm_share 67 = .ok (.iconst 0, 1) := by decide +kernel
theorem d_sm_share_68 : decode b_sm_share 68 = .ok (.ireturn, 1) := by decide +kernel
theorem d_sm_share_69 : decode b_sm_share 69 = .ok (.aload_n 0, 1) := by decide +kernel
theorem d_sm_share_70 : decode b_sm_share 70 = .ok (.iload_n 1, 1) := by decide +kernel
theorem d_sm_share_71 : decode b_sm_share 71 = .ok (.iload_n 2, 1) := by decide +kernel
theorem d_sm_share_72 : decode b_sm_share 72 = .ok (.invokevirtual 64, 3) := by decide +kernel
theorem d_sm_share_75 : decode b_sm_share 75 = .ok (.aload_n 0, 1) := by decide +kernel
theorem d_sm_share_76 : decode b_sm_share 76 = .ok (.getfield 17, 3) := by decide +kernel
theorem d_sm_share_79 : decode b_sm_share 79 = .ok (.iload_n 3, 1) := by decide +kernel
theorem d_sm_share_80 : decode b_sm_share 80 = .ok (.laload, 1) := by decide +kernel
theorem d_sm_share_81 : decode b_sm_share 81 = .ok (.l2i, 1) := by decide +kernel
theorem d_sm_share_82 : decode b_sm_share 82 = .ok (.ireturn, 1) := by decide +kernel
theorem d_sm_isWay_0 : decode b_sm_isWay 0 = .ok (.iload_n 0, 1) := by decide +kernel
theorem d_sm_isWay_1 : decode b_sm_isWay 1 = .ok (.i2l, 1) := by decide +kernel
theorem d_sm_isWay_2 : decode b_sm_isWay 2 = .ok (.lconst 0, 1) := by decide +kernel
theorem d_sm_isWay_3 : decode b_sm_isWay 3 = .ok (.ldc2_w 34, 3) := by decide +kernel
theorem d_sm_isWay_6 : decode b_sm_isWay 6 = .ok (.invokestatic 30, 3) := by decide +kernel
theorem d_sm_isWay_9 : decode b_sm_isWay 9 = .ok (.ireturn, 1) := by decide +kernel
theorem d_sm_all_0 : decode b_sm_all 0 = .ok (.lconst 0, 1) := by decide +kernel
theorem d_sm_all_1 : decode b_sm_all 1 = .ok (.lstore_n 1, 1) := by decide +kernel
theorem d_sm_all_2 : decode b_sm_all 2 = .ok (.iconst 0, 1) := by decide +kernel
theorem d_sm_all_3 : decode b_sm_all 3 = .ok (.istore_n 3, 1) := by decide +kernel
theorem d_sm_all_4 : decode b_sm_all 4 = .ok (.iload_n 3, 1) := by decide +kernel
theorem d_sm_all_5 : decode b_sm_all 5 = .ok (.aload_n 0, 1) := by decide +kernel
theorem d_sm_all_6 : decode b_sm_all 6 = .ok (.getfield 7, 3) := by decide +kernel
theorem d_sm_all_9 : decode b_sm_all 9 = .ok (.if_icmp .ge 18, 3) := by decide +kernel
theorem d_sm_all_12 : decode b_sm_all 12 = .ok (.lload_n 1, 1) := by decide +kernel
theorem d_sm_all_13 : decode b_sm_all 13 = .ok (.aload_n 0, 1) := by decide +kernel
theorem d_sm_all_14 : decode b_sm_all 14 = .ok (.getfield 13, 3) := by decide +kernel
theorem d_sm_all_17 : decode b_sm_all 17 = .ok (.iload_n 3, 1) := by decide +kernel
theorem d_sm_all_18 : decode b_sm_all 18 = .ok (.laload, 1) := by decide +kernel
theorem d_sm_all_19 : decode b_sm_all 19 = .ok (.ladd, 1) := by decide +kernel
theorem d_sm_all_20 : decode b_sm_all 20 = .ok (.lstore_n 1, 1) := by decide +kernel
theorem d_sm_all_21 : decode b_sm_all 21 = .ok (.iinc 3 1, 3) := by decide +kernel
theorem d_sm_all_24 : decode b_sm_all 24 = .ok (.goto (-20), 3) := by decide +kernel
theorem d_sm_all_27 : decode b_sm_all 27 = .ok (.lload_n 1, 1) := by decide +kernel
theorem d_sm_all_28 : decode b_sm_all 28 = .ok (.lreturn, 1) := by decide +kernel
theorem d_sm_give_0 : decode b_sm_give 0 = .ok (.iload_n 1, 1) := by decide +kernel
theorem d_sm_give_1 : decode b_sm_give 1 = .ok (.ifCond .ne 9, 3) := by decide +kernel
theorem d_sm_give_4 : decode b_sm_give 4 = .ok (.aload_n 0, 1) := by decide +kernel
theorem d_sm_give_5 : decode b_sm_give 5 = .ok (.iload_n 2, 1) := by decide +kernel
theorem d_sm_give_6 : decode b_sm_give 6 = .ok (.invokevirtual 52, 3) := by decide +kernel
theorem d_sm_give_9 : decode b_sm_give 9 = .ok (.return_, 1) := by decide +kernel
theorem d_sm_give_10 : decode b_sm_give 10 = .ok (.iconst 0, 1) := by decide +kernel
theorem d_sm_give_11 : decode b_sm_give 11 = .ok (.istore_n 3, 1) := by decide +kernel
theorem d_sm_give_12 : decode b_sm_give 12 = .ok (.iload_n 3, 1) := by decide +kernel
theorem d_sm_give_13 : decode b_sm_give 13 = .ok (.aload_n 0, 1) := by decide +kernel
theorem d_sm_give_14 : decode b_sm_give 14 = .ok (.getfield 7, 3) := by decide +kernel
theorem d_sm_give_17 : decode b_sm_give 17 = .ok (.if_icmp .ge 16, 3) := by decide +kernel
theorem d_sm_give_20 : decode b_sm_give 20 = .ok (.aload_n 0, 1) := by decide +kernel
theorem d_sm_give_21 : decode b_sm_give 21 = .ok (.getfield 17, 3) := by decide +kernel
theorem d_sm_give_24 : decode b_sm_give 24 = .ok (.iload_n 3, 1) := by decide +kernel
theorem d_sm_give_25 : decode b_sm_give 25 = .ok (.lconst 0, 1) := by decide +kernel
theorem d_sm_give_26 : decode b_sm_give 26 = .ok (.lastore, 1) := by decide +kernel
theorem d_sm_give_27 : decode b_sm_give 27 = .ok (.iinc 3 1, 3) := by decide +kernel
theorem d_sm_give_30 : decode b_sm_give 30 = .ok (.goto (-18), 3) := by decide +kernel
theorem d_sm_give_33 : decode b_sm_give 33 = .ok (.iconst 0, 1) := by decide +kernel
theorem d_sm_give_34 : decode b_sm_give 34 = .ok (.istore_n 3, 1) := by decide +kernel
theorem d_sm_give_35 : decode b_sm_give 35 = .ok (.iload_n 3, 1) := by decide +kernel
theorem d_sm_give_36 : decode b_sm_give 36 = .ok (.iload_n 2, 1) := by decide +kernel
theorem d_sm_give_37 : decode b_sm_give 37 = .ok (.if_icmp .ge 14, 3) := by decide +kernel
theorem d_sm_give_40 : decode b_sm_give 40 = .ok (.aload_n 0, 1) := by decide +kernel
theorem d_sm_give_41 : decode b_sm_give 41 = .ok (.iload_n 1, 1) := by decide +kernel
theorem d_sm_give_42 : decode b_sm_give 42 = .ok (.invokevirtual 56, 3) := by decide +kernel
theorem d_sm_give_45 : decode b_sm_give 45 = .ok (.iinc 3 1, 3) := by decide +kernel
theorem d_sm_give_48 : decode b_sm_give 48 = .ok (.goto (-13), 3) := by decide +kernel
theorem d_sm_give_51 : decode b_sm_give 51 = .ok (.return_, 1) := by decide +kernel
theorem d_sm_parts_0 : decode b_sm_parts 0 = .ok (.aload_n 0, 1) := by decide +kernel
theorem d_sm_parts_1 : decode b_sm_parts 1 = .ok (.invokevirtual 48, 3) := by decide +kernel
theorem d_sm_parts_4 : decode b_sm_parts 4 = .ok (.lstore_n 2, 1) := by decide +kernel
theorem d_sm_parts_5 : decode b_sm_parts 5 = .ok (.iload_n 1, 1) := by decide +kernel
theorem d_sm_parts_6 : decode b_sm_parts 6 = .ok (.i2l, 1) := by decide +kernel
theorem d_sm_parts_7 : decode b_sm_parts 7 = .ok (.lstore 4, 2) := by decide +kernel
theorem d_sm_parts_9 : decode b_sm_parts 9 = .ok (.iconst 0, 1) := by decide +kernel
theorem d_sm_parts_10 : decode b_sm_parts 10 = .ok (.istore 6, 2) := by decide +kernel
theorem d_sm_parts_12 : decode b_sm_parts 12 = .ok (.iload 6, 2) := by decide +kernel
theorem d_sm_parts_14 : decode b_sm_parts 14 = .ok (.aload_n 0, 1) := by decide +kernel
theorem d_sm_parts_15 : decode b_sm_parts 15 = .ok (.getfield 7, 3) := by decide +kernel
theorem d_sm_parts_18 : decode b_sm_parts 18 = .ok (.if_icmp .ge 48, 3) := by decide +kernel
theorem d_sm_parts_21 : decode b_sm_parts 21 = .ok (.aload_n 0, 1) := by decide +kernel
theorem d_sm_parts_22 : decode b_sm_parts 22 = .ok (.getfield 17, 3) := by decide +kernel
theorem d_sm_parts_25 : decode b_sm_parts 25 = .ok (.iload 6, 2) := by decide +kernel
theorem d_sm_parts_27 : decode b_sm_parts 27 = .ok (.iload_n 1, 1) := by decide +kernel
theorem d_sm_parts_28 : decode b_sm_parts 28 = .ok (.i2l, 1) := by decide +kernel
theorem d_sm_parts_29 : decode b_sm_parts 29 = .ok (.aload_n 0, 1) := by decide +kernel
theorem d_sm_parts_30 : decode b_sm_parts 30 = .ok (.getfield 13, 3) := by decide +kernel
theorem d_sm_parts_33 : decode b_sm_parts 33 = .ok (.iload 6, 2) := by decide +kernel
theorem d_sm_parts_35 : decode b_sm_parts 35 = .ok (.laload, 1) := by decide +kernel
theorem d_sm_parts_36 : decode b_sm_parts 36 = .ok (.lmul, 1) := by decide +kernel
theorem d_sm_parts_37 : decode b_sm_parts 37 = .ok (.lload_n 2, 1) := by decide +kernel
theorem d_sm_parts_38 : decode b_sm_parts 38 = .ok (.ldiv, 1) := by decide +kernel
theorem d_sm_parts_39 : decode b_sm_parts 39 = .ok (.lastore, 1) := by decide +kernel
theorem d_sm_parts_40 : decode b_sm_parts 40 = .ok (.lload 4, 2) := by decide +kernel
theorem d_sm_parts_42 : decode b_sm_parts 42 = .ok (.aload_n 0, 1) := by decide +kernel
theorem d_sm_parts_43 : decode b_sm_parts 43 = .ok (.getfield 17, 3) := by decide +kernel
theorem d_sm_parts_46 : decode b_sm_parts 46 = .ok (.iload 6, 2) := by decide +kernel
theorem d_sm_parts_48 : decode b_sm_parts 48 = .ok (.laload, 1) := by decide +kernel
theorem d_sm_parts_49 : decode b_sm_parts 49 = .ok (.lsub, 1) := by decide +kernel
theorem d_sm_parts_50 : decode b_sm_parts 50 = .ok (.lstore 4, 2) := by decide +kernel
theorem d_sm_parts_52 : decode b_sm_parts 52 = .ok (.aload_n 0, 1) := by decide +kernel
theorem d_sm_parts_53 : decode b_sm_parts 53 = .ok (.getfield 23, 3) := by decide +kernel
theorem d_sm_parts_56 : decode b_sm_parts 56 = .ok (.iload 6, 2) := by decide +kernel
theorem d_sm_parts_58 : decode b_sm_parts 58 = .ok (.iconst 0, 1) := by decide +kernel
theorem d_sm_parts_59 : decode b_sm_parts 59 = .ok (.bastore, 1) := by decide +kernel
theorem d_sm_parts_60 : decode b_sm_parts 60 = .ok (.iinc 6 1, 3) := by decide +kernel
theorem d_sm_parts_63 : decode b_sm_parts 63 = .ok (.goto (-51), 3) := by decide +kernel
theorem d_sm_parts_66 : decode b_sm_parts 66 = .ok (.lload 4, 2) := by decide +kernel
theorem d_sm_parts_68 : decode b_sm_parts 68 = .ok (.lconst 0, 1) := by decide +kernel
theorem d_sm_parts_69 : decode b_sm_parts 69 = .ok (.lcmp, 1) := by decide +kernel
theorem d_sm_parts_70 : decode b_sm_parts 70 = .ok (.ifCond .le 99, 3) := by decide +kernel
theorem d_sm_parts_73 : decode b_sm_parts 73 = .ok (.iconst (-1), 1) := by decide +kernel
theorem d_sm_parts_74 : decode b_sm_parts 74 = .ok (.istore 6, 2) := by decide +kernel
theorem d_sm_parts_76 : decode b_sm_parts 76 = .ok (.iconst 0, 1) := by decide +kernel
theorem d_sm_parts_77 : decode b_sm_parts 77 = .ok (.istore 7, 2) := by decide +kernel
theorem d_sm_parts_79 : decode b_sm_parts 79 = .ok (.iload 7, 2) := by decide +kernel
theorem d_sm_parts_81 : decode b_sm_parts 81 = .ok (.aload_n 0, 1) := by decide +kernel
theorem d_sm_parts_82 : decode b_sm_parts 82 = .ok (.getfield 7, 3) := by decide +kernel
theorem d_sm_parts_85 : decode b_sm_parts 85 = .ok (.if_icmp .ge 56, 3) := by decide +kernel
theorem d_sm_parts_88 : decode b_sm_parts 88 = .ok (.aload_n 0, 1) := by decide +kernel
theorem d_sm_parts_89 : decode b_sm_parts 89 = .ok (.getfield 23, 3) := by decide +kernel
theorem d_sm_parts_92 : decode b_sm_parts 92 = .ok (.iload 7, 2) := by decide +kernel
theorem d_sm_parts_94 : decode b_sm_parts 94 = .ok (.baload, 1) := by decide +kernel
theorem d_sm_parts_95 : decode b_sm_parts 95 = .ok (.ifCond .ne 40, 3) := by decide +kernel
theorem d_sm_parts_98 : decode b_sm_parts 98 = .ok (.iload 6, 2) := by decide +kernel
theorem d_sm_parts_100 : decode b_sm_parts 100 = .ok (.ifCond .lt 31, 3) := by decide +kernel
theorem d_sm_parts_103 : decode b_sm_parts 103 = .ok (.iload_n 1, 1) := by decide +kernel
theorem d_sm_parts_104 : decode b_sm_parts 104 = .ok (.i2l, 1) := by decide +kernel
theorem d_sm_parts_105 : decode b_sm_parts 105 = .ok (.aload_n 0, 1) := by decide +kernel
theorem d_sm_parts_106 : decode b_sm_parts 106 = .ok (.getfield 13, 3) := by decide +kernel
theorem d_sm_parts_109 : decode b_sm_parts 109 = .ok (.iload 7, 2) := by decide +kernel
theorem d_sm_parts_111 : decode b_sm_parts 111 = .ok (.laload, 1) := by decide +kernel
theorem d_sm_parts_112 : decode b_sm_parts 112 = .ok (.lmul, 1) := by decide +kernel
theorem d_sm_parts_113 : decode b_sm_parts 113 = .ok (.lload_n 2, 1) := by decide +kernel
theorem d_sm_parts_114 : decode b_sm_parts 114 = .ok (.lrem, 1) := by decide +kernel
theorem d_sm_parts_115 : decode b_sm_parts 115 = .ok (.iload_n 1, 1) := by decide +kernel
theorem d_sm_parts_116 : decode b_sm_parts 116 = .ok (.i2l, 1) := by decide +kernel
theorem d_sm_parts_117 : decode b_sm_parts 117 = .ok (.aload_n 0, 1) := by decide +kernel
theorem d_sm_parts_118 : decode b_sm_parts 118 = .ok (.getfield 13, 3) := by decide +kernel
theorem d_sm_parts_121 : decode b_sm_parts 121 = .ok (.iload 6, 2) := by decide +kernel
theorem d_sm_parts_123 : decode b_sm_parts 123 = .ok (.laload, 1) := by decide +kernel
theorem d_sm_parts_124 : decode b_sm_parts 124 = .ok (.lmul, 1) := by decide +kernel
theorem d_sm_parts_125 : decode b_sm_parts 125 = .ok (.lload_n 2, 1) := by decide +kernel
theorem d_sm_parts_126 : decode b_sm_parts 126 = .ok (.lrem, 1) := by decide +kernel
theorem d_sm_parts_127 : decode b_sm_parts 127 = .ok (.lcmp, 1) := by decide +kernel
theorem d_sm_parts_128 : decode b_sm_parts 128 = .ok (.ifCond .le 7, 3) := by decide +kernel
theorem d_sm_parts_131 : decode b_sm_parts 131 = .ok (.iload 7, 2) := by decide +kernel
theorem d_sm_parts_133 : decode b_sm_parts 133 = .ok (.istore 6, 2) := by decide +kernel
theorem d_sm_parts_135 : decode b_sm_parts 135 = .ok (.iinc 7 1, 3) := by decide +kernel
theorem d_sm_parts_138 : decode b_sm_parts 138 = .ok (.goto (-59), 3) := by decide +kernel
theorem d_sm_parts_141 : decode b_sm_parts 141 = .ok (.aload_n 0, 1) := by decide +kernel
theorem d_sm_parts_142 : decode b_sm_parts 142 = .ok (.getfield 23, 3) := by decide +kernel
theorem d_sm_parts_145 : decode b_sm_parts 145 = .ok (.iload 6, 2) := by decide +kernel
theorem d_sm_parts_147 : decode b_sm_parts 147 = .ok (.iconst 1, 1) := by decide +kernel
theorem d_sm_parts_148 : decode b_sm_parts 148 = .ok (.bastore, 1) := by decide +kernel
theorem d_sm_parts_149 : decode b_sm_parts 149 = .ok (.aload_n 0, 1) := by decide +kernel
theorem d_sm_parts_150 : decode b_sm_parts 150 = .ok (.getfield 17, 3) := by decide +kernel
theorem d_sm_parts_153 : decode b_sm_parts 153 = .ok (.iload 6, 2) := by decide +kernel
theorem d_sm_parts_155 : decode b_sm_parts 155 = .ok (.dup2, 1) := by decide +kernel
theorem d_sm_parts_156 : decode b_sm_parts 156 = .ok (.laload, 1) := by decide +kernel
theorem d_sm_parts_157 : decode b_sm_parts 157 = .ok (.lconst 1, 1) := by decide +kernel
theorem d_sm_parts_158 : decode b_sm_parts 158 = .ok (.ladd, 1) := by decide +kernel
theorem d_sm_parts_159 : decode b_sm_parts 159 = .ok (.lastore, 1) := by decide +kernel
theorem d_sm_parts_160 : decode b_sm_parts 160 = .ok (.lload 4, 2) := by decide +kernel
theorem d_sm_parts_162 : decode b_sm_parts 162 = .ok (.lconst 1, 1) := by decide +kernel
theorem d_sm_parts_163 : decode b_sm_parts 163 = .ok (.lsub, 1) := by decide +kernel
theorem d_sm_parts_164 : decode b_sm_parts 164 = .ok (.lstore 4, 2) := by decide +kernel
theorem d_sm_parts_166 : decode b_sm_parts 166 = .ok (.goto (-100), 3) := by decide +kernel
theorem d_sm_parts_169 : decode b_sm_parts 169 = .ok (.return_, 1) := by decide +kernel
theorem d_sm_one_0 : decode b_sm_one 0 = .ok (.iconst (-1), 1) := by decide +kernel
theorem d_sm_one_1 : decode b_sm_one 1 = .ok (.istore_n 2, 1) := by decide +kernel
theorem d_sm_one_2 : decode b_sm_one 2 = .ok (.iconst 0, 1) := by decide +kernel
theorem d_sm_one_3 : decode b_sm_one 3 = .ok (.istore_n 3, 1) := by decide +kernel
theorem d_sm_one_4 : decode b_sm_one 4 = .ok (.iload_n 3, 1) := by decide +kernel
theorem d_sm_one_5 : decode b_sm_one 5 = .ok (.aload_n 0, 1) := by decide +kernel
theorem d_sm_one_6 : decode b_sm_one 6 = .ok (.getfield 7, 3) := by decide +kernel
theorem d_sm_one_9 : decode b_sm_one 9 = .ok (.if_icmp .ge 66, 3) := by decide +kernel
theorem d_sm_one_12 : decode b_sm_one 12 = .ok (.aload_n 0, 1) := by decide +kernel
theorem d_sm_one_13 : decode b_sm_one 13 = .ok (.getfield 13, 3) := by decide +kernel
theorem d_sm_one_16 : decode b_sm_one 16 = .ok (.iload_n 3, 1) := by decide +kernel
theorem d_sm_one_17 : decode b_sm_one 17 = .ok (.laload, 1) := by decide +kernel
theorem d_sm_one_18 : decode b_sm_one 18 = .ok (.lconst 0, 1) := by decide +kernel
theorem d_sm_one_19 : decode b_sm_one 19 = .ok (.lcmp, 1) := by decide +kernel
theorem d_sm_one_20 : decode b_sm_one 20 = .ok (.ifCond .le 49, 3) := by decide +kernel
theorem d_sm_one_23 : decode b_sm_one 23 = .ok (.iload_n 2, 1) := by decide +kernel
theorem d_sm_one_24 : decode b_sm_one 24 = .ok (.ifCond .lt 43, 3) := by decide +kernel
theorem d_sm_one_27 : decode b_sm_one 27 = .ok (.aload_n 0, 1) := by decide +kernel
theorem d_sm_one_28 : decode b_sm_one 28 = .ok (.getfield 13, 3) := by decide +kernel
theorem d_sm_one_31 : decode b_sm_one 31 = .ok (.iload_n 3, 1) := by decide +kernel
theorem d_sm_one_32 : decode b_sm_one 32 = .ok (.laload, 1) := by decide +kernel
theorem d_sm_one_33 : decode b_sm_one 33 = .ok (.iload_n 1, 1) := by decide +kernel
theorem d_sm_one_34 : decode b_sm_one 34 = .ok (.i2l, 1) := by decide +kernel
theorem d_sm_one_35 : decode b_sm_one 35 = .ok (.aload_n 0, 1) := by decide +kernel
theorem d_sm_one_36 : decode b_sm_one 36 = .ok (.getfield 17, 3) := by decide +kernel
theorem d_sm_one_39 : decode b_sm_one 39 = .ok (.iload_n 2, 1) := by decide +kernel
theorem d_sm_one_40 : decode b_sm_one 40 = .ok (.laload, 1) := by decide +kernel
theorem d_sm_one_41 : decode b_sm_one 41 = .ok (.lmul, 1) := by decide +kernel
theorem d_sm_one_42 : decode b_sm_one 42 = .ok (.lconst 1, 1) := by decide +kernel
theorem d_sm_one_43 : decode b_sm_one 43 = .ok (.ladd, 1) := by decide +kernel
theorem d_sm_one_44 : decode b_sm_one 44 = .ok (.lmul, 1) := by decide +kernel
theorem d_sm_one_45 : decode b_sm_one 45 = .ok (.aload_n 0, 1) := by decide +kernel
theorem d_sm_one_46 : decode b_sm_one 46 = .ok (.getfield 13, 3) := by decide +kernel
theorem d_sm_one_49 : decode b_sm_one 49 = .ok (.iload_n 2, 1) := by decide +kernel
theorem d_sm_one_50 : decode b_sm_one 50 = .ok (.laload, 1) := by decide +kernel
theorem d_sm_one_51 : decode b_sm_one 51 = .ok (.iload_n 1, 1) := by decide +kernel
theorem d_sm_one_52 : decode b_sm_one 52 = .ok (.i2l, 1) := by decide +kernel
theorem d_sm_one_53 : decode b_sm_one 53 = .ok (.aload_n 0, 1) := by decide +kernel
theorem d_sm_one_54 : decode b_sm_one 54 = .ok (.getfield 17, 3) := by decide +kernel
theorem d_sm_one_57 : decode b_sm_one 57 = .ok (.iload_n 3, 1) := by decide +kernel
theorem d_sm_one_58 : decode b_sm_one 58 = .ok (.laload, 1) := by decide +kernel
theorem d_sm_one_59 : decode b_sm_one 59 = .ok (.lmul, 1) := by decide +kernel
theorem d_sm_one_60 : decode b_sm_one 60 = .ok (.lconst 1, 1) := by decide +kernel
theorem d_sm_one_61 : decode b_sm_one 61 = .ok (.ladd, 1) := by decide +kernel
theorem d_sm_one_62 : decode b_sm_one 62 = .ok (.lmul, 1) := by decide +kernel
theorem d_sm_one_63 : decode b_sm_one 63 = .ok (.lcmp, 1) := by decide +kernel
theorem d_sm_one_64 : decode b_sm_one 64 = .ok (.ifCond .le 5, 3) := by decide +kernel
theorem d_sm_one_67 : decode b_sm_one 67 = .ok (.iload_n 3, 1) := by decide +kernel
theorem d_sm_one_68 : decode b_sm_one 68 = .ok (.istore_n 2, 1) := by decide +kernel
theorem d_sm_one_69 : decode b_sm_one 69 = .ok (.iinc 3 1, 3) := by decide +kernel
theorem d_sm_one_72 : decode b_sm_one 72 = .ok (.goto (-68), 3) := by decide +kernel
theorem d_sm_one_75 : decode b_sm_one 75 = .ok (.aload_n 0, 1) := by decide +kernel
theorem d_sm_one_76 : decode b_sm_one 76 = .ok (.getfield 17, 3) := by decide +kernel
theorem d_sm_one_79 : decode b_sm_one 79 = .ok (.iload_n 2, 1) := by decide +kernel
theorem d_sm_one_80 : decode b_sm_one 80 = .ok (.dup2, 1) := by decide +kernel
theorem d_sm_one_81 : decode b_sm_one 81 = .ok (.laload, 1) := by decide +kernel
theorem d_sm_one_82 : decode b_sm_one 82 = .ok (.lconst 1, 1) := by decide +kernel
theorem d_sm_one_83 : decode b_sm_one 83 = .ok (.ladd, 1) := by decide +kernel
theorem d_sm_one_84 : decode b_sm_one 84 = .ok (.lastore, 1) := by decide +kernel
theorem d_sm_one_85 : decode b_sm_one 85 = .ok (.return_, 1) := by decide +kernel
theorem d_sm_over_0 : decode b_sm_over 0 = .ok (.aload_n 0, 1) := by decide +kernel
theorem d_sm_over_1 : decode b_sm_over 1 = .ok (.iconst 0, 1) := by decide +kernel
theorem d_sm_over_2 : decode b_sm_over 2 = .ok (.putfield 27, 3) := by decide +kernel
theorem d_sm_over_5 : decode b_sm_over 5 = .ok (.aload_n 0, 1) := by decide +kernel
theorem d_sm_over_6 : decode b_sm_over 6 = .ok (.iload_n 1, 1) := by decide +kernel
theorem d_sm_over_7 : decode b_sm_over 7 = .ok (.invokestatic 59, 3) := by decide +kernel
theorem d_sm_over_10 : decode b_sm_over 10 = .ok (.ifCond .eq 23, 3) := by decide +kernel
theorem d_sm_over_13 : decode b_sm_over 13 = .ok (.iload_n 2, 1) := by decide +kernel
theorem d_sm_over_14 : decode b_sm_over 14 = .ok (.i2l, 1) := by decide +kernel
theorem d_sm_over_15 : decode b_sm_over 15 = .ok (.lconst 0, 1) := by decide +kernel
theorem d_sm_over_16 : decode b_sm_over 16 = .ok (.ldc2_w 62, 3) := by decide +kernel
theorem d_sm_over_19 : decode b_sm_over 19 = .ok (.invokestatic 30, 3) := by decide +kernel
theorem d_sm_over_22 : decode b_sm_over 22 = .ok (.ifCond .eq 11, 3) := by decide +kernel
theorem d_sm_over_25 : decode b_sm_over 25 = .ok (.aload_n 0, 1) := by decide +kernel
theorem d_sm_over_26 : decode b_sm_over 26 = .ok (.iload_n 3, 1) := by decide +kernel
theorem d_sm_over_27 : decode b_sm_over 27 = .ok (.invokevirtual 42, 3) := by decide +kernel
theorem d_sm_over_30 : decode b_sm_over 30 = .ok (.ifCond .ne 7, 3) := by decide +kernel
theorem d_sm_over_33 : decode b_sm_over 33 = .ok (.iconst 1, 1) := by decide +kernel
theorem d_sm_over_34 : decode b_sm_over 34 = .ok (.goto 4, 3) := by decide +kernel
theorem d_sm_over_37 : decode b_sm_over 37 = .ok (.iconst 0, 1) := by decide +kernel
theorem d_sm_over_38 : decode b_sm_over 38 = .ok (.iconst 1, 1) := by decide +kernel
theorem d_sm_over_39 : decode b_sm_over 39 = .ok (.invokevirtual 38, 3) := by decide +kernel
theorem d_sm_over_42 : decode b_sm_over 42 = .ok (.ifCond .ne 25, 3) := by decide +kernel
theorem d_sm_over_45 : decode b_sm_over 45 = .ok (.aload_n 0, 1) := by decide +kernel
theorem d_sm_over_46 : decode b_sm_over 46 = .ok (.aload_n 0, 1) := by decide +kernel
theorem d_sm_over_47 : decode b_sm_over 47 = .ok (.invokevirtual 48, 3) := by decide +kernel
theorem d_sm_over_50 : decode b_sm_over 50 = .ok (.lconst 0, 1) := by decide +kernel
theorem d_sm_over_51 : decode b_sm_over 51 = .ok (.lcmp, 1) := by decide +kernel
theorem d_sm_over_52 : decode b_sm_over 52 = .ok (.ifCond .ne 7, 3) := by decide +kernel
theorem d_sm_over_55 : decode b_sm_over 55 = .ok (.iconst 1, 1) := by decide +kernel
theorem d_sm_over_56 : decode b_sm_over 56 = .ok (.goto 4, 3) := by decide +kernel
theorem d_sm_over_59 : decode b_sm_over 59 = .ok (.iconst 0, 1) := by decide +kernel
theorem d_sm_over_60 : decode b_sm_over 60 = .ok (.iconst 2, 1) := by decide +kernel
theorem d_sm_over_61 : decode b_sm_over 61 = .ok (.invokevirtual 38, 3) := by decide +kernel
theorem d_sm_over_64 : decode b_sm_over 64 = .ok (.ifCond .eq 5, 3) := by decide +kernel
theorem d_sm_over_67 : decode b_sm_over 67 = .ok (.lconst 0, 1) := by decide +kernel
theorem d_sm_over_68 : decode b_sm_over 68 = .ok (.lreturn, 1) := by decide +kernel
theorem d_sm_over_69 : decode b_sm_over 69 = .ok (.aload_n 0, 1) := by decide +kernel
theorem d_sm_over_70 : decode b_sm_over 70 = .ok (.iload_n 1, 1) := by decide +kernel
theorem d_sm_over_71 : decode b_sm_over 71 = .ok (.iload_n 2, 1) := by decide +kernel
theorem d_sm_over_72 : decode b_sm_over 72 = .ok (.invokevirtual 64, 3) := by decide +kernel
theorem d_sm_over_75 : decode b_sm_over 75 = .ok (.aload_n 0, 1) := by decide +kernel
theorem d_sm_over_76 : decode b_sm_over 76 = .ok (.getfield 17, 3) := by decide +kernel
theorem d_sm_over_79 : decode b_sm_over 79 = .ok (.iload_n 3, 1) := by decide +kernel
theorem d_sm_over_80 : decode b_sm_over 80 = .ok (.laload, 1) := by decide +kernel
theorem d_sm_over_81 : decode b_sm_over 81 = .ok (.aload_n 0, 1) := by decide +kernel
theorem d_sm_over_82 : decode b_sm_over 82 = .ok (.invokevirtual 48, 3) := by decide +kernel
theorem d_sm_over_85 : decode b_sm_over 85 = .ok (.lmul, 1) := by decide +kernel
theorem d_sm_over_86 : decode b_sm_over 86 = .ok (.iload_n 2, 1) := by decide +kernel
theorem d_sm_over_87 : decode b_sm_over 87 = .ok (.i2l, 1) := by decide +kernel
theorem d_sm_over_88 : decode b_sm_over 88 = .ok (.aload_n 0, 1) := by decide +kernel
theorem d_sm_over_89 : decode b_sm_over 89 = .ok (.getfield 13, 3) := by decide +kernel
theorem d_sm_over_92 : decode b_sm_over 92 = .ok (.iload_n 3, 1) := by decide +kernel
theorem d_sm_over_93 : decode b_sm_over 93 = .ok (.laload, 1) := by decide +kernel
theorem d_sm_over_94 : decode b_sm_over 94 = .ok (.lmul, 1) := by decide +kernel
theorem d_sm_over_95 : decode b_sm_over 95 = .ok (.lsub, 1) := by decide +kernel
theorem d_sm_over_96 : decode b_sm_over 96 = .ok (.lreturn, 1) := by decide +kernel
theorem d_sm_next_0 : decode b_sm_next 0 = .ok (.aload_n 0, 1) := by decide +kernel
theorem d_sm_next_1 : decode b_sm_next 1 = .ok (.iconst 0, 1) := by decide +kernel
theorem d_sm_next_2 : decode b_sm_next 2 = .ok (.putfield 27, 3) := by decide +kernel
theorem d_sm_next_5 : decode b_sm_next 5 = .ok (.aload_n 0, 1) := by decide +kernel
theorem d_sm_next_6 : decode b_sm_next 6 = .ok (.iload_n 1, 1) := by decide +kernel
theorem d_sm_next_7 : decode b_sm_next 7 = .ok (.invokestatic 59, 3) := by decide +kernel
theorem d_sm_next_10 : decode b_sm_next 10 = .ok (.ifCond .eq 15, 3) := by decide +kernel
theorem d_sm_next_13 : decode b_sm_next 13 = .ok (.iload_n 2, 1) := by decide +kernel
theorem d_sm_next_14 : decode b_sm_next 14 = .ok (.i2l, 1) := by decide +kernel
theorem d_sm_next_15 : decode b_sm_next 15 = .ok (.lconst 0, 1) := by decide +kernel
theorem d_sm_next_16 : decode b_sm_next 16 = .ok (.ldc2_w 68, 3) := by decide +kernel
theorem d_sm_next_19 : decode b_sm_next 19 = .ok (.invokestatic 30, 3) := by decide +kernel
theorem d_sm_next_22 : decode b_sm_next 22 = .ok (.ifCond .ne 7, 3) := by decide +kernel
theorem d_sm_next_25 : decode b_sm_next 25 = .ok (.iconst 1, 1) := by decide +kernel
theorem d_sm_next_26 : decode b_sm_next 26 = .ok (.goto 4, 3) := by decide +kernel
theorem d_sm_next_29 : decode b_sm_next 29 = .ok (.iconst 0, 1) := by decide +kernel
theorem d_sm_next_30 : decode b_sm_next 30 = .ok (.iconst 1, 1) := by decide +kernel
theorem d_sm_next_31 : decode b_sm_next 31 = .ok (.invokevirtual 38, 3) := by decide +kernel
theorem d_sm_next_34 : decode b_sm_next 34 = .ok (.ifCond .ne 25, 3) := by decide +kernel
theorem d_sm_next_37 : decode b_sm_next 37 = .ok (.aload_n 0, 1) := by decide +kernel
theorem d_sm_next_38 : decode b_sm_next 38 = .ok (.aload_n 0, 1) := by decide +kernel
theorem d_sm_next_39 : decode b_sm_next 39 = .ok (.invokevirtual 48, 3) := by decide +kernel
theorem d_sm_next_42 : decode b_sm_next 42 = .ok (.lconst 0, 1) := by decide +kernel
theorem d_sm_next_43 : decode b_sm_next 43 = .ok (.lcmp, 1) := by decide +kernel
theorem d_sm_next_44 : decode b_sm_next 44 = .ok (.ifCond .ne 7, 3) := by decide +kernel
theorem d_sm_next_47 : decode b_sm_next 47 = .ok (.iconst 1, 1) := by decide +kernel
theorem d_sm_next_48 : decode b_sm_next 48 = .ok (.goto 4, 3) := by decide +kernel
theorem d_sm_next_51 : decode b_sm_next 51 = .ok (.iconst 0, 1) := by decide +kernel
theorem d_sm_next_52 : decode b_sm_next 52 = .ok (.iconst 2, 1) := by decide +kernel
theorem d_sm_next_53 : decode b_sm_next 53 = .ok (.invokevirtual 38, 3) := by decide +kernel
theorem d_sm_next_56 : decode b_sm_next 56 = .ok (.ifCond .eq 5, 3) := by decide +kernel
theorem d_sm_next_59 : decode b_sm_next 59 = .ok (.iconst 0, 1) := by decide +kernel
theorem d_sm_next_60 : decode b_sm_next 60 = .ok (.ireturn, 1) := by decide +kernel
theorem d_sm_next_61 : decode b_sm_next 61 = .ok (.aload_n 0, 1) := by decide +kernel
theorem d_sm_next_62 : decode b_sm_next 62 = .ok (.iload_n 1, 1) := by decide +kernel
theorem d_sm_next_63 : decode b_sm_next 63 = .ok (.iload_n 2, 1) := by decide +kernel
theorem d_sm_next_64 : decode b_sm_next 64 = .ok (.invokevirtual 64, 3) := by decide +kernel
theorem d_sm_next_67 : decode b_sm_next 67 = .ok (.iconst 0, 1) := by decide +kernel
theorem d_sm_next_68 : decode b_sm_next 68 = .ok (.istore_n 3, 1) := by decide +kernel
theorem d_sm_next_69 : decode b_sm_next 69 = .ok (.iload_n 3, 1) := by decide +kernel
theorem d_sm_next_70 : decode b_sm_next 70 = .ok (.aload_n 0, 1) := by decide +kernel
theorem d_sm_next_71 : decode b_sm_next 71 = .ok (.getfield 7, 3) := by decide +kernel
theorem d_sm_next_74 : decode b_sm_next 74 = .ok (.if_icmp .ge 21, 3) := by decide +kernel
theorem d_sm_next_77 : decode b_sm_next 77 = .ok (.aload_n 0, 1) := by decide +kernel
theorem d_sm_next_78 : decode b_sm_next 78 = .ok (.getfield 20, 3) := by decide +kernel
theorem d_sm_next_81 : decode b_sm_next 81 = .ok (.iload_n 3, 1) := by decide +kernel
theorem d_sm_next_82 : decode b_sm_next 82 = .ok (.aload_n 0, 1) := by decide +kernel
theorem d_sm_next_83 : decode b_sm_next 83 = .ok (.getfield 17, 3) := by decide +kernel
theorem d_sm_next_86 : decode b_sm_next 86 = .ok (.iload_n 3, 1) := by decide +kernel
theorem d_sm_next_87 : decode b_sm_next 87 = .ok (.laload, 1) := by decide +kernel
theorem d_sm_next_88 : decode b_sm_next 88 = .ok (.lastore, 1) := by decide +kernel
theorem d_sm_next_89 : decode b_sm_next 89 = .ok (.iinc 3 1, 3) := by decide +kernel
theorem d_sm_next_92 : decode b_sm_next 92 = .ok (.goto (-23), 3) := by decide +kernel
theorem d_sm_next_95 : decode b_sm_next 95 = .ok (.aload_n 0, 1) := by decide +kernel
theorem d_sm_next_96 : decode b_sm_next 96 = .ok (.iload_n 1, 1) := by decide +kernel
theorem d_sm_next_97 : decode b_sm_next 97 = .ok (.iload_n 2, 1) := by decide +kernel
theorem d_sm_next_98 : decode b_sm_next 98 = .ok (.iconst 1, 1) := by decide +kernel
theorem d_sm_next_99 : decode b_sm_next 99 = .ok (.iadd, 1) := by decide +kernel
theorem d_sm_next_100 : decode b_sm_next 100 = .ok (.invokevirtual 64, 3) := by decide +kernel
theorem d_sm_next_103 : decode b_sm_next 103 = .ok (.iconst (-1), 1) := by decide +kernel
theorem d_sm_next_104 : decode b_sm_next 104 = .ok (.istore_n 3, 1) := by decide +kernel
theorem d_sm_next_105 : decode b_sm_next 105 = .ok (.iconst 0, 1) := by decide +kernel
theorem d_sm_next_106 : decode b_sm_next 106 = .ok (.istore 4, 2) := by decide +kernel
theorem d_sm_next_108 : decode b_sm_next 108 = .ok (.iload 4, 2) := by decide +kernel
theorem d_sm_next_110 : decode b_sm_next 110 = .ok (.aload_n 0, 1) := by decide +kernel
theorem d_sm_next_111 : decode b_sm_next 111 = .ok (.getfield 7, 3) := by decide +kernel
theorem d_sm_next_114 : decode b_sm_next 114 = .ok (.if_icmp .ge 59, 3) := by decide +kernel
theorem d_sm_next_117 : decode b_sm_next 117 = .ok (.aload_n 0, 1) := by decide +kernel
theorem d_sm_next_118 : decode b_sm_next 118 = .ok (.getfield 17, 3) := by decide +kernel
theorem d_sm_next_121 : decode b_sm_next 121 = .ok (.iload 4, 2) := by decide +kernel
theorem d_sm_next_123 : decode b_sm_next 123 = .ok (.laload, 1) := by decide +kernel
theorem d_sm_next_124 : decode b_sm_next 124 = .ok (.aload_n 0, 1) := by decide +kernel
theorem d_sm_next_125 : decode b_sm_next 125 = .ok (.getfield 20, 3) := by decide +kernel
theorem d_sm_next_128 : decode b_sm_next 128 = .ok (.iload 4, 2) := by decide +kernel
theorem d_sm_next_130 : decode b_sm_next 130 = .ok (.laload, 1) := by decide +kernel
theorem d_sm_next_131 : decode b_sm_next 131 = .ok (.lcmp, 1) := by decide +kernel
theorem d_sm_next_132 : decode b_sm_next 132 = .ok (.ifCond .ne 6, 3) := by decide +kernel
theorem d_sm_next_135 : decode b_sm_next 135 = .ok (.goto 32, 3) := by decide +kernel
theorem d_sm_next_138 : decode b_sm_next 138 = .ok (.iload_n 3, 1) := by decide +kernel
theorem d_sm_next_139 : decode b_sm_next 139 = .ok (.ifCond .ge 23, 3) := by decide +kernel
theorem d_sm_next_142 : decode b_sm_next 142 = .ok (.aload_n 0, 1) := by decide +kernel
theorem d_sm_next_143 : decode b_sm_next 143 = .ok (.getfield 17, 3) := by decide +kernel
theorem d_sm_next_146 : decode b_sm_next 146 = .ok (.iload 4, 2) := by decide +kernel
theorem d_sm_next_148 : decode b_sm_next 148 = .ok (.laload, 1) := by decide +kernel
theorem d_sm_next_149 : decode b_sm_next 149 = .ok (.aload_n 0, 1) := by decide +kernel
theorem d_sm_next_150 : decode b_sm_next 150 = .ok (.getfield 20, 3) := by decide +kernel
theorem d_sm_next_153 : decode b_sm_next 153 = .ok (.iload 4, 2) := by decide +kernel
theorem d_sm_next_155 : decode b_sm_next 155 = .ok (.laload, 1) := by decide +kernel
theorem d_sm_next_156 : decode b_sm_next 156 = .ok (.lconst 1, 1) := by decide +kernel
theorem d_sm_next_157 : decode b_sm_next 157 = .ok (.ladd, 1) := by decide +kernel
theorem d_sm_next_158 : decode b_sm_next 158 = .ok (.lcmp, 1) := by decide +kernel
theorem d_sm_next_159 : decode b_sm_next 159 = .ok (.ifCond .eq 5, 3) := by decide +kernel
theorem d_sm_next_162 : decode b_sm_next 162 = .ok (.iconst (-1), 1) := by decide +kernel
theorem d_sm_next_163 : decode b_sm_next 163 = .ok (.ireturn, 1) := by decide +kernel
theorem d_sm_next_164 : decode b_sm_next 164 = .ok (.iload 4, 2) := by decide +kernel
theorem d_sm_next_166 : decode b_sm_next 166 = .ok (.istore_n 3, 1) := by decide +kernel
theorem d_sm_next_167 : decode b_sm_next 167 = .ok (.iinc 4 1, 3) := by decide +kernel
theorem d_sm_next_170 : decode b_sm_next 170 = .ok (.goto (-62), 3) := by decide +kernel
theorem d_sm_next_173 : decode b_sm_next 173 = .ok (.iload_n 3, 1) := by decide +kernel
theorem d_sm_next_174 : decode b_sm_next 174 = .ok (.ireturn, 1) := by decide +kernel
theorem d_sm_least_0 : decode b_sm_least 0 = .ok (.aload_n 0, 1) := by decide +kernel
theorem d_sm_least_1 : decode b_sm_least 1 = .ok (.iconst 0, 1) := by decide +kernel
theorem d_sm_least_2 : decode b_sm_least 2 = .ok (.putfield 27, 3) := by decide +kernel
theorem d_sm_least_5 : decode b_sm_least 5 = .ok (.aload_n 0, 1) := by decide +kernel
theorem d_sm_least_6 : decode b_sm_least 6 = .ok (.iload_n 1, 1) := by decide +kernel
theorem d_sm_least_7 : decode b_sm_least 7 = .ok (.invokestatic 59, 3) := by decide +kernel
theorem d_sm_least_10 : decode b_sm_least 10 = .ok (.ifCond .eq 15, 3) := by decide +kernel
theorem d_sm_least_13 : decode b_sm_least 13 = .ok (.iload_n 2, 1) := by decide +kernel
theorem d_sm_least_14 : decode b_sm_least 14 = .ok (.ifCond .lt 11, 3) := by decide +kernel
theorem d_sm_least_17 : decode b_sm_least 17 = .ok (.aload_n 0, 1) := by decide +kernel
theorem d_sm_least_18 : decode b_sm_least 18 = .ok (.iload_n 3, 1) := by decide +kernel
theorem d_sm_least_19 : decode b_sm_least 19 = .ok (.invokevirtual 42, 3) := by decide +kernel
theorem d_sm_least_22 : decode b_sm_least 22 = .ok (.ifCond .ne 7, 3) := by decide +kernel
theorem d_sm_least_25 : decode b_sm_least 25 = .ok (.iconst 1, 1) := by decide +kernel
theorem d_sm_least_26 : decode b_sm_least 26 = .ok (.goto 4, 3) := by decide +kernel
theorem d_sm_least_29 : decode b_sm_least 29 = .ok (.iconst 0, 1) := by decide +kernel
theorem d_sm_least_30 : decode b_sm_least 30 = .ok (.iconst 1, 1) := by decide +kernel
theorem d_sm_least_31 : decode b_sm_least 31 = .ok (.invokevirtual 38, 3) := by decide +kernel
theorem d_sm_least_34 : decode b_sm_least 34 = .ok (.ifCond .ne 25, 3) := by decide +kernel
theorem d_sm_least_37 : decode b_sm_least 37 = .ok (.aload_n 0, 1) := by decide +kernel
theorem d_sm_least_38 : decode b_sm_least 38 = .ok (.aload_n 0, 1) := by decide +kernel
theorem d_sm_least_39 : decode b_sm_least 39 = .ok (.invokevirtual 48, 3) := by decide +kernel
theorem d_sm_least_42 : decode b_sm_least 42 = .ok (.lconst 0, 1) := by decide +kernel
theorem d_sm_least_43 : decode b_sm_least 43 = .ok (.lcmp, 1) := by decide +kernel
theorem d_sm_least_44 : decode b_sm_least 44 = .ok (.ifCond .ne 7, 3) := by decide +kernel
theorem d_sm_least_47 : decode b_sm_least 47 = .ok (.iconst 1, 1) := by decide +kernel
theorem d_sm_least_48 : decode b_sm_least 48 = .ok (.goto 4, 3) := by decide +kernel
theorem d_sm_least_51 : decode b_sm_least 51 = .ok (.iconst 0, 1) := by decide +kernel
theorem d_sm_least_52 : decode b_sm_least 52 = .ok (.iconst 2, 1) := by decide +kernel
theorem d_sm_least_53 : decode b_sm_least 53 = .ok (.invokevirtual 38, 3) := by decide +kernel
theorem d_sm_least_56 : decode b_sm_least 56 = .ok (.ifCond .eq 5, 3) := by decide +kernel
theorem d_sm_least_59 : decode b_sm_least 59 = .ok (.iconst 0, 1) := by decide +kernel
theorem d_sm_least_60 : decode b_sm_least 60 = .ok (.ireturn, 1) := by decide +kernel
theorem d_sm_least_61 : decode b_sm_least 61 = .ok (.aload_n 0, 1) := by decide +kernel
theorem d_sm_least_62 : decode b_sm_least 62 = .ok (.iload_n 1, 1) := by decide +kernel
theorem d_sm_least_63 : decode b_sm_least 63 = .ok (.iconst 0, 1) := by decide +kernel
theorem d_sm_least_64 : decode b_sm_least 64 = .ok (.invokevirtual 64, 3) := by decide +kernel
theorem d_sm_least_67 : decode b_sm_least 67 = .ok (.iconst 0, 1) := by decide +kernel
theorem d_sm_least_68 : decode b_sm_least 68 = .ok (.istore 4, 2) := by decide +kernel
theorem d_sm_least_70 : decode b_sm_least 70 = .ok (.iload 4, 2) := by decide +kernel
theorem d_sm_least_72 : decode b_sm_least 72 = .ok (.sipush 10000, 3) := by decide +kernel
theorem d_sm_least_75 : decode b_sm_least 75 = .ok (.if_icmp .gt 43, 3) := by decide +kernel
theorem d_sm_least_78 : decode b_sm_least 78 = .ok (.iload_n 1, 1) := by decide +kernel
theorem d_sm_least_79 : decode b_sm_least 79 = .ok (.ifCond .ne 9, 3) := by decide +kernel
theorem d_sm_least_82 : decode b_sm_least 82 = .ok (.aload_n 0, 1) := by decide +kernel
theorem d_sm_least_83 : decode b_sm_least 83 = .ok (.iload 4, 2) := by decide +kernel
theorem d_sm_least_85 : decode b_sm_least 85 = .ok (.invokevirtual 52, 3) := by decide +kernel
theorem d_sm_least_88 : decode b_sm_least 88 = .ok (.aload_n 0, 1) := by decide +kernel
theorem d_sm_least_89 : decode b_sm_least 89 = .ok (.getfield 17, 3) := by decide +kernel
theorem d_sm_least_92 : decode b_sm_least 92 = .ok (.iload_n 3, 1) := by decide +kernel
theorem d_sm_least_93 : decode b_sm_least 93 = .ok (.laload, 1) := by decide +kernel
theorem d_sm_least_94 : decode b_sm_least 94 = .ok (.iload_n 2, 1) := by decide +kernel
theorem d_sm_least_95 : decode b_sm_least 95 = .ok (.i2l, 1) := by decide +kernel
theorem d_sm_least_96 : decode b_sm_least 96 = .ok (.lcmp, 1) := by decide +kernel
theorem d_sm_least_97 : decode b_sm_least 97 = .ok (.ifCond .lt 6, 3) := by decide +kernel
theorem d_sm_least_100 : decode b_sm_least 100 = .ok (.iload 4, 2) := by decide +kernel
theorem d_sm_least_102 : decode b_sm_least 102 = .ok (.ireturn, 1) := by decide +kernel
theorem d_sm_least_103 : decode b_sm_least 103 = .ok (.iload_n 1, 1) := by decide +kernel
theorem d_sm_least_104 : decode b_sm_least 104 = .ok (.ifCond .le 8, 3) := by decide +kernel
theorem d_sm_least_107 : decode b_sm_least 107 = .ok (.aload_n 0, 1) := by decide +kernel
theorem d_sm_least_108 : decode b_sm_least 108 = .ok (.iload_n 1, 1) := by decide +kernel
theorem d_sm_least_109 : decode b_sm_least 109 = .ok (.invokevirtual 56, 3) := by decide +kernel
theorem d_sm_least_112 : decode b_sm_least 112 = .ok (.iinc 4 1, 3) := by decide +kernel
theorem d_sm_least_115 : decode b_sm_least 115 = .ok (.goto (-45), 3) := by decide +kernel
theorem d_sm_least_118 : decode b_sm_least 118 = .ok (.iconst (-1), 1) := by decide +kernel
theorem d_sm_least_119 : decode b_sm_least 119 = .ok (.ireturn, 1) := by decide +kernel
theorem d_sm_count_0 : decode b_sm_count 0 = .ok (.aload_n 0, 1) := by decide +kernel
theorem d_sm_count_1 : decode b_sm_count 1 = .ok (.iconst 0, 1) := by decide +kernel
theorem d_sm_count_2 : decode b_sm_count 2 = .ok (.putfield 27, 3) := by decide +kernel
theorem d_sm_count_5 : decode b_sm_count 5 = .ok (.aload_n 0, 1) := by decide +kernel
theorem d_sm_count_6 : decode b_sm_count 6 = .ok (.iload_n 1, 1) := by decide +kernel
theorem d_sm_count_7 : decode b_sm_count 7 = .ok (.i2l, 1) := by decide +kernel
theorem d_sm_count_8 : decode b_sm_count 8 = .ok (.lconst 0, 1) := by decide +kernel
theorem d_sm_count_9 : decode b_sm_count 9 = .ok (.ldc2_w 34, 3) := by decide +kernel
theorem d_sm_count_12 : decode b_sm_count 12 = .ok (.invokestatic 30, 3) := by decide +kernel
theorem d_sm_count_15 : decode b_sm_count 15 = .ok (.ifCond .ne 7, 3) := by decide +kernel
theorem d_sm_count_18 : decode b_sm_count 18 = .ok (.iconst 1, 1) := by decide +kernel
theorem d_sm_count_19 : decode b_sm_count 19 = .ok (.goto 4, 3) := by decide +kernel
theorem d_sm_count_22 : decode b_sm_count 22 = .ok (.iconst 0, 1) := by decide +kernel
theorem d_sm_count_23 : decode b_sm_count 23 = .ok (.iconst 1, 1) := by decide +kernel
theorem d_sm_count_24 : decode b_sm_count 24 = .ok (.invokevirtual 38, 3) := by decide +kernel
theorem d_sm_count_27 : decode b_sm_count 27 = .ok (.ifCond .eq 5, 3) := by decide +kernel
theorem d_sm_count_30 : decode b_sm_count 30 = .ok (.iconst 0, 1) := by decide +kernel
theorem d_sm_count_31 : decode b_sm_count 31 = .ok (.ireturn, 1) := by decide +kernel
theorem d_sm_count_32 : decode b_sm_count 32 = .ok (.iconst 0, 1) := by decide +kernel
theorem d_sm_count_33 : decode b_sm_count 33 = .ok (.istore_n 2, 1) := by decide +kernel
theorem d_sm_count_34 : decode b_sm_count 34 = .ok (.iconst 0, 1) := by decide +kernel
theorem d_sm_count_35 : decode b_sm_count 35 = .ok (.istore_n 3, 1) := by decide +kernel
theorem d_sm_count_36 : decode b_sm_count 36 = .ok (.iload_n 3, 1) := by decide +kernel
theorem d_sm_count_37 : decode b_sm_count 37 = .ok (.aload_n 0, 1) := by decide +kernel
theorem d_sm_count_38 : decode b_sm_count 38 = .ok (.getfield 7, 3) := by decide +kernel
theorem d_sm_count_41 : decode b_sm_count 41 = .ok (.if_icmp .ge 23, 3) := by decide +kernel
theorem d_sm_count_44 : decode b_sm_count 44 = .ok (.aload_n 0, 1) := by decide +kernel
theorem d_sm_count_45 : decode b_sm_count 45 = .ok (.getfield 13, 3) := by decide +kernel
theorem d_sm_count_48 : decode b_sm_count 48 = .ok (.iload_n 3, 1) := by decide +kernel
theorem d_sm_count_49 : decode b_sm_count 49 = .ok (.laload, 1) := by decide +kernel
theorem d_sm_count_50 : decode b_sm_count 50 = .ok (.lconst 0, 1) := by decide +kernel
theorem d_sm_count_51 : decode b_sm_count 51 = .ok (.lcmp, 1) := by decide +kernel
theorem d_sm_count_52 : decode b_sm_count 52 = .ok (.ifCond .le 6, 3) := by decide +kernel
theorem d_sm_count_55 : decode b_sm_count 55 = .ok (.iinc 2 1, 3) := by decide +kernel
theorem d_sm_count_58 : decode b_sm_count 58 = .ok (.iinc 3 1, 3) := by decide +kernel
theorem d_sm_count_61 : decode b_sm_count 61 = .ok (.goto (-25), 3) := by decide +kernel
theorem d_sm_count_64 : decode b_sm_count 64 = .ok (.iload_n 1, 1) := by decide +kernel
theorem d_sm_count_65 : decode b_sm_count 65 = .ok (.ifCond .ne 10, 3) := by decide +kernel
theorem d_sm_count_68 : decode b_sm_count 68 = .ok (.aload_n 0, 1) := by decide +kernel
theorem d_sm_count_69 : decode b_sm_count 69 = .ok (.getfield 7, 3) := by decide +kernel
theorem d_sm_count_72 : decode b_sm_count 72 = .ok (.goto 17, 3) := by decide +kernel
theorem d_sm_count_75 : decode b_sm_count 75 = .ok (.iload_n 1, 1) := by decide +kernel
theorem d_sm_count_76 : decode b_sm_count 76 = .ok (.iconst 1, 1) := by decide +kernel
theorem d_sm_count_77 : decode b_sm_count 77 = .ok (.if_icmp .ne 11, 3) := by decide +kernel
theorem d_sm_count_80 : decode b_sm_count 80 = .ok (.aload_n 0, 1) := by decide +kernel
theorem d_sm_count_81 : decode b_sm_count 81 = .ok (.invokevirtual 48, 3) := by decide +kernel
theorem d_sm_count_84 : decode b_sm_count 84 = .ok (.l2i, 1) := by decide +kernel
theorem d_sm_count_85 : decode b_sm_count 85 = .ok (.goto 4, 3) := by decide +kernel
theorem d_sm_count_88 : decode b_sm_count 88 = .ok (.iload_n 2, 1) := by decide +kernel
theorem d_sm_count_89 : decode b_sm_count 89 = .ok (.ireturn, 1) := by decide +kernel
end
section
theorem d_sl_begin_0 : decode b_sl_begin 0 = .ok (.aload_n 0, 1) := by decide +kernel
theorem d_sl_begin_1 : decode b_sl_begin 1 = .ok (.iload_n 1, 1) := by decide +kernel
theorem d_sl_begin_2 : decode b_sl_begin 2 = .ok (.invokevirtual 7, 3) := by decide +kernel
theorem d_sl_begin_5 : decode b_sl_begin 5 = .ok (.goto 6, 3) := by decide +kernel
theorem d_sl_begin_8 : decode b_sl_begin 8 = .ok (.astore_n 2, 1) := by decide +kernel
theorem d_sl_begin_9 : decode b_sl_begin 9 = .ok (.iconst 1, 1) := by decide +kernel
theorem d_sl_begin_10 : decode b_sl_begin 10 = .ok (.ireturn, 1) := by decide +kernel
theorem d_sl_begin_11 : decode b_sl_begin 11 = .ok (.iconst 0, 1) := by decide +kernel
theorem d_sl_begin_12 : decode b_sl_begin 12 = .ok (.ireturn, 1) := by decide +kernel
theorem d_sl_weight_0 : decode b_sl_weight 0 = .ok (.aload_n 3, 1) := by decide +kernel
theorem d_sl_weight_1 : decode b_sl_weight 1 = .ok (.iconst 0, 1) := by decide +kernel
theorem d_sl_weight_2 : decode b_sl_weight 2 = .ok (.aload_n 0, 1) := by decide +kernel
theorem d_sl_weight_3 : decode b_sl_weight 3 = .ok (.iload_n 1, 1) := by decide +kernel
theorem d_sl_weight_4 : decode b_sl_weight 4 = .ok (.iload_n 2, 1) := by decide +kernel
theorem d_sl_weight_5 : decode b_sl_weight 5 = .ok (.invokevirtual 15, 3) := by decide +kernel
theorem d_sl_weight_8 : decode b_sl_weight 8 = .ok (.i2l, 1) := by decide +kernel
theorem d_sl_weight_9 : decode b_sl_weight 9 = .ok (.lastore, 1) := by decide +kernel
theorem d_sl_weight_10 : decode b_sl_weight 10 = .ok (.goto 7, 3) := by decide +kernel
theorem d_sl_weight_13 : decode b_sl_weight 13 = .ok (.astore 4, 2) := by decide +kernel
theorem d_sl_weight_15 : decode b_sl_weight 15 = .ok (.iconst 1, 1) := by decide +kernel
theorem d_sl_weight_16 : decode b_sl_weight 16 = .ok (.ireturn, 1) := by decide +kernel
theorem d_sl_weight_17 : decode b_sl_weight 17 = .ok (.iconst 0, 1) := by decide +kernel
theorem d_sl_weight_18 : decode b_sl_weight 18 = .ok (.ireturn, 1) := by decide +kernel
theorem d_sl_share_0 : decode b_sl_share 0 = .ok (.aload 4, 2) := by decide +kernel
theorem d_sl_share_2 : decode b_sl_share 2 = .ok (.iconst 0, 1) := by decide +kernel
theorem d_sl_share_3 : decode b_sl_share 3 = .ok (.aload_n 0, 1) := by decide +kernel
theorem d_sl_share_4 : decode b_sl_share 4 = .ok (.iload_n 1, 1) := by decide +kernel
theorem d_sl_share_5 : decode b_sl_share 5 = .ok (.iload_n 2, 1) := by decide +kernel
theorem d_sl_share_6 : decode b_sl_share 6 = .ok (.iload_n 3, 1) := by decide +kernel
theorem d_sl_share_7 : decode b_sl_share 7 = .ok (.invokevirtual 19, 3) := by decide +kernel
theorem d_sl_share_10 : decode b_sl_share 10 = .ok (.i2l, 1) := by decide +kernel
theorem d_sl_share_11 : decode b_sl_share 11 = .ok (.lastore, 1) := by decide +kernel
theorem d_sl_share_12 : decode b_sl_share 12 = .ok (.goto 11, 3) := by decide +kernel
theorem d_sl_share_15 : decode b_sl_share 15 = .ok (.astore 5, 2) := by decide +kernel
theorem d_sl_share_17 : decode b_sl_share 17 = .ok (.iconst 1, 1) := by decide +kernel
theorem d_sl_share_18 : decode b_sl_share 18 = .ok (.ireturn, 1) := by decide +kernel
theorem d_sl_share_19 : decode b_sl_share 19 = .ok (.astore 5, 2) := by decide +kernel
theorem d_sl_share_21 : decode b_sl_share 21 = .ok (.iconst 2, 1) := by decide +kernel
theorem d_sl_share_22 : decode b_sl_share 22 = .ok (.ireturn, 1) := by decide +kernel
theorem d_sl_share_23 : decode b_sl_share 23 = .ok (.iconst 0, 1) := by decide +kernel
theorem d_sl_share_24 : decode b_sl_share 24 = .ok (.ireturn, 1) := by decide +kernel
theorem d_sl_over_0 : decode b_sl_over 0 = .ok (.aload 4, 2) := by decide +kernel
theorem d_sl_over_2 : decode b_sl_over 2 = .ok (.iconst 0, 1) := by decide +kernel
theorem d_sl_over_3 : decode b_sl_over 3 = .ok (.aload_n 0, 1) := by decide +kernel
theorem d_sl_over_4 : decode b_sl_over 4 = .ok (.iload_n 1, 1) := by decide +kernel
theorem d_sl_over_5 : decode b_sl_over 5 = .ok (.iload_n 2, 1) := by decide +kernel
theorem d_sl_over_6 : decode b_sl_over 6 = .ok (.iload_n 3, 1) := by decide +kernel
theorem d_sl_over_7 : decode b_sl_over 7 = .ok (.invokevirtual 25, 3) := by decide +kernel
theorem d_sl_over_10 : decode b_sl_over 10 = .ok (.lastore, 1) := by decide +kernel
theorem d_sl_over_11 : decode b_sl_over 11 = .ok (.goto 11, 3) := by decide +kernel
theorem d_sl_over_14 : decode b_sl_over 14 = .ok (.astore 5, 2) := by decide +kernel
theorem d_sl_over_16 : decode b_sl_over 16 = .ok (.iconst 1, 1) := by decide +kernel
theorem d_sl_over_17 : decode b_sl_over 17 = .ok (.ireturn, 1) := by decide +kernel
theorem d_sl_over_18 : decode b_sl_over 18 = .ok (.astore 5, 2) := by decide +kernel
theorem d_sl_over_20 : decode b_sl_over 20 = .ok (.iconst 2, 1) := by decide +kernel
theorem d_sl_over_21 : decode b_sl_over 21 = .ok (.ireturn, 1) := by decide +kernel
theorem d_sl_over_22 : decode b_sl_over 22 = .ok (.iconst 0, 1) := by decide +kernel
theorem d_sl_over_23 : decode b_sl_over 23 = .ok (.ireturn, 1) := by decide +kernel
theorem d_sl_next_0 : decode b_sl_next 0 = .ok (.aload_n 3, 1) := by decide +kernel
theorem d_sl_next_1 : decode b_sl_next 1 = .ok (.iconst 0, 1) := by decide +kernel
theorem d_sl_next_2 : decode b_sl_next 2 = .ok (.aload_n 0, 1) := by decide +kernel
theorem d_sl_next_3 : decode b_sl_next 3 = .ok (.iload_n 1, 1) := by decide +kernel
theorem d_sl_next_4 : decode b_sl_next 4 = .ok (.iload_n 2, 1) := by decide +kernel
theorem d_sl_next_5 : decode b_sl_next 5 = .ok (.invokevirtual 29, 3) := by decide +kernel
theorem d_sl_next_8 : decode b_sl_next 8 = .ok (.i2l, 1) := by decide +kernel
theorem d_sl_next_9 : decode b_sl_next 9 = .ok (.lastore, 1) := by decide +kernel
theorem d_sl_next_10 : decode b_sl_next 10 = .ok (.goto 11, 3) := by decide +kernel
theorem d_sl_next_13 : decode b_sl_next 13 = .ok (.astore 4, 2) := by decide +kernel
theorem d_sl_next_15 : decode b_sl_next 15 = .ok (.iconst 1, 1) := by decide +kernel
theorem d_sl_next_16 : decode b_sl_next 16 = .ok (.ireturn, 1) := by decide +kernel
theorem d_sl_next_17 : decode b_sl_next 17 = .ok (.astore 4, 2) := by decide +kernel
theorem d_sl_next_19 : decode b_sl_next 19 = .ok (.iconst 2, 1) := by decide +kernel
theorem d_sl_next_20 : decode b_sl_next 20 = .ok (.ireturn, 1) := by decide +kernel
theorem d_sl_next_21 : decode b_sl_next 21 = .ok (.iconst 0, 1) := by decide +kernel
theorem d_sl_next_22 : decode b_sl_next 22 = .ok (.ireturn, 1) := by decide +kernel
theorem d_sl_least_0 : decode b_sl_least 0 = .ok (.aload 4, 2) := by decide +kernel
theorem d_sl_least_2 : decode b_sl_least 2 = .ok (.iconst 0, 1) := by decide +kernel
theorem d_sl_least_3 : decode b_sl_least 3 = .ok (.aload_n 0, 1) := by decide +kernel
theorem d_sl_least_4 : decode b_sl_least 4 = .ok (.iload_n 1, 1) := by decide +kernel
theorem d_sl_least_5 : decode b_sl_least 5 = .ok (.iload_n 2, 1) := by decide +kernel
theorem d_sl_least_6 : decode b_sl_least 6 = .ok (.iload_n 3, 1) := by decide +kernel
theorem d_sl_least_7 : decode b_sl_least 7 = .ok (.invokevirtual 32, 3) := by decide +kernel
theorem d_sl_least_10 : decode b_sl_least 10 = .ok (.i2l, 1) := by decide +kernel
theorem d_sl_least_11 : decode b_sl_least 11 = .ok (.lastore, 1) := by decide +kernel
theorem d_sl_least_12 : decode b_sl_least 12 = .ok (.goto 11, 3) := by decide +kernel
theorem d_sl_least_15 : decode b_sl_least 15 = .ok (.astore 5, 2) := by decide +kernel
theorem d_sl_least_17 : decode b_sl_least 17 = .ok (.iconst 1, 1) := by decide +kernel
theorem d_sl_least_18 : decode b_sl_least 18 = .ok (.ireturn, 1) := by decide +kernel
theorem d_sl_least_19 : decode b_sl_least 19 = .ok (.astore 5, 2) := by decide +kernel
theorem d_sl_least_21 : decode b_sl_least 21 = .ok (.iconst 2, 1) := by decide +kernel
theorem d_sl_least_22 : decode b_sl_least 22 = .ok (.ireturn, 1) := by decide +kernel
theorem d_sl_least_23 : decode b_sl_least 23 = .ok (.iconst 0, 1) := by decide +kernel
theorem d_sl_least_24 : decode b_sl_least 24 = .ok (.ireturn, 1) := by decide +kernel
theorem d_sl_count_0 : decode b_sl_count 0 = .ok (.aload_n 2, 1) := by decide +kernel
theorem d_sl_count_1 : decode b_sl_count 1 = .ok (.iconst 0, 1) := by decide +kernel
theorem d_sl_count_2 : decode b_sl_count 2 = .ok (.aload_n 0, 1) := by decide +kernel
theorem d_sl_count_3 : decode b_sl_count 3 = .ok (.iload_n 1, 1) := by decide +kernel
theorem d_sl_count_4 : decode b_sl_count 4 = .ok (.invokevirtual 35, 3) := by decide +kernel
theorem d_sl_count_7 : decode b_sl_count 7 = .ok (.i2l, 1) := by decide +kernel
theorem d_sl_count_8 : decode b_sl_count 8 = .ok (.lastore, 1) := by decide +kernel
theorem d_sl_count_9 : decode b_sl_count 9 = .ok (.goto 6, 3) := by decide +kernel
theorem d_sl_count_12 : decode b_sl_count 12 = .ok (.astore_n 3, 1) := by decide +kernel
theorem d_sl_count_13 : decode b_sl_count 13 = .ok (.iconst 1, 1) := by decide +kernel
theorem d_sl_count_14 : decode b_sl_count 14 = .ok (.ireturn, 1) := by decide +kernel
theorem d_sl_count_15 : decode b_sl_count 15 = .ok (.iconst 0, 1) := by decide +kernel
theorem d_sl_count_16 : decode b_sl_count 16 = .ok (.ireturn, 1) := by decide +kernel
theorem d_sl_law_0 : decode code 0 = .ok (.new 8, 3) := by decide +kernel
theorem d_sl_law_3 : decode code 3 = .ok (.dup, 1) := by decide +kernel
theorem d_sl_law_4 : decode code 4 = .ok (.invokespecial 39, 3) := by decide +kernel
theorem d_sl_law_7 : decode code 7 = .ok (.astore_n 1, 1) := by decide +kernel
theorem d_sl_law_8 : decode code 8 = .ok (.new 40, 3) := by decide +kernel
theorem d_sl_law_11 : decode code 11 = .ok (.dup, 1) := by decide +kernel
theorem d_sl_law_12 : decode code 12 = .ok (.invokespecial 42, 3) := by decide +kernel
theorem d_sl_law_15 : decode code 15 = .ok (.astore_n 2, 1) := by decide +kernel
theorem d_sl_law_16 : decode code 16 = .ok (.iconst 1, 1) := by decide +kernel
theorem d_sl_law_17 : decode code 17 = .ok (.newarray .long, 2) := by decide +kernel
theorem d_sl_law_19 : decode code 19 = .ok (.astore_n 3, 1) := by decide +kernel
theorem d_sl_law_20 : decode code 20 = .ok (.iconst 0, 1) := by decide +kernel
theorem d_sl_law_21 : decode code 21 = .ok (.istore 4, 2) := by decide +kernel
theorem d_sl_law_23 : decode code 23 = .ok (.iload 4, 2) := by decide +kernel
theorem d_sl_law_25 : decode code 25 = .ok (.aload_n 0, 1) := by decide +kernel
theorem d_sl_law_26 : decode code 26 = .ok (.arraylength, 1) := by decide +kernel
theorem d_sl_law_27 : decode code 27 = .ok (.iconst 4, 1) := by decide +kernel
theorem d_sl_law_28 : decode code 28 = .ok (.isub, 1) := by decide +kernel
theorem d_sl_law_29 : decode code 29 = .ok (.if_icmp .gt 524, 3) := by decide +kernel
theorem d_sl_law_32 : decode code 32 = .ok (.aload_n 0, 1) := by decide +kernel
theorem d_sl_law_33 : decode code 33 = .ok (.iload 4, 2) := by decide +kernel
theorem d_sl_law_35 : decode code 35 = .ok (.iaload, 1) := by decide +kernel
theorem d_sl_law_36 : decode code 36 = .ok (.bipush 7, 2) := by decide +kernel
theorem d_sl_law_38 : decode code 38 = .ok (.iand, 1) := by decide +kernel
theorem d_sl_law_39 : decode code 39 = .ok (.tableswitch 508 0 6 #[41, 77, 145, 225, 304, 372, 452], 41) := by decide +kernel
theorem d_sl_law_80 : decode code 80 = .ok (.aload_n 1, 1) := by decide +kernel
theorem d_sl_law_81 : decode code 81 = .ok (.aload_n 0, 1) := by decide +kernel
theorem d_sl_law_82 : decode code 82 = .ok (.iload 4, 2) := by decide +kernel
theorem d_sl_law_84 : decode code 84 = .ok (.iconst 1, 1) := by decide +kernel
theorem d_sl_law_85 : decode code 85 = .ok (.iadd, 1) := by decide +kernel
theorem d_sl_law_86 : decode code 86 = .ok (.iaload, 1) := by decide +kernel
theorem d_sl_law_87 : decode code 87 = .ok (.invokestatic 43, 3) := by decide +kernel
theorem d_sl_law_90 : decode code 90 = .ok (.istore 5, 2) := by decide +kernel
theorem d_sl_law_92 : decode code 92 = .ok (.aload_n 2, 1) := by decide +kernel
theorem d_sl_law_93 : decode code 93 = .ok (.aload_n 0, 1) := by decide +kernel
theorem d_sl_law_94 : decode code 94 = .ok (.iload 4, 2) := by decide +kernel
theorem d_sl_law_96 : decode code 96 = .ok (.iconst 1, 1) := by decide +kernel
theorem d_sl_law_97 : decode code 97 = .ok (.iadd, 1) := by decide +kernel
theorem d_sl_law_98 : decode code 98 = .ok (.iaload, 1) := by decide +kernel
theorem d_sl_law_99 : decode code 99 = .ok (.invokevirtual 48, 3) := by decide +kernel
theorem d_sl_law_102 : decode code 102 = .ok (.aload_n 2, 1) := by decide +kernel
theorem d_sl_law_103 : decode code 103 = .ok (.invokevirtual 49, 3) := by decide +kernel
theorem d_sl_law_106 : decode code 106 = .ok (.iload 5, 2) := by decide +kernel
theorem d_sl_law_108 : decode code 108 = .ok (.if_icmp .eq 5, 3) := by decide +kernel
theorem d_sl_law_111 : decode code 111 = .ok (.iconst 0, 1) := by decide +kernel
theorem d_sl_law_112 : decode code 112 = .ok (.ireturn, 1) := by decide +kernel
theorem d_sl_law_113 : decode code 113 = .ok (.goto 434, 3) := by decide +kernel
theorem d_sl_law_116 : decode code 116 = .ok (.aload_n 1, 1) := by decide +kernel
theorem d_sl_law_117 : decode code 117 = .ok (.aload_n 0, 1) := by decide +kernel
theorem d_sl_law_118 : decode code 118 = .ok (.iload 4, 2) := by decide +kernel
theorem d_sl_law_120 : decode code 120 = .ok (.iconst 1, 1) := by decide +kernel
theorem d_sl_law_121 : decode code 121 = .ok (.iadd, 1) := by decide +kernel
theorem d_sl_law_122 : decode code 122 = .ok (.iaload, 1) := by decide +kernel
theorem d_sl_law_123 : decode code 123 = .ok (.aload_n 0, 1) := by decide +kernel
theorem d_sl_law_124 : decode code 124 = .ok (.iload 4, 2) := by decide +kernel
theorem d_sl_law_126 : decode code 126 = .ok (.iconst 2, 1) := by decide +kernel
theorem d_sl_law_127 : decode code 127 = .ok (.iadd, 1) := by decide +kernel
theorem d_sl_law_128 : decode code 128 = .ok (.iaload, 1) := by decide +kernel
theorem d_sl_law_129 : decode code 129 = .ok (.aload_n 3, 1) := by decide +kernel
theorem d_sl_law_130 : decode code 130 = .ok (.invokestatic 53, 3) := by decide +kernel
theorem d_sl_law_133 : decode code 133 = .ok (.istore 5, 2) := by decide +kernel
theorem d_sl_law_135 : decode code 135 = .ok (.aload_n 2, 1) := by decide +kernel
theorem d_sl_law_136 : decode code 136 = .ok (.aload_n 0, 1) := by decide +kernel
theorem d_sl_law_137 : decode code 137 = .ok (.iload 4, 2) := by decide +kernel
theorem d_sl_law_139 : decode code 139 = .ok (.iconst 1, 1) := by decide +kernel
theorem d_sl_law_140 : decode code 140 = .ok (.iadd, 1) := by decide +kernel
theorem d_sl_law_141 : decode code 141 = .ok (.iaload, 1) := by decide +kernel
theorem d_sl_law_142 : decode code 142 = .ok (.aload_n 0, 1) := by decide +kernel
theorem d_sl_law_143 : decode code 143 = .ok (.iload 4, 2) := by decide +kernel
theorem d_sl_law_145 : decode code 145 = .ok (.iconst 2, 1) := by decide +kernel
theorem d_sl_law_146 : decode code 146 = .ok (.iadd, 1) := by decide +kernel
theorem d_sl_law_147 : decode code 147 = .ok (.iaload, 1) := by decide +kernel
theorem d_sl_law_148 : decode code 148 = .ok (.invokevirtual 56, 3) := by decide +kernel
theorem d_sl_law_151 : decode code 151 = .ok (.istore 6, 2) := by decide +kernel
theorem d_sl_law_153 : decode code 153 = .ok (.aload_n 2, 1) := by decide +kernel
theorem d_sl_law_154 : decode code 154 = .ok (.invokevirtual 49, 3) := by decide +kernel
theorem d_sl_law_157 : decode code 157 = .ok (.iload 5, 2) := by decide +kernel
theorem d_sl_law_159 : decode code 159 = .ok (.if_icmp .eq 5, 3) := by decide +kernel
theorem d_sl_law_162 : decode code 162 = .ok (.iconst 0, 1) := by decide +kernel
theorem d_sl_law_163 : decode code 163 = .ok (.ireturn, 1) := by decide +kernel
theorem d_sl_law_164 : decode code 164 = .ok (.iload 5, 2) := by decide +kernel
theorem d_sl_law_166 : decode code 166 = .ok (.ifCond .ne 15, 3) := by decide +kernel
theorem d_sl_law_169 : decode code 169 = .ok (.aload_n 3, 1) := by decide +kernel
theorem d_sl_law_170 : decode code 170 = .ok (.iconst 0, 1) := by decide +kernel
theorem d_sl_law_171 : decode code 171 = .ok (.laload, 1) := by decide +kernel
theorem d_sl_law_172 : decode code 172 = .ok (.iload 6, 2) := by decide +kernel
theorem d_sl_law_174 : decode code 174 = .ok (.i2l, 1) := by decide +kernel
theorem d_sl_law_175 : decode code 175 = .ok (.lcmp, 1) := by decide +kernel
theorem d_sl_law_176 : decode code 176 = .ok (.ifCond .eq 5, 3) := by decide +kernel
theorem d_sl_law_179 : decode code 179 = .ok (.iconst 0, 1) := by decide +kernel
theorem d_sl_law_180 : decode code 180 = .ok (.ireturn, 1) := by decide +kernel
theorem d_sl_law_181 : decode code 181 = .ok (.goto 366, 3) := by decide +kernel
theorem d_sl_law_184 : decode code 184 = .ok (.aload_n 1, 1) := by decide +kernel
theorem d_sl_law_185 : decode code 185 = .ok (.aload_n 0, 1) := by decide +kernel
theorem d_sl_law_186 : decode code 186 = .ok (.iload 4, 2) := by decide +kernel
theorem d_sl_law_188 : decode code 188 = .ok (.iconst 1, 1) := by decide +kernel
theorem d_sl_law_189 : decode code 189 = .ok (.iadd, 1) := by decide +kernel
theorem d_sl_law_190 : decode code 190 = .ok (.iaload, 1) := by decide +kernel
theorem d_sl_law_191 : decode code 191 = .ok (.aload_n 0, 1) := by decide +kernel
theorem d_sl_law_192 : decode code 192 = .ok (.iload 4, 2) := by decide +kernel
theorem d_sl_law_194 : decode code 194 = .ok (.iconst 2, 1) := by decide +kernel
theorem d_sl_law_195 : decode code 195 = .ok (.iadd, 1) := by decide +kernel
theorem d_sl_law_196 : decode code 196 = .ok (.iaload, 1) := by decide +kernel
theorem d_sl_law_197 : decode code 197 = .ok (.aload_n 0, 1) := by decide +kernel
theorem d_sl_law_198 : decode code 198 = .ok (.iload 4, 2) := by decide +kernel
theorem d_sl_law_200 : decode code 200 = .ok (.iconst 3, 1) := by decide +kernel
theorem d_sl_law_201 : decode code 201 = .ok (.iadd, 1) := by decide +kernel
theorem d_sl_law_202 : decode code 202 = .ok (.iaload, 1) := by decide +kernel
theorem d_sl_law_203 : decode code 203 = .ok (.aload_n 3, 1) := by decide +kernel
theorem d_sl_law_204 : decode code 204 = .ok (.invokestatic 57, 3) := by decide +kernel
theorem d_sl_law_207 : decode code 207 = .ok (.istore 5, 2) := by decide +kernel
theorem d_sl_law_209 : decode code 209 = .ok (.aload_n 2, 1) := by decide +kernel
theorem d_sl_law_210 : decode code 210 = .ok (.aload_n 0, 1) := by decide +kernel
theorem d_sl_law_211 : decode code 211 = .ok (.iload 4, 2) := by decide +kernel
theorem d_sl_law_213 : decode code 213 = .ok (.iconst 1, 1) := by decide +kernel
theorem d_sl_law_214 : decode code 214 = .ok (.iadd, 1) := by decide +kernel
theorem d_sl_law_215 : decode code 215 = .ok (.iaload, 1) := by decide +kernel
theorem d_sl_law_216 : decode code 216 = .ok (.aload_n 0, 1) := by decide +kernel
theorem d_sl_law_217 : decode code 217 = .ok (.iload 4, 2) := by decide +kernel
theorem d_sl_law_219 : decode code 219 = .ok (.iconst 2, 1) := by decide +kernel
theorem d_sl_law_220 : decode code 220 = .ok (.iadd, 1) := by decide +kernel
theorem d_sl_law_221 : decode code 221 = .ok (.iaload, 1) := by decide +kernel
theorem d_sl_law_222 : decode code 222 = .ok (.aload_n 0, 1) := by decide +kernel
theorem d_sl_law_223 : decode code 223 = .ok (.iload 4, 2) := by decide +kernel
theorem d_sl_law_225 : decode code 225 = .ok (.iconst 3, 1) := by decide +kernel
theorem d_sl_law_226 : decode code 226 = .ok (.iadd, 1) := by decide +kernel
theorem d_sl_law_227 : decode code 227 = .ok (.iaload, 1) := by decide +kernel
theorem d_sl_law_228 : decode code 228 = .ok (.invokevirtual 60, 3) := by decide +kernel
theorem d_sl_law_231 : decode code 231 = .ok (.istore 6, 2) := by decide +kernel
theorem d_sl_law_233 : decode code 233 = .ok (.aload_n 2, 1) := by decide +kernel
theorem d_sl_law_234 : decode code 234 = .ok (.invokevirtual 49, 3) := by decide +kernel
theorem d_sl_law_237 : decode code 237 = .ok (.iload 5, 2) := by decide +kernel
theorem d_sl_law_239 : decode code 239 = .ok (.if_icmp .eq 5, 3) := by decide +kernel
theorem d_sl_law_242 : decode code 242 = .ok (.iconst 0, 1) := by decide +kernel
theorem d_sl_law_243 : decode code 243 = .ok (.ireturn, 1) := by decide +kernel
theorem d_sl_law_244 : decode code 244 = .ok (.iload 5, 2) := by decide +kernel
theorem d_sl_law_246 : decode code 246 = .ok (.ifCond .ne 15, 3) := by decide +kernel
theorem d_sl_law_249 : decode code 249 = .ok (.aload_n 3, 1) := by decide +kernel
theorem d_sl_law_250 : decode code 250 = .ok (.iconst 0, 1) := by decide +kernel
theorem d_sl_law_251 : decode code 251 = .ok (.laload, 1) := by decide +kernel
theorem d_sl_law_252 : decode code 252 = .ok (.iload 6, 2) := by decide +kernel
theorem d_sl_law_254 : decode code 254 = .ok (.i2l, 1) := by decide +kernel
theorem d_sl_law_255 : decode code 255 = .ok (.lcmp, 1) := by decide +kernel
theorem d_sl_law_256 : decode code 256 = .ok (.ifCond .eq 5, 3) := by decide +kernel
theorem d_sl_law_259 : decode code 259 = .ok (.iconst 0, 1) := by decide +kernel
theorem d_sl_law_260 : decode code 260 = .ok (.ireturn, 1) := by decide +kernel
theorem d_sl_law_261 : decode code 261 = .ok (.goto 286, 3) := by decide +kernel
theorem d_sl_law_264 : decode code 264 = .ok (.aload_n 1, 1) := by decide +kernel
theorem d_sl_law_265 : decode code 265 = .ok (.aload_n 0, 1) := by decide +kernel
theorem d_sl_law_266 : decode code 266 = .ok (.iload 4, 2) := by decide +kernel
theorem d_sl_law_268 : decode code 268 = .ok (.iconst 1, 1) := by decide +kernel
theorem d_sl_law_269 : decode code 269 = .ok (.iadd, 1) := by decide +kernel
theorem d_sl_law_270 : decode code 270 = .ok (.iaload, 1) := by decide +kernel
theorem d_sl_law_271 : decode code 271 = .ok (.aload_n 0, 1) := by decide +kernel
theorem d_sl_law_272 : decode code 272 = .ok (.iload 4, 2) := by decide +kernel
theorem d_sl_law_274 : decode code 274 = .ok (.iconst 2, 1) := by decide +kernel
theorem d_sl_law_275 : decode code 275 = .ok (.iadd, 1) := by decide +kernel
theorem d_sl_law_276 : decode code 276 = .ok (.iaload, 1) := by decide +kernel
theorem d_sl_law_277 : decode code 277 = .ok (.aload_n 0, 1) := by decide +kernel
theorem d_sl_law_278 : decode code 278 = .ok (.iload 4, 2) := by decide +kernel
theorem d_sl_law_280 : decode code 280 = .ok (.iconst 3, 1) := by decide +kernel
theorem d_sl_law_281 : decode code 281 = .ok (.iadd, 1) := by decide +kernel
theorem d_sl_law_282 : decode code 282 = .ok (.iaload, 1) := by decide +kernel
theorem d_sl_law_283 : decode code 283 = .ok (.aload_n 3, 1) := by decide +kernel
theorem d_sl_law_284 : decode code 284 = .ok (.invokestatic 61, 3) := by decide +kernel
theorem d_sl_law_287 : decode code 287 = .ok (.istore 5, 2) := by decide +kernel
theorem d_sl_law_289 : decode code 289 = .ok (.aload_n 2, 1) := by decide +kernel
theorem d_sl_law_290 : decode code 290 = .ok (.aload_n 0, 1) := by decide +kernel
theorem d_sl_law_291 : decode code 291 = .ok (.iload 4, 2) := by decide +kernel
theorem d_sl_law_293 : decode code 293 = .ok (.iconst 1, 1) := by decide +kernel
end
section
theorem d_sl_law_294 : decode code 294 = .ok (.iadd, 1) := by decide +kernel
theorem d_sl_law_295 : decode code 295 = .ok (.iaload, 1) := by decide +kernel
theorem d_sl_law_296 : decode code 296 = .ok (.aload_n 0, 1) := by decide +kernel
theorem d_sl_law_297 : decode code 297 = .ok (.iload 4, 2) := by decide +kernel
theorem d_sl_law_299 : decode code 299 = .ok (.iconst 2, 1) := by decide +kernel
theorem d_sl_law_300 : decode code 300 = .ok (.iadd, 1) := by decide +kernel
theorem d_sl_law_301 : decode code 301 = .ok (.iaload, 1) := by decide +kernel
theorem d_sl_law_302 : decode code 302 = .ok (.aload_n 0, 1) := by decide +kernel
theorem d_sl_law_303 : decode code 303 = .ok (.iload 4, 2) := by decide +kernel
theorem d_sl_law_305 : decode code 305 = .ok (.iconst 3, 1) := by decide +kernel
theorem d_sl_law_306 : decode code 306 = .ok (.iadd, 1) := by decide +kernel
theorem d_sl_law_307 : decode code 307 = .ok (.iaload, 1) := by decide +kernel
theorem d_sl_law_308 : decode code 308 = .ok (.invokevirtual 63, 3) := by decide +kernel
theorem d_sl_law_311 : decode code 311 = .ok (.lstore 6, 2) := by decide +kernel
theorem d_sl_law_313 : decode code 313 = .ok (.aload_n 2, 1) := by decide +kernel
theorem d_sl_law_314 : decode code 314 = .ok (.invokevirtual 49, 3) := by decide +kernel
theorem d_sl_law_317 : decode code 317 = .ok (.iload 5, 2) := by decide +kernel
theorem d_sl_law_319 : decode code 319 = .ok (.if_icmp .eq 5, 3) := by decide +kernel
theorem d_sl_law_322 : decode code 322 = .ok (.iconst 0, 1) := by decide +kernel
theorem d_sl_law_323 : decode code 323 = .ok (.ireturn, 1) := by decide +kernel
theorem d_sl_law_324 : decode code 324 = .ok (.iload 5, 2) := by decide +kernel
theorem d_sl_law_326 : decode code 326 = .ok (.ifCond .ne 14, 3) := by decide +kernel
theorem d_sl_law_329 : decode code 329 = .ok (.aload_n 3, 1) := by decide +kernel
theorem d_sl_law_330 : decode code 330 = .ok (.iconst 0, 1) := by decide +kernel
theorem d_sl_law_331 : decode code 331 = .ok (.laload, 1) := by decide +kernel
theorem d_sl_law_332 : decode code 332 = .ok (.lload 6, 2) := by decide +kernel
theorem d_sl_law_334 : decode code 334 = .ok (.lcmp, 1) := by decide +kernel
theorem d_sl_law_335 : decode code 335 = .ok (.ifCond .eq 5, 3) := by decide +kernel
theorem d_sl_law_338 : decode code 338 = .ok (.iconst 0, 1) := by decide +kernel
theorem d_sl_law_339 : decode code 339 = .ok (.ireturn, 1) := by decide +kernel
theorem d_sl_law_340 : decode code 340 = .ok (.goto 207, 3) := by decide +kernel
theorem d_sl_law_343 : decode code 343 = .ok (.aload_n 1, 1) := by decide +kernel
theorem d_sl_law_344 : decode code 344 = .ok (.aload_n 0, 1) := by decide +kernel
theorem d_sl_law_345 : decode code 345 = .ok (.iload 4, 2) := by decide +kernel
theorem d_sl_law_347 : decode code 347 = .ok (.iconst 1, 1) := by decide +kernel
theorem d_sl_law_348 : decode code 348 = .ok (.iadd, 1) := by decide +kernel
theorem d_sl_law_349 : decode code 349 = .ok (.iaload, 1) := by decide +kernel
theorem d_sl_law_350 : decode code 350 = .ok (.aload_n 0, 1) := by decide +kernel
theorem d_sl_law_351 : decode code 351 = .ok (.iload 4, 2) := by decide +kernel
theorem d_sl_law_353 : decode code 353 = .ok (.iconst 2, 1) := by decide +kernel
theorem d_sl_law_354 : decode code 354 = .ok (.iadd, 1) := by decide +kernel
theorem d_sl_law_355 : decode code 355 = .ok (.iaload, 1) := by decide +kernel
theorem d_sl_law_356 : decode code 356 = .ok (.aload_n 3, 1) := by decide +kernel
theorem d_sl_law_357 : decode code 357 = .ok (.invokestatic 64, 3) := by decide +kernel
theorem d_sl_law_360 : decode code 360 = .ok (.istore 5, 2) := by decide +kernel
theorem d_sl_law_362 : decode code 362 = .ok (.aload_n 2, 1) := by decide +kernel
theorem d_sl_law_363 : decode code 363 = .ok (.aload_n 0, 1) := by decide +kernel
theorem d_sl_law_364 : decode code 364 = .ok (.iload 4, 2) := by decide +kernel
theorem d_sl_law_366 : decode code 366 = .ok (.iconst 1, 1) := by decide +kernel
theorem d_sl_law_367 : decode code 367 = .ok (.iadd, 1) := by decide +kernel
theorem d_sl_law_368 : decode code 368 = .ok (.iaload, 1) := by decide +kernel
theorem d_sl_law_369 : decode code 369 = .ok (.aload_n 0, 1) := by decide +kernel
theorem d_sl_law_370 : decode code 370 = .ok (.iload 4, 2) := by decide +kernel
theorem d_sl_law_372 : decode code 372 = .ok (.iconst 2, 1) := by decide +kernel
theorem d_sl_law_373 : decode code 373 = .ok (.iadd, 1) := by decide +kernel
theorem d_sl_law_374 : decode code 374 = .ok (.iaload, 1) := by decide +kernel
theorem d_sl_law_375 : decode code 375 = .ok (.invokevirtual 66, 3) := by decide +kernel
theorem d_sl_law_378 : decode code 378 = .ok (.istore 6, 2) := by decide +kernel
theorem d_sl_law_380 : decode code 380 = .ok (.aload_n 2, 1) := by decide +kernel
theorem d_sl_law_381 : decode code 381 = .ok (.invokevirtual 49, 3) := by decide +kernel
theorem d_sl_law_384 : decode code 384 = .ok (.iload 5, 2) := by decide +kernel
theorem d_sl_law_386 : decode code 386 = .ok (.if_icmp .eq 5, 3) := by decide +kernel
theorem d_sl_law_389 : decode code 389 = .ok (.iconst 0, 1) := by decide +kernel
theorem d_sl_law_390 : decode code 390 = .ok (.ireturn, 1) := by decide +kernel
theorem d_sl_law_391 : decode code 391 = .ok (.iload 5, 2) := by decide +kernel
theorem d_sl_law_393 : decode code 393 = .ok (.ifCond .ne 15, 3) := by decide +kernel
theorem d_sl_law_396 : decode code 396 = .ok (.aload_n 3, 1) := by decide +kernel
theorem d_sl_law_397 : decode code 397 = .ok (.iconst 0, 1) := by decide +kernel
theorem d_sl_law_398 : decode code 398 = .ok (.laload, 1) := by decide +kernel
theorem d_sl_law_399 : decode code 399 = .ok (.iload 6, 2) := by decide +kernel
theorem d_sl_law_401 : decode code 401 = .ok (.i2l, 1) := by decide +kernel
theorem d_sl_law_402 : decode code 402 = .ok (.lcmp, 1) := by decide +kernel
theorem d_sl_law_403 : decode code 403 = .ok (.ifCond .eq 5, 3) := by decide +kernel
theorem d_sl_law_406 : decode code 406 = .ok (.iconst 0, 1) := by decide +kernel
theorem d_sl_law_407 : decode code 407 = .ok (.ireturn, 1) := by decide +kernel
theorem d_sl_law_408 : decode code 408 = .ok (.goto 139, 3) := by decide +kernel
theorem d_sl_law_411 : decode code 411 = .ok (.aload_n 1, 1) := by decide +kernel
theorem d_sl_law_412 : decode code 412 = .ok (.aload_n 0, 1) := by decide +kernel
theorem d_sl_law_413 : decode code 413 = .ok (.iload 4, 2) := by decide +kernel
theorem d_sl_law_415 : decode code 415 = .ok (.iconst 1, 1) := by decide +kernel
theorem d_sl_law_416 : decode code 416 = .ok (.iadd, 1) := by decide +kernel
theorem d_sl_law_417 : decode code 417 = .ok (.iaload, 1) := by decide +kernel
theorem d_sl_law_418 : decode code 418 = .ok (.aload_n 0, 1) := by decide +kernel
theorem d_sl_law_419 : decode code 419 = .ok (.iload 4, 2) := by decide +kernel
theorem d_sl_law_421 : decode code 421 = .ok (.iconst 2, 1) := by decide +kernel
theorem d_sl_law_422 : decode code 422 = .ok (.iadd, 1) := by decide +kernel
theorem d_sl_law_423 : decode code 423 = .ok (.iaload, 1) := by decide +kernel
theorem d_sl_law_424 : decode code 424 = .ok (.aload_n 0, 1) := by decide +kernel
theorem d_sl_law_425 : decode code 425 = .ok (.iload 4, 2) := by decide +kernel
theorem d_sl_law_427 : decode code 427 = .ok (.iconst 3, 1) := by decide +kernel
theorem d_sl_law_428 : decode code 428 = .ok (.iadd, 1) := by decide +kernel
theorem d_sl_law_429 : decode code 429 = .ok (.iaload, 1) := by decide +kernel
theorem d_sl_law_430 : decode code 430 = .ok (.aload_n 3, 1) := by decide +kernel
theorem d_sl_law_431 : decode code 431 = .ok (.invokestatic 67, 3) := by decide +kernel
theorem d_sl_law_434 : decode code 434 = .ok (.istore 5, 2) := by decide +kernel
theorem d_sl_law_436 : decode code 436 = .ok (.aload_n 2, 1) := by decide +kernel
theorem d_sl_law_437 : decode code 437 = .ok (.aload_n 0, 1) := by decide +kernel
theorem d_sl_law_438 : decode code 438 = .ok (.iload 4, 2) := by decide +kernel
theorem d_sl_law_440 : decode code 440 = .ok (.iconst 1, 1) := by decide +kernel
theorem d_sl_law_441 : decode code 441 = .ok (.iadd, 1) := by decide +kernel
theorem d_sl_law_442 : decode code 442 = .ok (.iaload, 1) := by decide +kernel
theorem d_sl_law_443 : decode code 443 = .ok (.aload_n 0, 1) := by decide +kernel
theorem d_sl_law_444 : decode code 444 = .ok (.iload 4, 2) := by decide +kernel
theorem d_sl_law_446 : decode code 446 = .ok (.iconst 2, 1) := by decide +kernel
theorem d_sl_law_447 : decode code 447 = .ok (.iadd, 1) := by decide +kernel
theorem d_sl_law_448 : decode code 448 = .ok (.iaload, 1) := by decide +kernel
theorem d_sl_law_449 : decode code 449 = .ok (.aload_n 0, 1) := by decide +kernel
theorem d_sl_law_450 : decode code 450 = .ok (.iload 4, 2) := by decide +kernel
theorem d_sl_law_452 : decode code 452 = .ok (.iconst 3, 1) := by decide +kernel
theorem d_sl_law_453 : decode code 453 = .ok (.iadd, 1) := by decide +kernel
theorem d_sl_law_454 : decode code 454 = .ok (.iaload, 1) := by decide +kernel
theorem d_sl_law_455 : decode code 455 = .ok (.invokevirtual 69, 3) := by decide +kernel
theorem d_sl_law_458 : decode code 458 = .ok (.istore 6, 2) := by decide +kernel
theorem d_sl_law_460 : decode code 460 = .ok (.aload_n 2, 1) := by decide +kernel
theorem d_sl_law_461 : decode code 461 = .ok (.invokevirtual 49, 3) := by decide +kernel
theorem d_sl_law_464 : decode code 464 = .ok (.iload 5, 2) := by decide +kernel
theorem d_sl_law_466 : decode code 466 = .ok (.if_icmp .eq 5, 3) := by decide +kernel
theorem d_sl_law_469 : decode code 469 = .ok (.iconst 0, 1) := by decide +kernel
theorem d_sl_law_470 : decode code 470 = .ok (.ireturn, 1) := by decide +kernel
theorem d_sl_law_471 : decode code 471 = .ok (.iload 5, 2) := by decide +kernel
theorem d_sl_law_473 : decode code 473 = .ok (.ifCond .ne 15, 3) := by decide +kernel
theorem d_sl_law_476 : decode code 476 = .ok (.aload_n 3, 1) := by decide +kernel
theorem d_sl_law_477 : decode code 477 = .ok (.iconst 0, 1) := by decide +kernel
theorem d_sl_law_478 : decode code 478 = .ok (.laload, 1) := by decide +kernel
theorem d_sl_law_479 : decode code 479 = .ok (.iload 6, 2) := by decide +kernel
theorem d_sl_law_481 : decode code 481 = .ok (.i2l, 1) := by decide +kernel
theorem d_sl_law_482 : decode code 482 = .ok (.lcmp, 1) := by decide +kernel
theorem d_sl_law_483 : decode code 483 = .ok (.ifCond .eq 5, 3) := by decide +kernel
theorem d_sl_law_486 : decode code 486 = .ok (.iconst 0, 1) := by decide +kernel
theorem d_sl_law_487 : decode code 487 = .ok (.ireturn, 1) := by decide +kernel
theorem d_sl_law_488 : decode code 488 = .ok (.goto 59, 3) := by decide +kernel
theorem d_sl_law_491 : decode code 491 = .ok (.aload_n 1, 1) := by decide +kernel
theorem d_sl_law_492 : decode code 492 = .ok (.aload_n 0, 1) := by decide +kernel
theorem d_sl_law_493 : decode code 493 = .ok (.iload 4, 2) := by decide +kernel
theorem d_sl_law_495 : decode code 495 = .ok (.iconst 1, 1) := by decide +kernel
theorem d_sl_law_496 : decode code 496 = .ok (.iadd, 1) := by decide +kernel
theorem d_sl_law_497 : decode code 497 = .ok (.iaload, 1) := by decide +kernel
theorem d_sl_law_498 : decode code 498 = .ok (.aload_n 3, 1) := by decide +kernel
theorem d_sl_law_499 : decode code 499 = .ok (.invokestatic 70, 3) := by decide +kernel
theorem d_sl_law_502 : decode code 502 = .ok (.istore 5, 2) := by decide +kernel
theorem d_sl_law_504 : decode code 504 = .ok (.aload_n 2, 1) := by decide +kernel
theorem d_sl_law_505 : decode code 505 = .ok (.aload_n 0, 1) := by decide +kernel
theorem d_sl_law_506 : decode code 506 = .ok (.iload 4, 2) := by decide +kernel
theorem d_sl_law_508 : decode code 508 = .ok (.iconst 1, 1) := by decide +kernel
theorem d_sl_law_509 : decode code 509 = .ok (.iadd, 1) := by decide +kernel
theorem d_sl_law_510 : decode code 510 = .ok (.iaload, 1) := by decide +kernel
theorem d_sl_law_511 : decode code 511 = .ok (.invokevirtual 73, 3) := by decide +kernel
theorem d_sl_law_514 : decode code 514 = .ok (.istore 6, 2) := by decide +kernel
theorem d_sl_law_516 : decode code 516 = .ok (.aload_n 2, 1) := by decide +kernel
theorem d_sl_law_517 : decode code 517 = .ok (.invokevirtual 49, 3) := by decide +kernel
theorem d_sl_law_520 : decode code 520 = .ok (.iload 5, 2) := by decide +kernel
theorem d_sl_law_522 : decode code 522 = .ok (.if_icmp .eq 5, 3) := by decide +kernel
theorem d_sl_law_525 : decode code 525 = .ok (.iconst 0, 1) := by decide +kernel
theorem d_sl_law_526 : decode code 526 = .ok (.ireturn, 1) := by decide +kernel
theorem d_sl_law_527 : decode code 527 = .ok (.iload 5, 2) := by decide +kernel
theorem d_sl_law_529 : decode code 529 = .ok (.ifCond .ne 15, 3) := by decide +kernel
theorem d_sl_law_532 : decode code 532 = .ok (.aload_n 3, 1) := by decide +kernel
theorem d_sl_law_533 : decode code 533 = .ok (.iconst 0, 1) := by decide +kernel
theorem d_sl_law_534 : decode code 534 = .ok (.laload, 1) := by decide +kernel
theorem d_sl_law_535 : decode code 535 = .ok (.iload 6, 2) := by decide +kernel
theorem d_sl_law_537 : decode code 537 = .ok (.i2l, 1) := by decide +kernel
theorem d_sl_law_538 : decode code 538 = .ok (.lcmp, 1) := by decide +kernel
theorem d_sl_law_539 : decode code 539 = .ok (.ifCond .eq 5, 3) := by decide +kernel
theorem d_sl_law_542 : decode code 542 = .ok (.iconst 0, 1) := by decide +kernel
theorem d_sl_law_543 : decode code 543 = .ok (.ireturn, 1) := by decide +kernel
theorem d_sl_law_544 : decode code 544 = .ok (.goto 3, 3) := by decide +kernel
theorem d_sl_law_547 : decode code 547 = .ok (.iinc 4 4, 3) := by decide +kernel
theorem d_sl_law_550 : decode code 550 = .ok (.goto (-527), 3) := by decide +kernel
theorem d_sl_law_553 : decode code 553 = .ok (.iconst 1, 1) := by decide +kernel
theorem d_sl_law_554 : decode code 554 = .ok (.ireturn, 1) := by decide +kernel
end
section
/-! my own rows: numbers, branches over naturals, calls over my words -/
theorem gw_all {d : Cond} (hd : d ∈ gws) : GoodIn gws (d :: gws) := fun w hw => by
  rcases List.mem_cons.mp hw with rfl | h
  · exact ⟨hd, good_of_word (List.mem_filter.mp hd).2⟩
  · exact ⟨h, good_of_word (List.mem_filter.mp h).2⟩
theorem gw_one {w : Cond} (h : w ∈ gws) : w ∈ gws ∧ ((w.onTables && w.keeps) = true ∨ ∃ ty, w = .arrayClass ty) := ⟨h, good_of_word (List.mem_filter.mp h).2⟩
theorem gw_V {own C : String} {idx : Nat} {y : MethodName} {d : Cond} (h1 : Cond.methodLink own idx y ∈ gws) (h2 : Cond.instanceMethod y ∈ gws) (h3 : Cond.selects C y y ∈ gws) (h4 : Cond.initialized C ∈ gws) (hd : d ∈ gws) : GoodIn gws (wsV own idx C y (d :: gws)) := fun w hw => by
  unfold wsV at hw
  rcases List.mem_append.mp hw with h | h
  · simp only [List.mem_cons, List.not_mem_nil, or_false] at h
    rcases h with rfl | rfl | rfl | rfl
    · exact gw_one h1
    · exact gw_one h2
    · exact gw_one h3
    · exact gw_one h4
  · exact gw_all hd w h
theorem gw_S {own : String} {idx : Nat} {y : MethodName} {d : Cond} (h1 : Cond.methodLink own idx y ∈ gws) (h2 : Cond.static y ∈ gws) (h4 : Cond.initialized own ∈ gws) (hd : d ∈ gws) : GoodIn gws (wsS own idx y (d :: gws)) := fun w hw => by
  unfold wsS at hw
  rcases List.mem_append.mp hw with h | h
  · simp only [List.mem_cons, List.not_mem_nil, or_false] at h
    rcases h with rfl | rfl | rfl
    · exact gw_one h1
    · exact gw_one h2
    · exact gw_one h4
  · exact gw_all hd w h
/-- the words of a call -/
abbrev kV (own C : String) (index : Nat) (y : MethodName) (d : Cond) : Prop := Cond.methodLink own index y ∈ gws ∧ Cond.instanceMethod y ∈ gws ∧ Cond.selects C y y ∈ gws ∧ Cond.initialized C ∈ gws ∧ d ∈ gws
abbrev kS (own : String) (index : Nat) (y : MethodName) (d : Cond) : Prop := Cond.methodLink own index y ∈ gws ∧ Cond.static y ∈ gws ∧ Cond.initialized own ∈ gws ∧ d ∈ gws
abbrev kN (C : String) (y : MethodName) (n : Nat) : Prop := y.cls = C ∧ y.cls ≠ "java/lang/invoke/MethodHandle" ∧ y.cls ≠ "java/lang/invoke/VarHandle" ∧ (parseMethodDescriptor y.desc).map (fun d => d.parameters.length) = some n
abbrev kR (R rm : Room) (maxL mc ms : Nat) : Prop := rm.cells = mc ∧ rm.slots = ms ∧ rm.frames + 1 ≤ R.frames ∧ 8 + (maxL + 11) + rm.locals ≤ R.locals
/-- rooms: k levels of calls, c cells, n slots -/
abbrev rL (k c n : Nat) : Room := { frames := k, cells := c, slots := n, locals := 36 * k }
/-- a world at a method's start, and behind it -/
def gP (D : va_G) (tys : List (ClassId × FieldType)) (ws : va_W) (sz : Nat) : State → Prop := fun U => U.heap.size = sz ∧ va_P D cls2 ws U.heap ∧ va_K D cls2 tys U ∧ va_D (fun _ => True) ws
def gB {S : Type} (D : va_G) (tys : List (ClassId × FieldType)) (A : Nat → Prop) (f : S → va_W) : S → State → Prop := fun u t => va_P D cls2 (f u) t.heap ∧ va_K D cls2 tys t ∧ va_D A (f u)
theorem gP_blind {av : List Value} {D : va_G} {tys : List (ClassId × FieldType)} {ws : va_W} {sz : Nat} : FrameBlind (va_Pc av (gP D tys ws sz)) := fun a U g mk q => by
  obtain ⟨q0, q1, qP, qK, qD⟩ := q
  exact ⟨q0, q1, qP, va_K.moved (u := U) (U := U.calling g mk a) (Vm.Alike.refl U.vm) qK, qD⟩
theorem gP_pre {s : State} {H : Heap} {av : List Value} {D : va_G} {tys : List (ClassId × FieldType)} {ws : va_W} {A : Nat → Prop} (hK : va_K D cls2 tys s) (hP : va_P D cls2 ws H) (hD : va_D A ws) : ∀ U : State, U.heap = H → s.WarmedH U.vm → va_Pc av (gP D tys ws H.size) av.toArray U := fun U hU hW =>
  ⟨rfl, by rw [hU], by rw [hU]; exact hP, va_K.moved hW.alike hK, hD.weaken (fun _ _ _ _ => trivial)⟩
theorem nP_blind {av : List Value} : FrameBlind (va_Pc av (fun _ => True)) := fun _ _ _ _ q => q
theorem nP_pre {s : State} {H : Heap} {av : List Value} : ∀ U : State, U.heap = H → s.WarmedH U.vm → va_Pc av (fun _ => True) av.toArray U := fun _ _ _ => ⟨rfl, trivial⟩
theorem fm_of_map {α β : Type} {g : α → Option β} : ∀ {l : List α} {r : List β}, l.map g = r.map some → l.filterMap g = r
  | [], [], _ => rfl
  | [], _ :: _, h => by simp at h
  | _ :: _, [], h => by simp at h
  | a :: l, b :: r, h => by
    simp only [List.map_cons, List.cons.injEq] at h
    rw [List.filterMap_cons, h.1]
    simp only
    rw [fm_of_map h.2]
section XR
variable {p : Program} {l : Launch} {e : Env} {R : Room} {s : State} {m : MethodId} {args : Array Value} {below : List Frame} {meth : Method} {c : Code} {H : Heap} {locs : List Loc} {cells slots : Nat} {Q : State → Prop}
variable {cc : ByteArray} {pc : Nat} {ls : Array Slot} {rest st0 : List Value} {D : va_G} {A : Nat → Prop} {tys : List (ClassId × FieldType)} {ws : va_W} {H0 : Heap}
theorem xr_i {x y : Int32} (h : x = y) (k : W p l e R s m args below meth c H locs cells slots Q (F0 m pc ls (.int y :: rest))) : W p l e R s m args below meth c H locs cells slots Q (F0 m pc ls (.int x :: rest)) := by rw [h]; exact k
theorem xr_l {x y : Int64} (h : x = y) (k : W p l e R s m args below meth c H locs cells slots Q (F0 m pc ls (.long y :: rest))) : W p l e R s m args below meth c H locs cells slots Q (F0 m pc ls (.long x :: rest)) := by rw [h]; exact k
theorem xc_eq (hx : p.tables.exec = Jvm.exec) (hb : c.code = cc) {a b : Nat} {off : Int} {tgt : Nat} (hdg : decode cc pc = .ok (.if_icmp .eq off, 3)) (ht : (pc : Int) + off = (tgt : Int)) (ha : a < 2 ^ 31) (hb' : b < 2 ^ 31)
    (kt : a = b → W p l e R s m args below meth c H locs cells slots Q (F0 m tgt ls rest)) (kf : a ≠ b → W p l e R s m args below meth c H locs cells slots Q (F0 m (pc + 3) ls rest)) : W p l e R s m args below meth c H locs cells slots Q (F0 m pc ls (.int (nI b) :: .int (nI a) :: rest)) :=
  lv_icmp_eq hx hb hdg ht (fun h => kt ((nI_eq ha hb').mp h)) (fun h => kf (fun q => h (by rw [q])))
theorem xc_ne (hx : p.tables.exec = Jvm.exec) (hb : c.code = cc) {a b : Nat} {off : Int} {tgt : Nat} (hdg : decode cc pc = .ok (.if_icmp .ne off, 3)) (ht : (pc : Int) + off = (tgt : Int)) (ha : a < 2 ^ 31) (hb' : b < 2 ^ 31)
    (kt : a ≠ b → W p l e R s m args below meth c H locs cells slots Q (F0 m tgt ls rest)) (kf : a = b → W p l e R s m args below meth c H locs cells slots Q (F0 m (pc + 3) ls rest)) : W p l e R s m args below meth c H locs cells slots Q (F0 m pc ls (.int (nI b) :: .int (nI a) :: rest)) :=
  lv_icmp_ne hx hb hdg ht (fun h => kt (fun q => h (by rw [q]))) (fun h => kf ((nI_eq ha hb').mp h))
theorem xc_ge (hx : p.tables.exec = Jvm.exec) (hb : c.code = cc) {a b : Nat} {off : Int} {tgt : Nat} (hdg : decode cc pc = .ok (.if_icmp .ge off, 3)) (ht : (pc : Int) + off = (tgt : Int)) (ha : a < 2 ^ 31) (hb' : b < 2 ^ 31)
    (kt : b ≤ a → W p l e R s m args below meth c H locs cells slots Q (F0 m tgt ls rest)) (kf : a < b → W p l e R s m args below meth c H locs cells slots Q (F0 m (pc + 3) ls rest)) : W p l e R s m args below meth c H locs cells slots Q (F0 m pc ls (.int (nI b) :: .int (nI a) :: rest)) :=
  lv_icmp_ge hx hb hdg ht (fun h => kt ((nI_leI hb' ha).mp h)) (fun h => kf (Nat.lt_of_not_le (fun q => h ((nI_leI hb' ha).mpr q))))
theorem xc_gt (hx : p.tables.exec = Jvm.exec) (hb : c.code = cc) {a b : Nat} {off : Int} {tgt : Nat} (hdg : decode cc pc = .ok (.if_icmp .gt off, 3)) (ht : (pc : Int) + off = (tgt : Int)) (ha : a < 2 ^ 31) (hb' : b < 2 ^ 31)
    (kt : b < a → W p l e R s m args below meth c H locs cells slots Q (F0 m tgt ls rest)) (kf : a ≤ b → W p l e R s m args below meth c H locs cells slots Q (F0 m (pc + 3) ls rest)) : W p l e R s m args below meth c H locs cells slots Q (F0 m pc ls (.int (nI b) :: .int (nI a) :: rest)) :=
  lv_icmp_gt hx hb hdg ht (fun h => kt ((nI_ltI hb' ha).mp h)) (fun h => kf (Nat.le_of_not_lt (fun q => h ((nI_ltI hb' ha).mpr q))))
theorem xc_le (hx : p.tables.exec = Jvm.exec) (hb : c.code = cc) {a b : Nat} {off : Int} {tgt : Nat} (hdg : decode cc pc = .ok (.if_icmp .le off, 3)) (ht : (pc : Int) + off = (tgt : Int)) (ha : a < 2 ^ 31) (hb' : b < 2 ^ 31)
    (kt : a ≤ b → W p l e R s m args below meth c H locs cells slots Q (F0 m tgt ls rest)) (kf : b < a → W p l e R s m args below meth c H locs cells slots Q (F0 m (pc + 3) ls rest)) : W p l e R s m args below meth c H locs cells slots Q (F0 m pc ls (.int (nI b) :: .int (nI a) :: rest)) :=
  lv_icmp_le hx hb hdg ht (fun h => kt ((nI_leI ha hb').mp h)) (fun h => kf (Nat.lt_of_not_le (fun q => h ((nI_leI ha hb').mpr q))))
theorem xc_lt (hx : p.tables.exec = Jvm.exec) (hb : c.code = cc) {a b : Nat} {off : Int} {tgt : Nat} (hdg : decode cc pc = .ok (.if_icmp .lt off, 3)) (ht : (pc : Int) + off = (tgt : Int)) (ha : a < 2 ^ 31) (hb' : b < 2 ^ 31)
    (kt : a < b → W p l e R s m args below meth c H locs cells slots Q (F0 m tgt ls rest)) (kf : b ≤ a → W p l e R s m args below meth c H locs cells slots Q (F0 m (pc + 3) ls rest)) : W p l e R s m args below meth c H locs cells slots Q (F0 m pc ls (.int (nI b) :: .int (nI a) :: rest)) :=
  lv_icmp_lt hx hb hdg ht (fun h => kt ((nI_ltI ha hb').mp h)) (fun h => kf (Nat.le_of_not_lt (fun q => h ((nI_ltI ha hb').mpr q))))
theorem xz_eq (hx : p.tables.exec = Jvm.exec) (hb : c.code = cc) {a : Nat} {off : Int} {tgt : Nat} (hdg : decode cc pc = .ok (.ifCond .eq off, 3)) (ht : (pc : Int) + off = (tgt : Int)) (ha : a < 2 ^ 31)
    (kt : a = 0 → W p l e R s m args below meth c H locs cells slots Q (F0 m tgt ls rest)) (kf : 0 < a → W p l e R s m args below meth c H locs cells slots Q (F0 m (pc + 3) ls rest)) : W p l e R s m args below meth c H locs cells slots Q (F0 m pc ls (.int (nI a) :: rest)) :=
  lv_if_eq hx hb hdg ht (fun h => kt ((nI_eq ha (by decide)).mp (h.trans nI_0.symm))) (fun h => kf (Nat.pos_of_ne_zero (fun q => h (by rw [q]; exact nI_0))))
theorem xz_ne (hx : p.tables.exec = Jvm.exec) (hb : c.code = cc) {a : Nat} {off : Int} {tgt : Nat} (hdg : decode cc pc = .ok (.ifCond .ne off, 3)) (ht : (pc : Int) + off = (tgt : Int)) (ha : a < 2 ^ 31)
    (kt : 0 < a → W p l e R s m args below meth c H locs cells slots Q (F0 m tgt ls rest)) (kf : a = 0 → W p l e R s m args below meth c H locs cells slots Q (F0 m (pc + 3) ls rest)) : W p l e R s m args below meth c H locs cells slots Q (F0 m pc ls (.int (nI a) :: rest)) :=
  lv_if_ne hx hb hdg ht (fun h => kt (Nat.pos_of_ne_zero (fun q => h (by rw [q]; exact nI_0)))) (fun h => kf ((nI_eq ha (by decide)).mp (h.trans nI_0.symm)))
theorem xz_le (hx : p.tables.exec = Jvm.exec) (hb : c.code = cc) {a : Nat} {off : Int} {tgt : Nat} (hdg : decode cc pc = .ok (.ifCond .le off, 3)) (ht : (pc : Int) + off = (tgt : Int)) (ha : a < 2 ^ 31)
    (kt : a = 0 → W p l e R s m args below meth c H locs cells slots Q (F0 m tgt ls rest)) (kf : 0 < a → W p l e R s m args below meth c H locs cells slots Q (F0 m (pc + 3) ls rest)) : W p l e R s m args below meth c H locs cells slots Q (F0 m pc ls (.int (nI a) :: rest)) :=
  lv_if_le hx hb hdg ht (fun h => kt (Nat.eq_zero_of_not_pos (fun q => nI_nle q ha h))) (fun h => kf (Nat.pos_of_ne_zero (fun q => h (by rw [q, nI_0]; decide))))
theorem xz_lt (hx : p.tables.exec = Jvm.exec) (hb : c.code = cc) {a : Nat} {off : Int} {tgt : Nat} (hdg : decode cc pc = .ok (.ifCond .lt off, 3)) (ht : (pc : Int) + off = (tgt : Int)) (ha : a < 2 ^ 31)
    (kf : W p l e R s m args below meth c H locs cells slots Q (F0 m (pc + 3) ls rest)) : W p l e R s m args below meth c H locs cells slots Q (F0 m pc ls (.int (nI a) :: rest)) :=
  lv_if_lt hx hb hdg ht (fun h => absurd h (nI_pos ha)) (fun _ => kf)
/-- a long compare and the branch behind it -/
theorem xl_le (hx : p.tables.exec = Jvm.exec) (hb : c.code = cc) {a b : Nat} {off : Int} {tgt : Nat} (hd1 : decode cc pc = .ok (.lcmp, 1)) (hdg : decode cc (pc + 1) = .ok (.ifCond .le off, 3)) (ht : ((pc + 1 : Nat) : Int) + off = (tgt : Int)) (ha : a < 2 ^ 63) (hb' : b < 2 ^ 63)
    (kt : a ≤ b → W p l e R s m args below meth c H locs cells slots Q (F0 m tgt ls rest)) (kf : b < a → W p l e R s m args below meth c H locs cells slots Q (F0 m (pc + 1 + 3) ls rest)) : W p l e R s m args below meth c H locs cells slots Q (F0 m pc ls (.long (lN b) :: .long (lN a) :: rest)) :=
  W.lcmp hx hb hd1 (lv_if_le hx hb hdg ht (fun h => kt ((pk_lLE ha hb').mp ((lg_cmp_le _ _).mp h))) (fun h => kf (Nat.lt_of_not_le (fun q => h ((lg_cmp_le _ _).mpr ((pk_lLE ha hb').mpr q))))))
theorem xl_gt (hx : p.tables.exec = Jvm.exec) (hb : c.code = cc) {a b : Nat} {off : Int} {tgt : Nat} (hd1 : decode cc pc = .ok (.lcmp, 1)) (hdg : decode cc (pc + 1) = .ok (.ifCond .gt off, 3)) (ht : ((pc + 1 : Nat) : Int) + off = (tgt : Int)) (ha : a < 2 ^ 63) (hb' : b < 2 ^ 63)
    (kt : b < a → W p l e R s m args below meth c H locs cells slots Q (F0 m tgt ls rest)) (kf : a ≤ b → W p l e R s m args below meth c H locs cells slots Q (F0 m (pc + 1 + 3) ls rest)) : W p l e R s m args below meth c H locs cells slots Q (F0 m pc ls (.long (lN b) :: .long (lN a) :: rest)) :=
  W.lcmp hx hb hd1 (lv_if_gt hx hb hdg ht (fun h => kt ((pk_lLT hb' ha).mp ((lg_cmp_gt _ _).mp h))) (fun h => kf (Nat.le_of_not_lt (fun q => h ((lg_cmp_gt _ _).mpr ((pk_lLT hb' ha).mpr q))))))
theorem xl_ne (hx : p.tables.exec = Jvm.exec) (hb : c.code = cc) {a b : Nat} {off : Int} {tgt : Nat} (hd1 : decode cc pc = .ok (.lcmp, 1)) (hdg : decode cc (pc + 1) = .ok (.ifCond .ne off, 3)) (ht : ((pc + 1 : Nat) : Int) + off = (tgt : Int)) (ha : a < 2 ^ 63) (hb' : b < 2 ^ 63)
    (kt : a ≠ b → W p l e R s m args below meth c H locs cells slots Q (F0 m tgt ls rest)) (kf : a = b → W p l e R s m args below meth c H locs cells slots Q (F0 m (pc + 1 + 3) ls rest)) : W p l e R s m args below meth c H locs cells slots Q (F0 m pc ls (.long (lN b) :: .long (lN a) :: rest)) :=
  W.lcmp hx hb hd1 (lv_if_ne hx hb hdg ht (fun h => kt (fun q => h ((lg_cmp_eq _ _).mpr (by rw [q])))) (fun h => kf ((pk_lEQ ha hb').mp ((lg_cmp_eq _ _).mp h))))
theorem xl_eq (hx : p.tables.exec = Jvm.exec) (hb : c.code = cc) {a b : Nat} {off : Int} {tgt : Nat} (hd1 : decode cc pc = .ok (.lcmp, 1)) (hdg : decode cc (pc + 1) = .ok (.ifCond .eq off, 3)) (ht : ((pc + 1 : Nat) : Int) + off = (tgt : Int)) (ha : a < 2 ^ 63) (hb' : b < 2 ^ 63)
    (kt : a = b → W p l e R s m args below meth c H locs cells slots Q (F0 m tgt ls rest)) (kf : a ≠ b → W p l e R s m args below meth c H locs cells slots Q (F0 m (pc + 1 + 3) ls rest)) : W p l e R s m args below meth c H locs cells slots Q (F0 m pc ls (.long (lN b) :: .long (lN a) :: rest)) :=
  W.lcmp hx hb hd1 (lv_if_eq hx hb hdg ht (fun h => kt ((pk_lEQ ha hb').mp ((lg_cmp_eq _ _).mp h))) (fun h => kf (fun q => h ((lg_cmp_eq _ _).mpr (by rw [q])))))
/-- arrays at a place nI j -/
theorem xa_iald (hx : p.tables.exec = Jvm.exec) (hb : c.code = cc) (hK : va_K D cls2 tys s) (hP : va_P D cls2 ws H) (q0 t0 : Nat) {a : Nat} {cA : ClassId} {f : Nat → Int32} {j : Nat} (ha : ws[q0]? = some (a, .inl (cA, 8, .inl f))) (ht : tys[t0]? = some (cA, .int)) (hj : j < 8) (hdg : decode cc pc = .ok (.iaload, 1)) {v : Int32} (hv : f j = v)
    (kk : W p l e R s m args below meth c H locs cells slots Q (F0 m (pc + 1) ls (.int v :: rest))) : W p l e R s m args below meth c H locs cells slots Q (F0 m pc ls (.int (nI j) :: .ref a :: rest)) := by
  refine va_iald hx hb hK hP q0 t0 ha ht (vp_in_nI hj (by decide)) hdg ?_
  rw [nI_clamp (by omega), hv]
  exact kk
theorem xa_lald (hx : p.tables.exec = Jvm.exec) (hb : c.code = cc) (hK : va_K D cls2 tys s) (hP : va_P D cls2 ws H) (q0 t0 : Nat) {a : Nat} {cA : ClassId} {f : Nat → Int64} {j : Nat} (ha : ws[q0]? = some (a, .inl (cA, 8, .inr (.inl f)))) (ht : tys[t0]? = some (cA, .long)) (hj : j < 8) (hdg : decode cc pc = .ok (.laload, 1)) {v : Int64} (hv : f j = v)
    (kk : W p l e R s m args below meth c H locs cells slots Q (F0 m (pc + 1) ls (.long v :: rest))) : W p l e R s m args below meth c H locs cells slots Q (F0 m pc ls (.int (nI j) :: .ref a :: rest)) := by
  refine va_lald hx hb hK hP q0 t0 ha ht (vp_in_nI hj (by decide)) hdg ?_
  rw [nI_clamp (by omega), hv]
  exact kk
theorem xa_zald (hx : p.tables.exec = Jvm.exec) (hb : c.code = cc) (hK : va_K D cls2 tys s) (hP : va_P D cls2 ws H) (q0 t0 : Nat) {a : Nat} {cA : ClassId} {f : Nat → Int32} {j : Nat} (ha : ws[q0]? = some (a, .inl (cA, 8, .inl f))) (ht : tys[t0]? = some (cA, .boolean)) (hj : j < 8) (hdg : decode cc pc = .ok (.baload, 1)) {v : Int32} (hv : f j = v)
    (kk : W p l e R s m args below meth c H locs cells slots Q (F0 m (pc + 1) ls (.int v :: rest))) : W p l e R s m args below meth c H locs cells slots Q (F0 m pc ls (.int (nI j) :: .ref a :: rest)) := by
  refine va_zald hx hb hK hP q0 t0 ha ht (vp_in_nI hj (by decide)) hdg ?_
  rw [nI_clamp (by omega), hv]
  exact kk
theorem xa_iast (hx : p.tables.exec = Jvm.exec) (hb : c.code = cc) (hK : va_K D cls2 tys s) (hP : va_P D cls2 ws H) (hD : va_D A ws) (hS : va_S A H0 H locs) (q0 t0 : Nat) {a : Nat} {cA : ClassId} {f : Nat → Int32} {j : Nat} {x : Int32} (ha : ws[q0]? = some (a, .inl (cA, 8, .inl f))) (ht : tys[t0]? = some (cA, .int)) (hj : j < 8) (hdg : decode cc pc = .ok (.iastore, 1))
    (kk : ∀ (H1 : Heap) (locs1 : List Loc), va_P D cls2 (ws.set q0 (a, .inl (cA, 8, .inl (upd f j x)))) H1 → va_D A (ws.set q0 (a, .inl (cA, 8, .inl (upd f j x)))) → va_S A H0 H1 locs1 → W p l e R s m args below meth c H1 locs1 cells slots Q (F0 m (pc + 1) ls rest)) : W p l e R s m args below meth c H locs cells slots Q (F0 m pc ls (.int x :: .int (nI j) :: .ref a :: rest)) := by
  refine va_iast hx hb hK hP hD hS q0 t0 ha ht (vp_in_nI hj (by decide)) hdg ?_
  rw [nI_clamp (by omega)]
  exact kk
theorem xa_last (hx : p.tables.exec = Jvm.exec) (hb : c.code = cc) (hK : va_K D cls2 tys s) (hP : va_P D cls2 ws H) (hD : va_D A ws) (hS : va_S A H0 H locs) (q0 t0 : Nat) {a : Nat} {cA : ClassId} {f : Nat → Int64} {j : Nat} {x : Int64} (ha : ws[q0]? = some (a, .inl (cA, 8, .inr (.inl f)))) (ht : tys[t0]? = some (cA, .long)) (hj : j < 8) (hdg : decode cc pc = .ok (.lastore, 1))
    (kk : ∀ (H1 : Heap) (locs1 : List Loc), va_P D cls2 (ws.set q0 (a, .inl (cA, 8, .inr (.inl (vp_updL f j x))))) H1 → va_D A (ws.set q0 (a, .inl (cA, 8, .inr (.inl (vp_updL f j x))))) → va_S A H0 H1 locs1 → W p l e R s m args below meth c H1 locs1 cells slots Q (F0 m (pc + 1) ls rest)) : W p l e R s m args below meth c H locs cells slots Q (F0 m pc ls (.long x :: .int (nI j) :: .ref a :: rest)) := by
  refine va_last hx hb hK hP hD hS q0 t0 ha ht (vp_in_nI hj (by decide)) hdg ?_
  rw [nI_clamp (by omega)]
  exact kk
theorem xa_zast (hx : p.tables.exec = Jvm.exec) (hb : c.code = cc) (hK : va_K D cls2 tys s) (hP : va_P D cls2 ws H) (hD : va_D A ws) (hS : va_S A H0 H locs) (q0 t0 : Nat) {a : Nat} {cA : ClassId} {f : Nat → Int32} {j : Nat} {x : Int32} (ha : ws[q0]? = some (a, .inl (cA, 8, .inl f))) (ht : tys[t0]? = some (cA, .boolean)) (hj : j < 8) (hxx : vp_nar .boolean x = x) (hdg : decode cc pc = .ok (.bastore, 1))
    (kk : ∀ (H1 : Heap) (locs1 : List Loc), va_P D cls2 (ws.set q0 (a, .inl (cA, 8, .inl (upd f j x)))) H1 → va_D A (ws.set q0 (a, .inl (cA, 8, .inl (upd f j x)))) → va_S A H0 H1 locs1 → W p l e R s m args below meth c H1 locs1 cells slots Q (F0 m (pc + 1) ls rest)) : W p l e R s m args below meth c H locs cells slots Q (F0 m pc ls (.int x :: .int (nI j) :: .ref a :: rest)) := by
  refine va_zast hx hb hK hP hD hS q0 t0 ha ht (vp_in_nI hj (by decide)) hdg ?_
  rw [nI_clamp (by omega), hxx]
  exact kk
/-- fields of the two classes -/
theorem sd_same (k : Nat) (hk : k < 5) (x : ClassId × Class × Nat × Field) (h : s.fieldFound? (F_sd k).1 (F_sd k).2.1 (F_sd k).2.2.1 = some x) : s.fieldFound? "ShareDesk" (F_sd k).2.1 (F_sd k).2.2.1 = some x := by
  rcases (show k = 0 ∨ k = 1 ∨ k = 2 ∨ k = 3 ∨ k = 4 by omega) with rfl | rfl | rfl | rfl | rfl <;> exact h
theorem sm_same (k : Nat) (hk : k < 6) (x : ClassId × Class × Nat × Field) (h : s.fieldFound? (F_sm k).1 (F_sm k).2.1 (F_sm k).2.2.1 = some x) : s.fieldFound? "ShareDeskModel" (F_sm k).2.1 (F_sm k).2.2.1 = some x := by
  rcases (show k = 0 ∨ k = 1 ∨ k = 2 ∨ k = 3 ∨ k = 4 ∨ k = 5 by omega) with rfl | rfl | rfl | rfl | rfl | rfl <;> exact h
theorem sd_get (hx : p.tables.exec = Jvm.exec) (hb : c.code = cc) (hg : ∀ w ∈ gws, w.before args s = true) (hown : s.vm.findClass "ShareDesk" = some m.cls) (hK : va_K D cls2 tys s) (hP : va_P D cls2 ws H) (q0 : Nat) {a index : Nat} {fs : List Value} (he : ws[q0]? = some (a, .inr (0, fs))) (k : Nat) (hk : k < 5) (hlink : Cond.fieldLink "ShareDesk" index "ShareDesk" (F_sd k).2.1 (F_sd k).2.2.1 ∈ gws) {v : Value} (hv : fs[k]? = some v) (hdg : decode cc pc = .ok (.getfield index, 3))
    (kk : W p l e R s m args below meth c H locs cells slots Q (F0 m (pc + 3) ls (v :: rest))) : W p l e R s m args below meth c H locs cells slots Q (F0 m pc ls (.ref a :: rest)) :=
  va_get hx hb hg u_sd hown hK hP q0 he rfl k hk (hg _ hlink) (sd_same k hk) hv hdg kk
theorem sm_get (hx : p.tables.exec = Jvm.exec) (hb : c.code = cc) (hg : ∀ w ∈ gws, w.before args s = true) (hown : s.vm.findClass "ShareDeskModel" = some m.cls) (hK : va_K D cls2 tys s) (hP : va_P D cls2 ws H) (q0 : Nat) {a index : Nat} {fs : List Value} (he : ws[q0]? = some (a, .inr (1, fs))) (k : Nat) (hk : k < 6) (hlink : Cond.fieldLink "ShareDeskModel" index "ShareDeskModel" (F_sm k).2.1 (F_sm k).2.2.1 ∈ gws) {v : Value} (hv : fs[k]? = some v) (hdg : decode cc pc = .ok (.getfield index, 3))
    (kk : W p l e R s m args below meth c H locs cells slots Q (F0 m (pc + 3) ls (v :: rest))) : W p l e R s m args below meth c H locs cells slots Q (F0 m pc ls (.ref a :: rest)) :=
  va_get hx hb hg u_sm hown hK hP q0 he rfl k hk (hg _ hlink) (sm_same k hk) hv hdg kk
theorem sd_put (hx : p.tables.exec = Jvm.exec) (hb : c.code = cc) (hg : ∀ w ∈ gws, w.before args s = true) (hown : s.vm.findClass "ShareDesk" = some m.cls) (hK : va_K D cls2 tys s) (hP : va_P D cls2 ws H) (hD : va_D A ws) (hS : va_S A H0 H locs) (q0 : Nat) {a index : Nat} {fs : List Value} (he : ws[q0]? = some (a, .inr (0, fs))) (k : Nat) (hk : k < 5) (hlink : Cond.fieldLink "ShareDesk" index "ShareDesk" (F_sd k).2.1 (F_sd k).2.2.1 ∈ gws) (hfin : (F_sd k).2.2.2 = false) {v : Int32} (hd : parseFieldDescriptor (F_sd k).2.2.1 = some .int) (hl : k < fs.length) (hdg : decode cc pc = .ok (.putfield index, 3))
    (kk : ∀ (H1 : Heap) (locs1 : List Loc), va_P D cls2 (ws.set q0 (a, .inr (0, fs.set k (.int v)))) H1 → va_D A (ws.set q0 (a, .inr (0, fs.set k (.int v)))) → va_S A H0 H1 locs1 → W p l e R s m args below meth c H1 locs1 cells slots Q (F0 m (pc + 3) ls rest)) : W p l e R s m args below meth c H locs cells slots Q (F0 m pc ls (.int v :: .ref a :: rest)) :=
  va_put hx hb hg u_sd t_sd t_sd_ok n_sd hown hK hP hD hS q0 he rfl k hk (hg _ hlink) (sd_same k hk) hfin hd rfl rfl hl hdg kk
theorem sm_put (hx : p.tables.exec = Jvm.exec) (hb : c.code = cc) (hg : ∀ w ∈ gws, w.before args s = true) (hown : s.vm.findClass "ShareDeskModel" = some m.cls) (hK : va_K D cls2 tys s) (hP : va_P D cls2 ws H) (hD : va_D A ws) (hS : va_S A H0 H locs) (q0 : Nat) {a index : Nat} {fs : List Value} (he : ws[q0]? = some (a, .inr (1, fs))) (k : Nat) (hk : k < 6) (hlink : Cond.fieldLink "ShareDeskModel" index "ShareDeskModel" (F_sm k).2.1 (F_sm k).2.2.1 ∈ gws) (hfin : (F_sm k).2.2.2 = false) {v : Int32} (hd : parseFieldDescriptor (F_sm k).2.2.1 = some .int) (hl : k < fs.length) (hdg : decode cc pc = .ok (.putfield index, 3))
    (kk : ∀ (H1 : Heap) (locs1 : List Loc), va_P D cls2 (ws.set q0 (a, .inr (1, fs.set k (.int v)))) H1 → va_D A (ws.set q0 (a, .inr (1, fs.set k (.int v)))) → va_S A H0 H1 locs1 → W p l e R s m args below meth c H1 locs1 cells slots Q (F0 m (pc + 3) ls rest)) : W p l e R s m args below meth c H locs cells slots Q (F0 m pc ls (.int v :: .ref a :: rest)) :=
  va_put hx hb hg u_sm t_sm t_sm_ok n_sm hown hK hP hD hS q0 he rfl k hk (hg _ hlink) (sm_same k hk) hfin hd rfl rfl hl hdg kk
end XR
end
section
/-! my own rows: ends of methods, calls -/
section XC
variable {p : Program} {l : Launch} {e : Env} {R : Room} {s : State} {m : MethodId} {args : Array Value} {below : List Frame} {meth : Method} {c : Code} {H : Heap} {locs : List Loc} {cells slots : Nat} {Q : State → Prop}
variable {cc : ByteArray} {pc : Nat} {ls : Array Slot} {rest st0 : List Value} {D : va_G} {A : Nat → Prop} {tys : List (ClassId × FieldType)} {ws wc wr : va_W} {H0 : Heap}
variable {y : MethodName} {bytes : ByteArray} {maxL nL mc ms index : Nat} {ret : Option FieldType} {rm : Room} {own C : String} {b : Nat} {As : List Value}
theorem en_i {post : Int32 → Prop} {v : Int32} (hx : p.tables.exec = Jvm.exec) (hb : c.code = cc) (hr : meth.sig.returnType = some .int) (hlocks : meth.locks = false) (hp : post v) (hdg : decode cc pc = .ok (.ireturn, 1)) :
    W p l e R s m args below meth c s.heap [] cells slots (MQ below (vp_Si post) args s cells slots (fun _ => False)) (F0 m pc ls [.int v]) :=
  W.iret hx hb hr (fun t ht _ => ⟨v, rfl, hp, ht⟩) (fun q h => by cases h) hdg hlocks
theorem en_z {post : Int32 → Prop} {v : Int32} (hx : p.tables.exec = Jvm.exec) (hb : c.code = cc) (hr : meth.sig.returnType = some .boolean) (hlocks : meth.locks = false) (hn : narrow .boolean (.int v) = .int v) (hp : post v) (hdg : decode cc pc = .ok (.ireturn, 1)) :
    W p l e R s m args below meth c s.heap [] cells slots (MQ below (vp_Si post) args s cells slots (fun _ => False)) (F0 m pc ls [.int v]) :=
  W.zret hx hb hr hn (fun t ht _ => ⟨v, rfl, hp, ht⟩) (fun q h => by cases h) hdg hlocks
theorem en_l {post : Int64 → Prop} {v : Int64} (hx : p.tables.exec = Jvm.exec) (hb : c.code = cc) (hr : meth.sig.returnType = some .long) (hlocks : meth.locks = false) (hp : post v) (hdg : decode cc pc = .ok (.lreturn, 1)) :
    W p l e R s m args below meth c s.heap [] cells slots (MQ below (vp_Sl post) args s cells slots (fun _ => False)) (F0 m pc ls [.long v]) :=
  W.lret hx hb hr (fun t ht _ => ⟨v, rfl, hp, ht⟩) (fun q h => by cases h) hdg hlocks
theorem en_v {post : Unit → Prop} (hx : p.tables.exec = Jvm.exec) (hb : c.code = cc) (hr : meth.sig.returnType = none) (hlocks : meth.locks = false) (hp : post ()) (hdg : decode cc pc = .ok (.return_, 1)) :
    W p l e R s m args below meth c s.heap [] cells slots (MQ below (va_Sv post) args s cells slots (fun _ => False)) (F0 m pc ls []) :=
  W.vret hx hb hr (fun t ht _ => ⟨rfl, hp, ht⟩) (fun q h => by cases h) hdg hlocks
theorem en_gi {S : Type} {post : Int32 → S → Prop} {f : S → va_W} {v : Int32} (u : S) (hx : p.tables.exec = Jvm.exec) (hb : c.code = cc) (hr : meth.sig.returnType = some .int) (hlocks : meth.locks = false) (hp : post v u) (hP : va_P D cls2 (f u) H) (hK : va_K D cls2 tys s) (hD : va_D A (f u)) (hS : va_S A s.heap H locs) (hdg : decode cc pc = .ok (.ireturn, 1)) :
    W p l e R s m args below meth c H locs cells slots (MQ below (va_Qi post (gB D tys A f) A) args s cells slots A) (F0 m pc ls [.int v]) :=
  W.iret hx hb hr (fun t ht hW => ⟨⟨v, u, rfl, hp, by rw [ht]; exact hP, va_K.moved hW.alike hK, hD⟩, hS.F ht⟩) hS.2.2 hdg hlocks
theorem en_gz {S : Type} {post : Int32 → S → Prop} {f : S → va_W} {v : Int32} (u : S) (hx : p.tables.exec = Jvm.exec) (hb : c.code = cc) (hr : meth.sig.returnType = some .boolean) (hlocks : meth.locks = false) (hn : narrow .boolean (.int v) = .int v) (hp : post v u) (hP : va_P D cls2 (f u) H) (hK : va_K D cls2 tys s) (hD : va_D A (f u)) (hS : va_S A s.heap H locs) (hdg : decode cc pc = .ok (.ireturn, 1)) :
    W p l e R s m args below meth c H locs cells slots (MQ below (va_Qi post (gB D tys A f) A) args s cells slots A) (F0 m pc ls [.int v]) :=
  W.zret hx hb hr hn (fun t ht hW => ⟨⟨v, u, rfl, hp, by rw [ht]; exact hP, va_K.moved hW.alike hK, hD⟩, hS.F ht⟩) hS.2.2 hdg hlocks
theorem en_gl {S : Type} {post : Int64 → S → Prop} {f : S → va_W} {v : Int64} (u : S) (hx : p.tables.exec = Jvm.exec) (hb : c.code = cc) (hr : meth.sig.returnType = some .long) (hlocks : meth.locks = false) (hp : post v u) (hP : va_P D cls2 (f u) H) (hK : va_K D cls2 tys s) (hD : va_D A (f u)) (hS : va_S A s.heap H locs) (hdg : decode cc pc = .ok (.lreturn, 1)) :
    W p l e R s m args below meth c H locs cells slots (MQ below (va_Ql post (gB D tys A f) A) args s cells slots A) (F0 m pc ls [.long v]) :=
  W.lret hx hb hr (fun t ht hW => ⟨⟨v, u, rfl, hp, by rw [ht]; exact hP, va_K.moved hW.alike hK, hD⟩, hS.F ht⟩) hS.2.2 hdg hlocks
theorem en_gv {S : Type} {post : S → Prop} {f : S → va_W} (u : S) (hx : p.tables.exec = Jvm.exec) (hb : c.code = cc) (hr : meth.sig.returnType = none) (hlocks : meth.locks = false) (hp : post u) (hP : va_P D cls2 (f u) H) (hK : va_K D cls2 tys s) (hD : va_D A (f u)) (hS : va_S A s.heap H locs) (hdg : decode cc pc = .ok (.return_, 1)) :
    W p l e R s m args below meth c H locs cells slots (MQ below (va_Qv post (gB D tys A f) A) args s cells slots A) (F0 m pc ls []) :=
  W.vret hx hb hr (fun t ht hW => ⟨⟨u, rfl, hp, by rw [ht]; exact hP, va_K.moved hW.alike hK, hD⟩, hS.F ht⟩) hS.2.2 hdg hlocks
/-- a virtual call that only reads -/
theorem pv_i {post : Int32 → Prop} (hx : p.tables.exec = Jvm.exec) (hb : c.code = cc) (hml : c.maxLocals = nL) (hown : s.vm.findClass own = some m.cls) (hg : ∀ w ∈ gws, w.before args s = true)
    (hM : Met l y (.code y bytes maxL ret :: gws) rm (va_Pc (.ref b :: As) (gP D tys wc H.size)) (vp_Si post) 0 0 (fun _ => False)) (ks : kV own C index y (.code y bytes maxL ret)) (hd : kN C y As.length) (hR : kR R rm maxL 0 0)
    (hK : va_K D cls2 tys s) (hP : va_P D cls2 wc H) (hD : va_D A wc) (hrecv : ∃ cellB : Cell, H[b]? = some cellB ∧ cellB.vm.isStatics = false ∧ s.vm.findClass C = some cellB.cls) (hls : ls.size = nL) (hst : st0 = As.reverse ++ .ref b :: rest) (hW : (rest.map fun v => v.category).sum ≤ 8) (hdg : decode cc pc = .ok (.invokevirtual index, 3)) (hf : cells + 0 ≤ R.cells ∧ slots + 0 ≤ R.slots)
    (kk : ∀ r : Int32, post r → W p l e R s m args below meth c H locs cells slots Q (F0 m (pc + 3) ls (.int r :: rest))) : W p l e R s m args below meth c H locs cells slots Q (F0 m pc ls st0) :=
  vp_callSi (W.runV (C := C) ⟨hx, hb, hml, hown, hg⟩ hM (cwV As.length hg (gw_V ks.1 ks.2.1 ks.2.2.1 ks.2.2.2.1 ks.2.2.2.2) rfl hR.1 hR.2.1 hd hR.2.2) ⟨gP_blind, hrecv, gP_pre hK hP hD⟩ rfl rfl hls hst (lv_room hW) hdg hf) kk
/-- a virtual call that only reads -/
theorem pv_l {post : Int64 → Prop} (hx : p.tables.exec = Jvm.exec) (hb : c.code = cc) (hml : c.maxLocals = nL) (hown : s.vm.findClass own = some m.cls) (hg : ∀ w ∈ gws, w.before args s = true)
    (hM : Met l y (.code y bytes maxL ret :: gws) rm (va_Pc (.ref b :: As) (gP D tys wc H.size)) (vp_Sl post) 0 0 (fun _ => False)) (ks : kV own C index y (.code y bytes maxL ret)) (hd : kN C y As.length) (hR : kR R rm maxL 0 0)
    (hK : va_K D cls2 tys s) (hP : va_P D cls2 wc H) (hD : va_D A wc) (hrecv : ∃ cellB : Cell, H[b]? = some cellB ∧ cellB.vm.isStatics = false ∧ s.vm.findClass C = some cellB.cls) (hls : ls.size = nL) (hst : st0 = As.reverse ++ .ref b :: rest) (hW : (rest.map fun v => v.category).sum ≤ 8) (hdg : decode cc pc = .ok (.invokevirtual index, 3)) (hf : cells + 0 ≤ R.cells ∧ slots + 0 ≤ R.slots)
    (kk : ∀ r : Int64, post r → W p l e R s m args below meth c H locs cells slots Q (F0 m (pc + 3) ls (.long r :: rest))) : W p l e R s m args below meth c H locs cells slots Q (F0 m pc ls st0) :=
  vp_callSl (W.runV (C := C) ⟨hx, hb, hml, hown, hg⟩ hM (cwV As.length hg (gw_V ks.1 ks.2.1 ks.2.2.1 ks.2.2.2.1 ks.2.2.2.2) rfl hR.1 hR.2.1 hd hR.2.2) ⟨gP_blind, hrecv, gP_pre hK hP hD⟩ rfl rfl hls hst (lv_room hW) hdg hf) kk
theorem pv_v {post : Unit → Prop} (hx : p.tables.exec = Jvm.exec) (hb : c.code = cc) (hml : c.maxLocals = nL) (hown : s.vm.findClass own = some m.cls) (hg : ∀ w ∈ gws, w.before args s = true)
    (hM : Met l y (.code y bytes maxL ret :: gws) rm (va_Pc (.ref b :: As) (gP D tys wc H.size)) (va_Sv post) 0 0 (fun _ => False)) (ks : kV own C index y (.code y bytes maxL ret)) (hd : kN C y As.length) (hR : kR R rm maxL 0 0)
    (hK : va_K D cls2 tys s) (hP : va_P D cls2 wc H) (hD : va_D A wc) (hrecv : ∃ cellB : Cell, H[b]? = some cellB ∧ cellB.vm.isStatics = false ∧ s.vm.findClass C = some cellB.cls) (hls : ls.size = nL) (hst : st0 = As.reverse ++ .ref b :: rest) (hW : (rest.map fun v => v.category).sum ≤ 8) (hdg : decode cc pc = .ok (.invokevirtual index, 3)) (hf : cells + 0 ≤ R.cells ∧ slots + 0 ≤ R.slots)
    (kk : post () → W p l e R s m args below meth c H locs cells slots Q (F0 m (pc + 3) ls rest)) : W p l e R s m args below meth c H locs cells slots Q (F0 m pc ls st0) :=
  va_csv (W.runV (C := C) ⟨hx, hb, hml, hown, hg⟩ hM (cwV As.length hg (gw_V ks.1 ks.2.1 ks.2.2.1 ks.2.2.2.1 ks.2.2.2.2) rfl hR.1 hR.2.1 hd hR.2.2) ⟨gP_blind, hrecv, gP_pre hK hP hD⟩ rfl rfl hls hst (lv_room hW) hdg hf) kk
/-- a static call that touches no cell -/
theorem ps_i {post : Int32 → Prop} (hx : p.tables.exec = Jvm.exec) (hb : c.code = cc) (hml : c.maxLocals = nL) (hown : s.vm.findClass own = some m.cls) (hg : ∀ w ∈ gws, w.before args s = true)
    (hM : Met l y (.code y bytes maxL ret :: gws) rm (va_Pc As (fun _ => True)) (vp_Si post) 0 0 (fun _ => False)) (ks : kS own index y (.code y bytes maxL ret)) (hd : kN own y As.length) (hR : kR R rm maxL 0 0)
    (hls : ls.size = nL) (hst : st0 = As.reverse ++ rest) (hW : (rest.map fun v => v.category).sum ≤ 8) (hdg : decode cc pc = .ok (.invokestatic index, 3)) (hf : cells + 0 ≤ R.cells ∧ slots + 0 ≤ R.slots)
    (kk : ∀ r : Int32, post r → W p l e R s m args below meth c H locs cells slots Q (F0 m (pc + 3) ls (.int r :: rest))) : W p l e R s m args below meth c H locs cells slots Q (F0 m pc ls st0) :=
  vp_callSi (W.runS ⟨hx, hb, hml, hown, hg⟩ hM (cwS As.length hg (gw_S ks.1 ks.2.1 ks.2.2.1 ks.2.2.2) rfl hR.1 hR.2.1 hd hR.2.2) ⟨nP_blind, nP_pre⟩ rfl rfl hls hst (lv_room hW) hdg hf) kk
/-- a static call that touches no cell -/
theorem ps_v {post : Unit → Prop} (hx : p.tables.exec = Jvm.exec) (hb : c.code = cc) (hml : c.maxLocals = nL) (hown : s.vm.findClass own = some m.cls) (hg : ∀ w ∈ gws, w.before args s = true)
    (hM : Met l y (.code y bytes maxL ret :: gws) rm (va_Pc As (fun _ => True)) (va_Sv post) 0 0 (fun _ => False)) (ks : kS own index y (.code y bytes maxL ret)) (hd : kN own y As.length) (hR : kR R rm maxL 0 0)
    (hls : ls.size = nL) (hst : st0 = As.reverse ++ rest) (hW : (rest.map fun v => v.category).sum ≤ 8) (hdg : decode cc pc = .ok (.invokestatic index, 3)) (hf : cells + 0 ≤ R.cells ∧ slots + 0 ≤ R.slots)
    (kk : post () → W p l e R s m args below meth c H locs cells slots Q (F0 m (pc + 3) ls rest)) : W p l e R s m args below meth c H locs cells slots Q (F0 m pc ls st0) :=
  va_csv (W.runS ⟨hx, hb, hml, hown, hg⟩ hM (cwS As.length hg (gw_S ks.1 ks.2.1 ks.2.2.1 ks.2.2.2) rfl hR.1 hR.2.1 hd hR.2.2) ⟨nP_blind, nP_pre⟩ rfl rfl hls hst (lv_room hW) hdg hf) kk
/-- a virtual call that may write its world's cells and make cells -/
theorem ev_v {S : Type} {post : S → Prop} {f : S → va_W} {tyc : List (ClassId × FieldType)} (hx : p.tables.exec = Jvm.exec) (hb : c.code = cc) (hml : c.maxLocals = nL) (hown : s.vm.findClass own = some m.cls) (hg : ∀ w ∈ gws, w.before args s = true)
    (hM : Met l y (.code y bytes maxL ret :: gws) rm (va_Pc (.ref b :: As) (gP D tyc wc H.size)) (va_Qv post (gB D tyc (va_A wc H.size) f) (va_A wc H.size)) mc ms (va_A wc H.size)) (ks : kV own C index y (.code y bytes maxL ret)) (hd : kN C y As.length) (hR : kR R rm maxL mc ms)
    (hK : va_K D cls2 tyc s) (hP : va_P D cls2 ws H) (hD : va_D A ws) (hS : va_S A s.heap H locs) (hA : ∀ q, s.heap.size ≤ q → A q) (isC isR : List Nat) (hC : isC.map (fun i => ws[i]?) = wc.map some) (hnC : va_nd isC = true) (hRr : isR.map (fun i => ws[i]?) = wr.map some) (hnR : va_nd isR = true) (hdis : ∀ i ∈ isR, i ∉ isC)
    (hrecv : ∃ cellB : Cell, H[b]? = some cellB ∧ cellB.vm.isStatics = false ∧ s.vm.findClass C = some cellB.cls) (hls : ls.size = nL) (hst : st0 = As.reverse ++ .ref b :: rest) (hW : (rest.map fun v => v.category).sum ≤ 8) (hdg : decode cc pc = .ok (.invokevirtual index, 3)) (hf : cells + mc ≤ R.cells ∧ slots + ms ≤ R.slots)
    (kk : ∀ (u : S) (H1 : Heap) (locs1 : List Loc), post u → va_P D cls2 (wr ++ f u) H1 → va_D A (wr ++ f u) → va_S A s.heap H1 locs1 → W p l e R s m args below meth c H1 locs1 (cells + mc) (slots + ms) Q (F0 m (pc + 3) ls rest)) : W p l e R s m args below meth c H locs cells slots Q (F0 m pc ls st0) := by
  have hPc : va_P D cls2 wc H := hP.sub isC (fm_of_map hC)
  have hDc : va_D A wc := hD.sub isC hnC hC
  have hFc := va_free hD hS hA isC hC
  refine va_callv (va_runV (C := C) ⟨hx, hb, hml, hown, hg⟩ hM (cwV As.length hg (gw_V ks.1 ks.2.1 ks.2.2.1 ks.2.2.2.1 ks.2.2.2.2) rfl hR.1 hR.2.1 hd hR.2.2) ⟨gP_blind, hrecv, gP_pre hK hPc hDc⟩ rfl rfl hls hst (lv_room hW) hdg hf) hS (fun q _ h => hFc q h) hFc (fun u t H1 locs1 ht hvm hw hB hz1 hk1 hS1 => ?_)
  obtain ⟨hP1, hK1, hD1⟩ := hB
  rw [ht] at hP1
  obtain ⟨hP2, hD2⟩ := va_join hP hD isC isR hC hRr hnR hdis hk1 hFc hP1 hD1
  exact kk u H1 locs1 hw hP2 hD2 hS1
/-- a virtual call that may write its world's cells and make cells -/
theorem ev_i {S : Type} {post : Int32 → S → Prop} {f : S → va_W} {tyc : List (ClassId × FieldType)} (hx : p.tables.exec = Jvm.exec) (hb : c.code = cc) (hml : c.maxLocals = nL) (hown : s.vm.findClass own = some m.cls) (hg : ∀ w ∈ gws, w.before args s = true)
    (hM : Met l y (.code y bytes maxL ret :: gws) rm (va_Pc (.ref b :: As) (gP D tyc wc H.size)) (va_Qi post (gB D tyc (va_A wc H.size) f) (va_A wc H.size)) mc ms (va_A wc H.size)) (ks : kV own C index y (.code y bytes maxL ret)) (hd : kN C y As.length) (hR : kR R rm maxL mc ms)
    (hK : va_K D cls2 tyc s) (hP : va_P D cls2 ws H) (hD : va_D A ws) (hS : va_S A s.heap H locs) (hA : ∀ q, s.heap.size ≤ q → A q) (isC isR : List Nat) (hC : isC.map (fun i => ws[i]?) = wc.map some) (hnC : va_nd isC = true) (hRr : isR.map (fun i => ws[i]?) = wr.map some) (hnR : va_nd isR = true) (hdis : ∀ i ∈ isR, i ∉ isC)
    (hrecv : ∃ cellB : Cell, H[b]? = some cellB ∧ cellB.vm.isStatics = false ∧ s.vm.findClass C = some cellB.cls) (hls : ls.size = nL) (hst : st0 = As.reverse ++ .ref b :: rest) (hW : (rest.map fun v => v.category).sum ≤ 8) (hdg : decode cc pc = .ok (.invokevirtual index, 3)) (hf : cells + mc ≤ R.cells ∧ slots + ms ≤ R.slots)
    (kk : ∀ (r : Int32) (u : S) (H1 : Heap) (locs1 : List Loc), post r u → va_P D cls2 (wr ++ f u) H1 → va_D A (wr ++ f u) → va_S A s.heap H1 locs1 → W p l e R s m args below meth c H1 locs1 (cells + mc) (slots + ms) Q (F0 m (pc + 3) ls (.int r :: rest))) : W p l e R s m args below meth c H locs cells slots Q (F0 m pc ls st0) := by
  have hPc : va_P D cls2 wc H := hP.sub isC (fm_of_map hC)
  have hDc : va_D A wc := hD.sub isC hnC hC
  have hFc := va_free hD hS hA isC hC
  refine va_calli (va_runV (C := C) ⟨hx, hb, hml, hown, hg⟩ hM (cwV As.length hg (gw_V ks.1 ks.2.1 ks.2.2.1 ks.2.2.2.1 ks.2.2.2.2) rfl hR.1 hR.2.1 hd hR.2.2) ⟨gP_blind, hrecv, gP_pre hK hPc hDc⟩ rfl rfl hls hst (lv_room hW) hdg hf) hS (fun q _ h => hFc q h) hFc (fun r u t H1 locs1 ht hvm hw hB hz1 hk1 hS1 => ?_)
  obtain ⟨hP1, hK1, hD1⟩ := hB
  rw [ht] at hP1
  obtain ⟨hP2, hD2⟩ := va_join hP hD isC isR hC hRr hnR hdis hk1 hFc hP1 hD1
  exact kk r u H1 locs1 hw hP2 hD2 hS1
/-- a virtual call that may write its world's cells and make cells -/
theorem ev_l {S : Type} {post : Int64 → S → Prop} {f : S → va_W} {tyc : List (ClassId × FieldType)} (hx : p.tables.exec = Jvm.exec) (hb : c.code = cc) (hml : c.maxLocals = nL) (hown : s.vm.findClass own = some m.cls) (hg : ∀ w ∈ gws, w.before args s = true)
    (hM : Met l y (.code y bytes maxL ret :: gws) rm (va_Pc (.ref b :: As) (gP D tyc wc H.size)) (va_Ql post (gB D tyc (va_A wc H.size) f) (va_A wc H.size)) mc ms (va_A wc H.size)) (ks : kV own C index y (.code y bytes maxL ret)) (hd : kN C y As.length) (hR : kR R rm maxL mc ms)
    (hK : va_K D cls2 tyc s) (hP : va_P D cls2 ws H) (hD : va_D A ws) (hS : va_S A s.heap H locs) (hA : ∀ q, s.heap.size ≤ q → A q) (isC isR : List Nat) (hC : isC.map (fun i => ws[i]?) = wc.map some) (hnC : va_nd isC = true) (hRr : isR.map (fun i => ws[i]?) = wr.map some) (hnR : va_nd isR = true) (hdis : ∀ i ∈ isR, i ∉ isC)
    (hrecv : ∃ cellB : Cell, H[b]? = some cellB ∧ cellB.vm.isStatics = false ∧ s.vm.findClass C = some cellB.cls) (hls : ls.size = nL) (hst : st0 = As.reverse ++ .ref b :: rest) (hW : (rest.map fun v => v.category).sum ≤ 8) (hdg : decode cc pc = .ok (.invokevirtual index, 3)) (hf : cells + mc ≤ R.cells ∧ slots + ms ≤ R.slots)
    (kk : ∀ (r : Int64) (u : S) (H1 : Heap) (locs1 : List Loc), post r u → va_P D cls2 (wr ++ f u) H1 → va_D A (wr ++ f u) → va_S A s.heap H1 locs1 → W p l e R s m args below meth c H1 locs1 (cells + mc) (slots + ms) Q (F0 m (pc + 3) ls (.long r :: rest))) : W p l e R s m args below meth c H locs cells slots Q (F0 m pc ls st0) := by
  have hPc : va_P D cls2 wc H := hP.sub isC (fm_of_map hC)
  have hDc : va_D A wc := hD.sub isC hnC hC
  have hFc := va_free hD hS hA isC hC
  refine va_calll (va_runV (C := C) ⟨hx, hb, hml, hown, hg⟩ hM (cwV As.length hg (gw_V ks.1 ks.2.1 ks.2.2.1 ks.2.2.2.1 ks.2.2.2.2) rfl hR.1 hR.2.1 hd hR.2.2) ⟨gP_blind, hrecv, gP_pre hK hPc hDc⟩ rfl rfl hls hst (lv_room hW) hdg hf) hS (fun q _ h => hFc q h) hFc (fun r u t H1 locs1 ht hvm hw hB hz1 hk1 hS1 => ?_)
  obtain ⟨hP1, hK1, hD1⟩ := hB
  rw [ht] at hP1
  obtain ⟨hP2, hD2⟩ := va_join hP hD isC isR hC hRr hnR hdis hk1 hFc hP1 hD1
  exact kk r u H1 locs1 hw hP2 hD2 hS1
end XC
end
section
/-! my own rows: methods that throw (IllegalArgumentException, IllegalStateException), and who catches -/
def xs1 (O f d : String) (A : Nat → Prop) (U : State) (H : Heap) : Prop := ∃ (c : ClassId) (k : Class) (i : Nat) (fd : Field) (a : Nat) (cell : Cell) (v : RefV), U.vm.findClass O = some c ∧ U.fieldFound? O f d = some (c, k, i, fd) ∧ fd.isStatic = true ∧ k.statics = some a ∧ H[a]? = some cell ∧ cell.vm.isStatics = true ∧ cell.cls = c ∧ fd.slot < cell.slots.size ∧ k.staticTypes[fd.slot]? = some fd.type ∧ cell.slots[fd.slot]? = some v.v ∧ ¬ A a
theorem xs1.of {args : Array Value} {s : State} {O f d : String} {A : Nat → Prop} (hl : (Cond.laysStatic O f d).before args s = true) (hr : (Cond.isRef (.static O f d)).before args s = true) (hA : ∀ a : Nat, a < s.heap.size → ¬ A a) : xs1 O f d A s s.heap := by
  obtain ⟨c, k, i, fd, a, cell, hc, hf, hst, hsta, hcell, hiss, hcls, hlt, hty⟩ := Cond.laysStatic_spec hl
  obtain ⟨v, hv⟩ := Cond.staticRefV hf hst hsta hcell hiss hr
  exact ⟨c, k, i, fd, a, cell, v, hc, hf, hst, hsta, hcell, hiss, hcls, hlt, hty, hv, hA a (Array.getElem?_eq_some_iff.mp hcell).1⟩
theorem xs1.lays {args : Array Value} {U : State} {O f d : String} {A : Nat → Prop} (h : xs1 O f d A U U.heap) : (Cond.laysStatic O f d).before args U = true := by
  obtain ⟨c, k, i, fd, a, cell, v, hc, hf, hst, hsta, hcell, hiss, hcls, hlt, hty, hv, -⟩ := h
  simp [Cond.before, Cond.holds, Cond.value, hc, hf, hst, hsta, hcell, hiss, hcls, hlt, hty]
theorem xs1.isr {args : Array Value} {U : State} {O f d : String} {A : Nat → Prop} (h : xs1 O f d A U U.heap) : (Cond.isRef (.static O f d)).before args U = true := by
  obtain ⟨c, k, i, fd, a, cell, v, hc, hf, hst, hsta, hcell, hiss, hcls, hlt, hty, hv, -⟩ := h
  have he : (Term.static O f d).eval args U none [] U = some v.v := by
    simp [Term.eval, State.fieldNamed?, hf, hst, hsta, hcell, hiss, hv]
  obtain ⟨v, hok⟩ := v
  simp only [Cond.before, Cond.holds, Cond.value, he]
  cases v <;> simp [Value.isRef] at hok ⊢
theorem xs1.moved {O f d : String} {A : Nat → Prop} {u U : State} {H : Heap} (hvm : u.vm.Alike U.vm) (h : xs1 O f d A u H) : xs1 O f d A U H := by
  obtain ⟨c, k, i, fd, a, cell, v, hc, hf, hst, hsta, hcell, hiss, hcls, hlt, hty, hv, ha⟩ := h
  obtain ⟨k', hi', he⟩ := State.fieldFound?_setVm hvm hf
  exact ⟨c, k', i, fd, a, cell, v, by rw [hvm.findClass]; exact hc, hi', hst, by rw [he]; exact hsta, hcell, hiss, hcls, hlt, by rw [he]; exact hty, hv, ha⟩
theorem xs1.kept {O f d : String} {A : Nat → Prop} {U : State} {H H1 : Heap} (h : xs1 O f d A U H) (hq : ∀ a : Nat, a < H.size → ¬ A a → H1[a]? = H[a]?) : xs1 O f d A U H1 := by
  obtain ⟨c, k, i, fd, a, cell, v, hc, hf, hst, hsta, hcell, hiss, hcls, hlt, hty, hv, ha⟩ := h
  exact ⟨c, k, i, fd, a, cell, v, hc, hf, hst, hsta, by rw [hq a (Array.getElem?_eq_some_iff.mp hcell).1 ha]; exact hcell, hiss, hcls, hlt, hty, hv, ha⟩
theorem xs1.narrow {O f d : String} {A B : Nat → Prop} {U : State} {H : Heap} (h : xs1 O f d A U H) (hAB : ∀ q, B q → A q) : xs1 O f d B U H := by
  obtain ⟨c, k, i, fd, a, cell, v, hc, hf, hst, hsta, hcell, hiss, hcls, hlt, hty, hv, ha⟩ := h
  exact ⟨c, k, i, fd, a, cell, v, hc, hf, hst, hsta, hcell, hiss, hcls, hlt, hty, hv, fun z => ha (hAB a z)⟩
/-- the two statics that Throwable's constructor reads -/
def xs (A : Nat → Prop) (U : State) (H : Heap) : Prop := xs1 "java/lang/Throwable" "UNASSIGNED_STACK" "[Ljava/lang/StackTraceElement;" A U H ∧ xs1 "java/lang/Throwable" "SUPPRESSED_SENTINEL" "Ljava/util/List;" A U H
theorem xs.moved {A : Nat → Prop} {u U : State} {H : Heap} (hvm : u.vm.Alike U.vm) (h : xs A u H) : xs A U H := ⟨h.1.moved hvm, h.2.moved hvm⟩
theorem xs.kept {A : Nat → Prop} {U : State} {H H1 : Heap} (h : xs A U H) (hq : ∀ a : Nat, a < H.size → ¬ A a → H1[a]? = H[a]?) : xs A U H1 := ⟨h.1.kept hq, h.2.kept hq⟩
theorem xs.narrow {A B : Nat → Prop} {U : State} {H : Heap} (h : xs A U H) (hAB : ∀ q, B q → A q) : xs B U H := ⟨h.1.narrow hAB, h.2.narrow hAB⟩
abbrev noA : Nat → Prop := fun _ => False
abbrev sIAE : String := "java/lang/IllegalArgumentException"
abbrev sISE : String := "java/lang/IllegalStateException"
theorem dec_of {args : Array Value} {s : State} {x : MethodName} {bytes : ByteArray} {n : Nat} {ret : Option FieldType} (hi : (Cond.instanceMethod x).before args s = true) (hc : (Cond.code x bytes n ret).before args s = true) : (Cond.declares x).before args s = true := by
  obtain ⟨m, meth, hn, hm, hst, -⟩ := Cond.instanceMethod_spec hi
  obtain ⟨meth', c, hm', -, -, -, -, -, -, hsig⟩ := Cond.code_spec hn hc
  cases hm.symm.trans hm'
  simp [Cond.before, Cond.holds, Cond.value, hn, hm, hst, hsig]
theorem asg_self (vm : Vm) (c : ClassId) : vm.assignable c c = true := by
  show vm.assignableAux (255 + 1) c c = true
  rw [Vm.assignableAux]
  simp
theorem cst_of {args : Array Value} {s : State} {X : String} {n : Nat} (hi : (Cond.instantiable X n).before args s = true) : (Cond.castable X X).before args s = true := by
  obtain ⟨c, k, hc, -⟩ := Cond.instantiable_spec hi
  simp [Cond.before, Cond.holds, Cond.value, hc, asg_self]
set_option maxRecDepth 20000 in
theorem oa_iae {args : Array Value} {s : State} {A : Nat → Prop} (hg : ∀ w ∈ gws, w.before args s = true) (hs : xs A s s.heap) : ∀ a ∈ Bundle.ownAtoms0 "ShareDesk" 25 sIAE ["java/lang/RuntimeException", "java/lang/Exception"], a.before args s = true := by
  unfold Bundle.ownAtoms0
  refine List.forall_mem_append.mpr ⟨List.forall_mem_append.mpr ⟨?_, ?_⟩, ?_⟩
  · unfold Bundle.throwableAtoms
    exact (List.forall_mem_cons.mpr ⟨hg _ k_3, (List.forall_mem_cons.mpr ⟨hg _ k_67, (List.forall_mem_cons.mpr ⟨hg _ k_76, (List.forall_mem_cons.mpr ⟨hg _ k_79, (List.forall_mem_cons.mpr ⟨hg _ k_82, (List.forall_mem_cons.mpr ⟨hg _ k_84, (List.forall_mem_cons.mpr ⟨hg _ k_68, (List.forall_mem_cons.mpr ⟨hg _ k_69, (List.forall_mem_cons.mpr ⟨hg _ k_15, (List.forall_mem_cons.mpr ⟨hg _ k_16, (List.forall_mem_cons.mpr ⟨hg _ k_70, (List.forall_mem_cons.mpr ⟨hg _ k_75, (List.forall_mem_cons.mpr ⟨hg _ k_80, (List.forall_mem_cons.mpr ⟨hg _ k_96, (List.forall_mem_cons.mpr ⟨hg _ k_57, (List.forall_mem_cons.mpr ⟨hg _ k_97, (List.forall_mem_cons.mpr ⟨hg _ k_59, (List.forall_mem_cons.mpr ⟨hg _ k_98, (List.forall_mem_cons.mpr ⟨hg _ k_61, (List.forall_mem_cons.mpr ⟨hg _ k_71, (List.forall_mem_cons.mpr ⟨hs.1.lays, (List.forall_mem_cons.mpr ⟨hg _ k_73, (List.forall_mem_cons.mpr ⟨hs.2.lays, (List.forall_mem_cons.mpr ⟨hg _ k_63, (fun _ h => absurd h List.not_mem_nil)⟩)⟩)⟩)⟩)⟩)⟩)⟩)⟩)⟩)⟩)⟩)⟩)⟩)⟩)⟩)⟩)⟩)⟩)⟩)⟩)⟩)⟩)⟩)⟩)
  · unfold Bundle.chain0Atoms
    refine List.forall_mem_append.mpr ⟨?_, ?_⟩
    · unfold Bundle.passAtoms
      exact (List.forall_mem_cons.mpr ⟨hg _ k_86, (List.forall_mem_cons.mpr ⟨hg _ k_87, (List.forall_mem_cons.mpr ⟨hg _ k_88, (List.forall_mem_cons.mpr ⟨hg _ k_89, (List.forall_mem_cons.mpr ⟨dec_of (hg _ k_89) (hg _ k_90), (fun _ h => absurd h List.not_mem_nil)⟩)⟩)⟩)⟩)⟩)
    · unfold Bundle.chain0Atoms
      refine List.forall_mem_append.mpr ⟨?_, ?_⟩
      · unfold Bundle.passAtoms
        exact (List.forall_mem_cons.mpr ⟨hg _ k_89, (List.forall_mem_cons.mpr ⟨hg _ k_90, (List.forall_mem_cons.mpr ⟨hg _ k_91, (List.forall_mem_cons.mpr ⟨hg _ k_92, (List.forall_mem_cons.mpr ⟨dec_of (hg _ k_92) (hg _ k_93), (fun _ h => absurd h List.not_mem_nil)⟩)⟩)⟩)⟩)⟩)
      · unfold Bundle.chain0Atoms Bundle.passAtoms
        exact (List.forall_mem_cons.mpr ⟨hg _ k_92, (List.forall_mem_cons.mpr ⟨hg _ k_93, (List.forall_mem_cons.mpr ⟨hg _ k_94, (List.forall_mem_cons.mpr ⟨hg _ k_68, (List.forall_mem_cons.mpr ⟨dec_of (hg _ k_68) (hg _ k_69), (fun _ h => absurd h List.not_mem_nil)⟩)⟩)⟩)⟩)⟩)
  · exact (List.forall_mem_cons.mpr ⟨hg _ k_85, (List.forall_mem_cons.mpr ⟨hg _ k_46, (List.forall_mem_cons.mpr ⟨cst_of (hg _ k_46), (List.forall_mem_cons.mpr ⟨hg _ k_54, (List.forall_mem_cons.mpr ⟨hg _ k_55, (List.forall_mem_cons.mpr ⟨hg _ k_56, (List.forall_mem_cons.mpr ⟨hg _ k_58, (List.forall_mem_cons.mpr ⟨hg _ k_60, (List.forall_mem_cons.mpr ⟨hg _ k_62, (List.forall_mem_cons.mpr ⟨hs.1.isr, (List.forall_mem_cons.mpr ⟨hs.2.isr, (List.forall_mem_cons.mpr ⟨hg _ k_66, (List.forall_mem_cons.mpr ⟨hg _ k_65, (List.forall_mem_cons.mpr ⟨hg _ k_64, (fun _ h => absurd h List.not_mem_nil)⟩)⟩)⟩)⟩)⟩)⟩)⟩)⟩)⟩)⟩)⟩)⟩)⟩)⟩)
set_option maxRecDepth 20000 in
theorem oa_ise {args : Array Value} {s : State} {A : Nat → Prop} (hg : ∀ w ∈ gws, w.before args s = true) (hs : xs A s s.heap) : ∀ a ∈ Bundle.ownAtoms0 "ShareDesk" 40 sISE ["java/lang/RuntimeException", "java/lang/Exception"], a.before args s = true := by
  unfold Bundle.ownAtoms0
  refine List.forall_mem_append.mpr ⟨List.forall_mem_append.mpr ⟨?_, ?_⟩, ?_⟩
  · unfold Bundle.throwableAtoms
    exact (List.forall_mem_cons.mpr ⟨hg _ k_3, (List.forall_mem_cons.mpr ⟨hg _ k_67, (List.forall_mem_cons.mpr ⟨hg _ k_76, (List.forall_mem_cons.mpr ⟨hg _ k_79, (List.forall_mem_cons.mpr ⟨hg _ k_82, (List.forall_mem_cons.mpr ⟨hg _ k_84, (List.forall_mem_cons.mpr ⟨hg _ k_68, (List.forall_mem_cons.mpr ⟨hg _ k_69, (List.forall_mem_cons.mpr ⟨hg _ k_15, (List.forall_mem_cons.mpr ⟨hg _ k_16, (List.forall_mem_cons.mpr ⟨hg _ k_70, (List.forall_mem_cons.mpr ⟨hg _ k_75, (List.forall_mem_cons.mpr ⟨hg _ k_80, (List.forall_mem_cons.mpr ⟨hg _ k_96, (List.forall_mem_cons.mpr ⟨hg _ k_57, (List.forall_mem_cons.mpr ⟨hg _ k_97, (List.forall_mem_cons.mpr ⟨hg _ k_59, (List.forall_mem_cons.mpr ⟨hg _ k_98, (List.forall_mem_cons.mpr ⟨hg _ k_61, (List.forall_mem_cons.mpr ⟨hg _ k_71, (List.forall_mem_cons.mpr ⟨hs.1.lays, (List.forall_mem_cons.mpr ⟨hg _ k_73, (List.forall_mem_cons.mpr ⟨hs.2.lays, (List.forall_mem_cons.mpr ⟨hg _ k_63, (fun _ h => absurd h List.not_mem_nil)⟩)⟩)⟩)⟩)⟩)⟩)⟩)⟩)⟩)⟩)⟩)⟩)⟩)⟩)⟩)⟩)⟩)⟩)⟩)⟩)⟩)⟩)⟩)⟩)
  · unfold Bundle.chain0Atoms
    refine List.forall_mem_append.mpr ⟨?_, ?_⟩
    · unfold Bundle.passAtoms
      exact (List.forall_mem_cons.mpr ⟨hg _ k_141, (List.forall_mem_cons.mpr ⟨hg _ k_142, (List.forall_mem_cons.mpr ⟨hg _ k_143, (List.forall_mem_cons.mpr ⟨hg _ k_89, (List.forall_mem_cons.mpr ⟨dec_of (hg _ k_89) (hg _ k_90), (fun _ h => absurd h List.not_mem_nil)⟩)⟩)⟩)⟩)⟩)
    · unfold Bundle.chain0Atoms
      refine List.forall_mem_append.mpr ⟨?_, ?_⟩
      · unfold Bundle.passAtoms
        exact (List.forall_mem_cons.mpr ⟨hg _ k_89, (List.forall_mem_cons.mpr ⟨hg _ k_90, (List.forall_mem_cons.mpr ⟨hg _ k_91, (List.forall_mem_cons.mpr ⟨hg _ k_92, (List.forall_mem_cons.mpr ⟨dec_of (hg _ k_92) (hg _ k_93), (fun _ h => absurd h List.not_mem_nil)⟩)⟩)⟩)⟩)⟩)
      · unfold Bundle.chain0Atoms Bundle.passAtoms
        exact (List.forall_mem_cons.mpr ⟨hg _ k_92, (List.forall_mem_cons.mpr ⟨hg _ k_93, (List.forall_mem_cons.mpr ⟨hg _ k_94, (List.forall_mem_cons.mpr ⟨hg _ k_68, (List.forall_mem_cons.mpr ⟨dec_of (hg _ k_68) (hg _ k_69), (fun _ h => absurd h List.not_mem_nil)⟩)⟩)⟩)⟩)⟩)
  · exact (List.forall_mem_cons.mpr ⟨hg _ k_140, (List.forall_mem_cons.mpr ⟨hg _ k_132, (List.forall_mem_cons.mpr ⟨cst_of (hg _ k_132), (List.forall_mem_cons.mpr ⟨hg _ k_134, (List.forall_mem_cons.mpr ⟨hg _ k_78, (List.forall_mem_cons.mpr ⟨hg _ k_135, (List.forall_mem_cons.mpr ⟨hg _ k_136, (List.forall_mem_cons.mpr ⟨hg _ k_137, (List.forall_mem_cons.mpr ⟨hg _ k_138, (List.forall_mem_cons.mpr ⟨hs.1.isr, (List.forall_mem_cons.mpr ⟨hs.2.isr, (List.forall_mem_cons.mpr ⟨hg _ k_66, (List.forall_mem_cons.mpr ⟨hg _ k_65, (List.forall_mem_cons.mpr ⟨hg _ k_139, (fun _ h => absurd h List.not_mem_nil)⟩)⟩)⟩)⟩)⟩)⟩)⟩)⟩)⟩)⟩)⟩)⟩)⟩)⟩)
/-- how a throwing method ends: an object of class C, new; no old cell changed -/
def QT (C : String) (st : State) (o : Outcome) (t : State) : Prop := ∃ (x : Nat) (cell : Cell), o = .threw x ∧ t.heap[x]? = some cell ∧ cell.vm.isStatics = false ∧ st.vm.findClass C = some cell.cls ∧ st.heap.size ≤ t.heap.size ∧ ∀ q : Nat, q < st.heap.size → t.heap[q]? = st.heap[q]?
def MetT (l : Launch) (y : MethodName) (ws : List Cond) (rm : Room) (Pc : Array Value → State → Prop) (C : String) : Prop :=
  MetFree l y (headSpec ws rm) Pc (fun _ _ _ _ _ => True) (fun _ st o t => QT C st o t ∧ st.WarmedH t.vm ∧ st.sameButNew ({ t with vm := st.vm } : State) [] 1 6)
def TQ (below : List Frame) (C : String) (s : State) : State → Prop := fun t => ∃ o, t.status = .running ∧ Ended t below o ∧ QT C s o t ∧ s.WarmedH t.vm ∧ s.sameButNew ({ t with vm := s.vm } : State) [] 1 6
theorem MetT.ofW {l : Launch} {y : MethodName} {ws ws' : List Cond} {rm : Room} {Pc : Array Value → State → Prop} {C : String} {cc : ByteArray} {maxL : Nat} {ret : Option FieldType}
    (hy : plainName y.cls = true) (hw : ws = Cond.code y cc maxL ret :: ws')
    (body : ∀ p e s m args below meth c s₁, BodyLoose p l y (headSpec ws rm) cc maxL ret e s m args below meth c s₁ → c.maxLocals = maxL → Pc args s →
      W p l e (headSpec ws rm).room s m args below meth c s.heap [] 0 0 (TQ below C s) (entryFrame m args maxL)) : MetT l y ws rm Pc C := by
  refine MetFree.of_bodyS (code := cc) (maxLocals := maxL) (ret := ret) hy ?_ ?_
  · intro args s m h hn
    obtain ⟨meth, c, h1, h2, h3, h4, h5, h6, -, -⟩ := Cond.code_spec hn (atoms_spec (ws := ws) h _ (by rw [hw]; exact List.mem_cons_self))
    exact ⟨meth, c, h1, h2, h3, h4, h5, h6⟩
  · intro p e s m args below meth c s₁ B hml hP _
    have hh0 : s₁.heap = s.heap := by rw [B.state]; rfl
    obtain ⟨t, a1, o, b1, b2, b3⟩ := body p e s m args below meth c s₁ B hml hP s₁ hh0 (Stand.of_body B)
    exact ⟨t, o, a1, b1, b2, b3⟩
theorem old_same {s t : State} {k n : Nat} (h : s.sameButNew ({ t with vm := s.vm } : State) [] k n) : s.heap.size ≤ t.heap.size ∧ ∀ q : Nat, q < s.heap.size → t.heap[q]? = s.heap[q]? := by
  obtain ⟨-, h1, -, -, -, h2⟩ := h
  refine ⟨h1, fun q hq => ?_⟩
  obtain ⟨c', e1, e2, e3, e4⟩ := h2 q s.heap[q] (Array.getElem?_eq_getElem hq)
  have e5 : c'.slots = s.heap[q].slots := by
    apply Array.ext_getElem?
    intro i
    exact e4 i (by simp)
  rw [Array.getElem?_eq_getElem hq]
  refine Eq.trans e1 ?_
  rw [e2, e5]
section XT
variable {p : Program} {l : Launch} {e : Env} {R : Room} {s : State} {m : MethodId} {args : Array Value} {below : List Frame} {meth : Method} {c : Code} {H : Heap} {locs : List Loc} {cells slots : Nat} {Q : State → Prop}
variable {cc : ByteArray} {pc : Nat} {ls : Array Slot} {rest st0 : List Value} {D : va_G} {A : Nat → Prop} {tys : List (ClassId × FieldType)} {ws wc wr : va_W} {H0 : Heap}
variable {y : MethodName} {bytes : ByteArray} {maxL nL mc ms index : Nat} {ret : Option FieldType} {rm : Room} {own C : String} {b : Nat} {As : List Value}
/-- new X; dup; X.<init>(); athrow: the walk from 'new' on -/
theorem thr_new (hx : p.tables.exec = Jvm.exec) (hb : c.code = cc) (htr : l.stackTraces = false) (hown : s.vm.findClass own = some m.cls) {X0 : String} {idx ic : Nat} (hlocks : meth.locks = false) (hno : c.exceptionTable.isEmpty = true)
    (hcl : (Cond.classLink own idx X0).before args s = true) (hinst : (Cond.instantiable X0 6).before args s = true) (hini : (Cond.initialized X0).before args s = true) (hfit : Bundle.fit X0 = true)
    (hat : ∀ a ∈ Bundle.ownAtoms0 own ic X0 ["java/lang/RuntimeException", "java/lang/Exception"], a.before args s = true)
    (hls : ls.size = c.maxLocals) (hR : 5 < R.frames ∧ 200 ≤ R.locals ∧ 1 ≤ R.cells ∧ 6 ≤ R.slots)
    (d0 : decode cc pc = .ok (.new idx, 3)) (d1 : decode cc (pc + 3) = .ok (.dup, 1)) (d2 : decode cc (pc + 4) = .ok (.invokespecial ic, 3)) (d3 : decode cc (pc + 7) = .ok (.athrow, 1)) :
    W p l e R s m args below meth c s.heap [] 0 0 (TQ below X0 s) (F0 m pc ls []) := by
  subst hb
  have hout : ∀ x ∈ c.exceptionTable.toList, covers x (pc + 4 + 3) = false := by
    have h0 : c.exceptionTable.size = 0 := by simpa [Array.isEmpty] using hno
    have h1 : c.exceptionTable.toList = [] := List.eq_nil_of_length_eq_zero (by simpa using h0)
    intro y hy
    rw [h1] at hy
    cases hy
  refine W.newc hx rfl hown hcl hinst hini (g := F0 m pc ls []) rfl d0 (by omega) (by omega) (fun cC kC h1 h2 h3 h4 => ?_)
  refine W.eq (g2 := F0 m (pc + 3) ls [.ref s.heap.size]) rfl ?_
  refine lv_dup hx rfl d1 rfl ?_
  intro T hT X
  have htr' : e.platform.stackTraces = false := by rw [X.admits.platform]; exact htr
  have hc : T.heap[s.heap.size]? = some (freshCell cC kC) := by rw [hT]; simp
  obtain ⟨U, st, hrun, hend, hW, hsame, ce, hce, hown'⟩ := X.ctorThrow0 hx htr' (own := own) (cls := X0) (names := ["java/lang/RuntimeException", "java/lang/Exception"]) (ic := ic) hown hfit (by decide +kernel) hat (fun x h => by cases h) h1 h2 hc (Nat.le_refl _)
    (g := F0 m (pc + 4) ls [.ref s.heap.size, .ref s.heap.size]) rfl hls rfl rfl (rest := []) rfl d2 d3 hout (by show 2 + 3 < R.frames; omega) (by simp [JFrame.monitorRoom, Value.category]; omega) hlocks
  obtain ⟨o1, o2⟩ := old_same hsame
  exact ⟨U, st, .threw s.heap.size, hrun, hend, ⟨s.heap.size, ce, rfl, hce, by rw [hown'.vm]; rfl, hown'.cls, o1, o2⟩, hW, hsame⟩
/-- a call whose callee throws: the note lies over the caller's frame -/
theorem thr_core {T : State} {Pc : Array Value → State → Prop} (X : Stand p l e R s m args below meth c T locs cells slots) (hM : MetT l y (.code y bytes maxL ret :: gws) rm Pc C) {g : JFrame} (hgm : g.method = m) (hsize : g.locals.size = c.maxLocals) {ig : Instr} {len : Nat} (hdg : decode c.code g.pc = .ok (ig, len)) (hW : 2 * g.monitorRoom + (g.stack.map fun v => v.category).sum ≤ 8)
    {mk : MethodId} {a : Array Value} (hn : T.methodNamed? y = some mk) (hws : ∀ w ∈ (Cond.code y bytes maxL ret :: gws), w.before a T = true) (hini : (Cond.initialized y.cls).before a T = true) (hPc : Pc a (T.calling g mk a))
    (hR : rm.frames + 1 ≤ R.frames ∧ 8 + (maxL + 11) + rm.locals ≤ R.locals ∧ cells + rm.cells ≤ R.cells ∧ slots + rm.slots ≤ R.slots) :
    ∃ (x : Nat) (cell : Cell) (T' : State), Stand p l e R s m args below meth c T' (locs ++ []) (cells + 1) (slots + 6) ∧ T'.heap[x]? = some cell ∧ cell.vm.isStatics = false ∧ T.vm.findClass C = some cell.cls ∧ T.heap.size ≤ T'.heap.size ∧ (∀ q : Nat, q < T.heap.size → T'.heap[q]? = T.heap[q]?) ∧
      Steps p.tables e below (doInvoke e (T.setTop g) [] mk a).1 ((T'.setTop g).pushFrame (.throwing x)) := by
  obtain ⟨methY, cY, hmY, hcY, -, hlY, -⟩ := Cond.code_spec hn (hws _ List.mem_cons_self)
  obtain ⟨kY, hkY, -⟩ := className_of_methodNamed hn
  have hinitY : kY.init = .initialized := Cond.initialized_spec (findClass_of_methodNamed hn) hkY hini
  have h : At T g.method c below := by rw [hgm]; exact X.here
  have happ : (headSpec (Cond.code y bytes maxL ret :: gws) rm).appliesLoose y e.platform (T.calling g mk a) = true :=
    Spec.appliesLoose_calling (g := g) h hdg hn hkY hinitY
      (X.room_calling (g := g) (R' := rm) hsize hmY hcY hR.1 (by rw [hlY]; omega) hR.2.2.1 hR.2.2.2) (atoms_intro hws)
  obtain ⟨mid, hmid⟩ := h.above
  have hfr : (T.setTop g).frames = (.java g :: mid) ++ below := by rw [State.frames_setTop' g h.top, hmid]; rfl
  obtain ⟨o, s₂, hsteps, -, hend, hq⟩ := Steps.callFree hM p X.admits X.cas X.clock (acts := []) hfr happ hPc trivial
  rw [State.frames_setTop' g h.top, X.tail] at hend
  obtain ⟨⟨x, cell, rfl, q1, q2, q3, q4, q5⟩, hWm, hsame⟩ := hq
  obtain ⟨T', X', hW', hsm, ht⟩ := X.outOfThrown hgm (mk := mk) (a := a) hend hWm hsame
  have hh : s₂.heap = T'.heap := by rw [ht]; exact Stand.throwing_heap T' g x
  refine ⟨x, cell, T', X', by rw [← hh]; exact q1, q2, q3, by rw [← hh]; exact q4, fun q hq => by rw [← hh]; exact q5 q hq, ?_⟩
  rw [← ht]
  exact hsteps
/-- from an invokevirtual whose callee throws to the note over the caller's frame -/
theorem thr_V {T : State} {B : State → Prop} (X : Stand p l e R s m args below meth c T locs cells slots) (hx : p.tables.exec = Jvm.exec) (hb : c.code = cc) (hml : c.maxLocals = nL) (hown : s.vm.findClass own = some m.cls) (hg : ∀ w ∈ gws, w.before args s = true) {Cr : String}
    (hM : MetT l y (.code y bytes maxL ret :: gws) rm (va_Pc (.ref b :: As) B) C) (ks : kV own Cr index y (.code y bytes maxL ret)) (hd : kN Cr y As.length) (hR : rm.frames + 1 ≤ R.frames ∧ 8 + (maxL + 11) + rm.locals ≤ R.locals ∧ cells + rm.cells ≤ R.cells ∧ slots + rm.slots ≤ R.slots)
    (hbl : FrameBlind (va_Pc (.ref b :: As) B)) (hpre : ∀ U : State, U.heap = T.heap → s.WarmedH U.vm → B U) (hrecv : ∃ cellB : Cell, T.heap[b]? = some cellB ∧ cellB.vm.isStatics = false ∧ s.vm.findClass Cr = some cellB.cls)
    (hls : ls.size = nL) (hst : st0 = As.reverse ++ .ref b :: rest) (hW : (rest.map fun v => v.category).sum ≤ 8) (hdg : decode cc pc = .ok (.invokevirtual index, 3)) :
    ∃ (x : Nat) (cell : Cell) (T' : State), Stand p l e R s m args below meth c T' (locs ++ []) (cells + 1) (slots + 6) ∧ T'.heap[x]? = some cell ∧ cell.vm.isStatics = false ∧ s.vm.findClass C = some cell.cls ∧ T.heap.size ≤ T'.heap.size ∧ (∀ q : Nat, q < T.heap.size → T'.heap[q]? = T.heap[q]?) ∧
      Steps p.tables e below (T.setTop (F0 m pc ls st0)) ((T'.setTop (F0 m pc ls rest)).pushFrame (.throwing x)) := by
  subst hb
  obtain ⟨k1, k2, k3, k4, k5⟩ := ks
  obtain ⟨hC, hy1, hy2, hlen⟩ := hd
  obtain ⟨cellB, hcell, hobj, hcls⟩ := hrecv
  obtain ⟨mk, methM, hnamed, hmethM, hstM, habM⟩ := Cond.instanceMethod_spec (hg _ k2)
  obtain ⟨methM', cM, hmethM', -, -, -, -, -, -, hsigM⟩ := Cond.code_spec hnamed (hg _ k5)
  cases hmethM.symm.trans hmethM'
  obtain ⟨c2, r2, m2, q1, q2, q3, q4, kP, hkP, hkPi⟩ := Cond.selects_spec (hg _ k3)
  cases hcls.symm.trans q1
  cases (State.methodFound?_of_named hnamed ⟨hy1, hy2⟩).symm.trans q2
  cases hnamed.symm.trans q3
  have hselP : selectMethod e.platform s.vm cellB.cls mk = .method mk := by rw [Launch.admits_selectMethod X.admits]; exact q4
  rw [hsigM] at hlen
  obtain ⟨vm₁, X₁, hstep₁⟩ := X.invokevirtual hx hown (hg _ k1) hnamed hmethM hstM hkP hkPi ⟨hy1, hy2⟩ (a := b) (cell := cellB) hcell
    (fun z h => by rw [h] at hobj; cases hobj) hselP hmethM habM hkP hkPi (g := F0 m pc ls st0) rfl (argsL := As) (rest := rest) (Option.some.inj hlen).symm hst hdg
  obtain ⟨x, cell, T', X', a1, a2, a3, a4, a5, a6⟩ := thr_core X₁ hM (g := F0 m pc ls rest) rfl (hls.trans hml.symm) hdg (lv_room hW) (X₁.named hnamed) (a := (Value.ref b :: As).toArray)
    (fun w hw => pay_in hg (gw_all k5) w hw _ _ X₁.warmed) (pay_in hg (gw_all k4) _ List.mem_cons_self _ _ X₁.warmed |> fun h => by rw [hC]; exact h) (hbl _ _ _ _ ⟨rfl, hpre _ rfl X₁.warmed⟩) hR
  refine ⟨x, cell, T', X', a1, a2, by rw [← X₁.warmed.alike.findClass]; exact a3, a4, a5, ?_⟩
  exact hstep₁ _ (fun acts => by rw [doInvoke_state]; exact a6)
theorem thr_S {T : State} {B : State → Prop} (X : Stand p l e R s m args below meth c T locs cells slots) (hx : p.tables.exec = Jvm.exec) (hb : c.code = cc) (hml : c.maxLocals = nL) (hown : s.vm.findClass own = some m.cls) (hg : ∀ w ∈ gws, w.before args s = true)
    (hM : MetT l y (.code y bytes maxL ret :: gws) rm (va_Pc As B) C) (ks : kS own index y (.code y bytes maxL ret)) (hd : kN own y As.length) (hR : rm.frames + 1 ≤ R.frames ∧ 8 + (maxL + 11) + rm.locals ≤ R.locals ∧ cells + rm.cells ≤ R.cells ∧ slots + rm.slots ≤ R.slots)
    (hbl : FrameBlind (va_Pc As B)) (hpre : ∀ U : State, U.heap = T.heap → s.WarmedH U.vm → B U)
    (hls : ls.size = nL) (hst : st0 = As.reverse ++ rest) (hW : (rest.map fun v => v.category).sum ≤ 8) (hdg : decode cc pc = .ok (.invokestatic index, 3)) :
    ∃ (x : Nat) (cell : Cell) (T' : State), Stand p l e R s m args below meth c T' (locs ++ []) (cells + 1) (slots + 6) ∧ T'.heap[x]? = some cell ∧ cell.vm.isStatics = false ∧ s.vm.findClass C = some cell.cls ∧ T.heap.size ≤ T'.heap.size ∧ (∀ q : Nat, q < T.heap.size → T'.heap[q]? = T.heap[q]?) ∧
      Steps p.tables e below (T.setTop (F0 m pc ls st0)) ((T'.setTop (F0 m pc ls rest)).pushFrame (.throwing x)) := by
  subst hb
  obtain ⟨k1, k2, k4, k5⟩ := ks
  obtain ⟨hC, hy1, hy2, hlen⟩ := hd
  obtain ⟨mk, hnamed⟩ := Cond.code_named (hg _ k5)
  obtain ⟨methM, cM, hmethM, -, -, -, -, -, -, hsigM⟩ := Cond.code_spec hnamed (hg _ k5)
  have hstatic : methM.isStatic = true := Cond.static_spec hnamed hmethM (hg _ k2)
  obtain ⟨kP, hkP, -⟩ := className_of_methodNamed hnamed
  have hinitP : kP.init = .initialized := Cond.initialized_spec (findClass_of_methodNamed hnamed) hkP (by rw [hC]; exact hg _ k4)
  rw [hsigM] at hlen
  obtain ⟨vm₁, X₁, hstep₁⟩ := X.invokestatic hx hown (hg _ k1) hnamed hmethM hstatic hkP hinitP ⟨hy1, hy2⟩ (g := F0 m pc ls st0) rfl (argsL := As) (rest := rest) (Option.some.inj hlen).symm hst hdg
  obtain ⟨x, cell, T', X', a1, a2, a3, a4, a5, a6⟩ := thr_core X₁ hM (g := F0 m pc ls rest) rfl (hls.trans hml.symm) hdg (lv_room hW) (X₁.named hnamed) (a := As.toArray)
    (fun w hw => pay_in hg (gw_all k5) w hw _ _ X₁.warmed) (pay_in hg (gw_all k4) _ List.mem_cons_self _ _ X₁.warmed |> fun h => by rw [hC]; exact h) (hbl _ _ _ _ ⟨rfl, hpre _ rfl X₁.warmed⟩) hR
  refine ⟨x, cell, T', X', a1, a2, by rw [← X₁.warmed.alike.findClass]; exact a3, a4, a5, ?_⟩
  exact hstep₁ _ (fun acts => by rw [doInvoke_state]; exact a6)
theorem out_none (hno : c.exceptionTable.isEmpty = true) (k : Nat) : ∀ x ∈ c.exceptionTable.toList, covers x k = false := by
  have h0 : c.exceptionTable.size = 0 := by simpa [Array.isEmpty] using hno
  have h1 : c.exceptionTable.toList = [] := List.eq_nil_of_length_eq_zero (by simpa using h0)
  intro y hy
  rw [h1] at hy
  cases hy
/-- .. and the caller has no handler: it throws too -/
theorem tv_leave {B : State → Prop} (hx : p.tables.exec = Jvm.exec) (hb : c.code = cc) (hml : c.maxLocals = nL) (hown : s.vm.findClass own = some m.cls) (hg : ∀ w ∈ gws, w.before args s = true) {Cr : String}
    (hM : MetT l y (.code y bytes maxL ret :: gws) rm (va_Pc (.ref b :: As) B) C) (ks : kV own Cr index y (.code y bytes maxL ret)) (hd : kN Cr y As.length) (hR : rm.frames + 1 ≤ R.frames ∧ 8 + (maxL + 11) + rm.locals ≤ R.locals ∧ 0 + rm.cells ≤ R.cells ∧ 0 + rm.slots ≤ R.slots)
    (hbl : FrameBlind (va_Pc (.ref b :: As) B)) (hpre : ∀ U : State, U.heap = s.heap → s.WarmedH U.vm → B U) (hrecv : ∃ cellB : Cell, s.heap[b]? = some cellB ∧ cellB.vm.isStatics = false ∧ s.vm.findClass Cr = some cellB.cls)
    (hls : ls.size = nL) (hst : st0 = As.reverse ++ .ref b :: rest) (hW : (rest.map fun v => v.category).sum ≤ 8) (hdg : decode cc pc = .ok (.invokevirtual index, 3)) (hlocks : meth.locks = false) (hno : c.exceptionTable.isEmpty = true) :
    W p l e R s m args below meth c s.heap [] 0 0 (TQ below C s) (F0 m pc ls st0) := by
  intro T hT X
  obtain ⟨x, cell, T', X', a1, a2, a3, a4, a5, a6⟩ := thr_V X hx hb hml hown hg hM ks hd hR hbl (by rw [hT]; exact hpre) (by rw [hT]; exact hrecv) hls hst hW hdg
  obtain ⟨b1, b2, b3, b4, b5⟩ := X'.leaveThrown x (g := F0 m pc ls rest) rfl rfl rfl (out_none hno pc) hlocks
  rw [hT] at a4 a5
  exact ⟨_, a6.trans b1, .threw x, b2, b3, ⟨x, cell, rfl, a1, a2, a3, a4, a5⟩, b4, b5⟩
theorem ts_leave {B : State → Prop} (hx : p.tables.exec = Jvm.exec) (hb : c.code = cc) (hml : c.maxLocals = nL) (hown : s.vm.findClass own = some m.cls) (hg : ∀ w ∈ gws, w.before args s = true)
    (hM : MetT l y (.code y bytes maxL ret :: gws) rm (va_Pc As B) C) (ks : kS own index y (.code y bytes maxL ret)) (hd : kN own y As.length) (hR : rm.frames + 1 ≤ R.frames ∧ 8 + (maxL + 11) + rm.locals ≤ R.locals ∧ 0 + rm.cells ≤ R.cells ∧ 0 + rm.slots ≤ R.slots)
    (hbl : FrameBlind (va_Pc As B)) (hpre : ∀ U : State, U.heap = s.heap → s.WarmedH U.vm → B U)
    (hls : ls.size = nL) (hst : st0 = As.reverse ++ rest) (hW : (rest.map fun v => v.category).sum ≤ 8) (hdg : decode cc pc = .ok (.invokestatic index, 3)) (hlocks : meth.locks = false) (hno : c.exceptionTable.isEmpty = true) :
    W p l e R s m args below meth c s.heap [] 0 0 (TQ below C s) (F0 m pc ls st0) := by
  intro T hT X
  obtain ⟨x, cell, T', X', a1, a2, a3, a4, a5, a6⟩ := thr_S X hx hb hml hown hg hM ks hd hR hbl (by rw [hT]; exact hpre) hls hst hW hdg
  obtain ⟨b1, b2, b3, b4, b5⟩ := X'.leaveThrown x (g := F0 m pc ls rest) rfl rfl rfl (out_none hno pc) hlocks
  rw [hT] at a4 a5
  exact ⟨_, a6.trans b1, .threw x, b2, b3, ⟨x, cell, rfl, a1, a2, a3, a4, a5⟩, b4, b5⟩
end XT
end
section
/-! my own rows: catching; static calls of methods with a handler table -/
theorem fh_step {Q : Handler → Pre} {E : CtlPost} {e : Env} {d : Bool} {acts : List Action} {s : State} {f : JFrame} {a : Addr} {x : ExceptionTableEntry} {t : List ExceptionTableEntry} {c : ClassId} {cell : Cell} (hx : covers x f.pc = true) (h0 : x.catchType ≠ 0)
    (hl : s.vm.ClassLinks e.platform f.method.cls x.catchType c) (hcell : s.heap[a]? = some cell) (hobj : cell.vm.isStatics = false) (hk : ∃ k, s.vm.classes[cell.cls]? = some k) (hc : ∃ k, s.vm.classes[c]? = some k) :
    wp (findHandler.go f a (x :: t)) Q E e d acts s ↔ (if s.vm.assignable cell.cls c = true then Q (.found x.handlerPc) d acts (s.setVm (s.vm.noted f.method.cls x.catchType (.cls c)))
      else wp (findHandler.go f a t) Q E e d acts (s.setVm (s.vm.noted f.method.cls x.catchType (.cls c)))) := by
  have hobj' : ∀ k, cell.vm ≠ .statics k := VmData.ne_statics_of hobj
  simp only [covers] at hx
  obtain ⟨g1, g2⟩ := (resolveClass_links e.toSetting hl).op (op := VmOp.resolveClass f.method.cls x.catchType) rfl
  have hal : s.vm.Alike (s.vm.noted f.method.cls x.catchType (.cls c)) := (Vm.Alike.refl s.vm).noted _ _ _
  obtain ⟨k1, hk1⟩ := hk
  obtain ⟨k2, hk2⟩ := hc
  obtain ⟨k1', hk1', -⟩ := hal.2.2 _ _ hk1
  obtain ⟨k2', hk2', -⟩ := hal.2.2 _ _ hk2
  have ha := hal.assignable cell.cls c
  cases hfit : s.vm.assignable cell.cls c <;> rw [hfit] at ha <;> simp [findHandler.go, hx, h0, g1, g2, hcell, hobj', hk1', hk2', ha, VmOp.dirties, VmOp.acts]
theorem fh_both {e : Env} {s S : State} {f : JFrame} {a : Addr} {x : ExceptionTableEntry} {c : ClassId} {cell : Cell} (hW : s.WarmedH S.vm) (hx : covers x f.pc = true) (h0 : x.catchType ≠ 0)
    (hl : s.vm.ClassLinks e.platform f.method.cls x.catchType c) (hcell : S.heap[a]? = some cell) (hobj : cell.vm.isStatics = false) (hk : ∃ k, s.vm.classes[cell.cls]? = some k) (t : List ExceptionTableEntry) :
    ∃ vm', s.WarmedH vm' ∧ ∀ (Q : Handler → Pre) (E : CtlPost) (d : Bool) (acts : List Action), wp (findHandler.go f a (x :: t)) Q E e d acts S ↔ (if s.vm.assignable cell.cls c = true then Q (.found x.handlerPc) d acts (S.setVm vm') else wp (findHandler.go f a t) Q E e d acts (S.setVm vm')) := by
  obtain ⟨k1, hk1⟩ := hk
  obtain ⟨k1', hk1', -⟩ := hW.alike.2.2 _ _ hk1
  obtain ⟨dk, _, _, kt, hd, _, _, _, _, hkt, _, hopen⟩ := hl.here
  obtain ⟨kt', hkt', -⟩ := hW.alike.2.2 _ _ hkt
  refine ⟨_, hW.noted hd hopen (State.rightAt_cls hl), fun Q E d acts => ?_⟩
  rw [fh_step hx h0 (hW.classLinks hl) hcell hobj ⟨k1', hk1'⟩ ⟨kt', hkt'⟩, hW.alike.assignable]
theorem fh_caught {tb : Tables} {e : Env} {s target : State} {g : JFrame} {c : Code} {below : List Frame} {a : Addr} (h : At s g.method c below) {pc : Nat} {vm' : Vm}
    (hfind : ∀ (Q : Handler → Pre) (E : CtlPost) (d : Bool) (acts : List Action), wp (findHandler g a) Q E e d acts ((s.setTop g).pushFrame (.throwing a)) ↔ Q (.found pc) d acts (((s.setTop g).pushFrame (.throwing a)).setVm vm'))
    (hrest : Steps tb e below ((s.setVm vm').setTop { g with pc := pc, stack := [.ref a] }) target) : Steps tb e below ((s.setTop g).pushFrame (.throwing a)) target := by
  obtain ⟨hgo, hw⟩ := h.throwing a
  obtain ⟨g₀, hg⟩ := Option.isSome_iff_exists.mp h.top
  obtain ⟨r, hr⟩ := State.topJava?_eq_some.mp hg
  refine Steps.head hgo hw ?_
  have hstep : (stepThrowing e ((s.setTop g).pushFrame (.throwing a)) a (.java g :: s.frames.tail)).Is ((((s.setTop g).pushFrame (.throwing a)).setVm vm').setFrames (.java { g with pc := pc, stack := [.ref a] } :: s.frames.tail)) [] := by
    simp only [stepThrowing, searchFrame, vmDo]
    generalize hq : Sem.go _ e false [] ((s.setTop g).pushFrame (.throwing a)) = res
    obtain ⟨as, rfl, ha⟩ := Sem.eq_ok_of hq (a := Handler.found pc) (s' := ((s.setTop g).pushFrame (.throwing a)).setVm vm') (acts' := []) (by simp [hfind _ _ _ _])
    exact ⟨rfl, ha⟩
  rw [stepThread_throwing (frames_entered h.top _), hstep.1]
  have e1 : ((((s.setTop g).pushFrame (.throwing a)).setVm vm').setFrames (.java { g with pc := pc, stack := [.ref a] } :: s.frames.tail)) = (s.setVm vm').setTop { g with pc := pc, stack := [.ref a] } := by
    have hr' : (s.setVm vm').frames = .java g₀ :: r := hr
    rw [State.setTop_of_frames _ hr', State.pushFrame, State.setTop_of_frames _ hr, hr, List.tail_cons]
    show (((s.setVm vm').setFrames _).setFrames _).setFrames _ = _
    rw [State.setFrames_setFrames, State.setFrames_setFrames]
  rw [e1]
  exact hrest
/-- the search through the method's table for an object of class C ends at hpc -/
def fh_ok (e : Env) (s : State) (m : MethodId) (c : Code) (C : String) (pc : Nat) (hpc : Nat) : Prop := e.platform.magicAccessors = ({} : Platform).magicAccessors → ∀ (f : JFrame) (S : State) (a : Nat) (cell : Cell), f.method = m → f.pc = pc → s.WarmedH S.vm → S.heap[a]? = some cell → cell.vm.isStatics = false → s.vm.findClass C = some cell.cls →
  ∃ vm', s.WarmedH vm' ∧ ∀ (Q : Handler → Pre) (E : CtlPost) (d : Bool) (acts : List Action), wp (findHandler.go f a c.exceptionTable.toList) Q E e d acts S ↔ Q (.found hpc) d acts (S.setVm vm')
theorem fh_ok1 {e : Env} {s : State} {m : MethodId} {args : Array Value} {c : Code} {C own : String} {pc ct hpc s0 e0 : Nat} {r : List ExceptionTableEntry} (hown : s.vm.findClass own = some m.cls) (htab : c.exceptionTable.toList = ⟨s0, e0, hpc, ct⟩ :: r) (hcov : covers ⟨s0, e0, hpc, ct⟩ pc = true) (h0 : ct ≠ 0)
    (hlink : (Cond.classLink own ct C).before args s = true) : fh_ok e s m c C pc hpc := by
  intro hpl f S a cell hf hp hW hcell hobj hcls
  obtain ⟨c', hc', hl⟩ := Cond.classLink_spec hown hlink e.platform hpl
  cases hcls.symm.trans hc'
  subst hf hp
  rw [htab]
  obtain ⟨vm', hW', hq⟩ := fh_both (x := ⟨s0, e0, hpc, ct⟩) hW hcov h0 hl hcell hobj (Vm.classAt_of_findClass hcls) r
  exact ⟨vm', hW', fun Q E d acts => by rw [hq, if_pos (asg_self _ _)]⟩
theorem fh_ok2 {e : Env} {s : State} {m : MethodId} {args : Array Value} {c : Code} {C N own : String} {pc ct ct1 hpc hp1 s0 e0 s1 e1 : Nat} {r : List ExceptionTableEntry} (hown : s.vm.findClass own = some m.cls) (htab : c.exceptionTable.toList = ⟨s1, e1, hp1, ct1⟩ :: ⟨s0, e0, hpc, ct⟩ :: r) (hcov1 : covers ⟨s1, e1, hp1, ct1⟩ pc = true) (hcov : covers ⟨s0, e0, hpc, ct⟩ pc = true) (h01 : ct1 ≠ 0) (h0 : ct ≠ 0)
    (hlink1 : (Cond.classLink own ct1 N).before args s = true) (hlink : (Cond.classLink own ct C).before args s = true) (hno : (Cond.not (.castable C N)).before args s = true) : fh_ok e s m c C pc hpc := by
  intro hpl f S a cell hf hp hW hcell hobj hcls
  obtain ⟨c1, hc1, hl1⟩ := Cond.classLink_spec hown hlink1 e.platform hpl
  obtain ⟨c', hc', hl⟩ := Cond.classLink_spec hown hlink e.platform hpl
  cases hcls.symm.trans hc'
  subst hf hp
  have hv := Cond.holds_not_iff.mp hno
  simp only [Cond.value, hcls, hc1] at hv
  have hno' : s.vm.assignable cell.cls c1 = false := Option.some.inj hv
  rw [htab]
  obtain ⟨vm1, hW1, hq1⟩ := fh_both (x := ⟨s1, e1, hp1, ct1⟩) hW hcov1 h01 hl1 hcell hobj (Vm.classAt_of_findClass hcls) (⟨s0, e0, hpc, ct⟩ :: r)
  obtain ⟨vm', hW', hq⟩ := fh_both (S := S.setVm vm1) (x := ⟨s0, e0, hpc, ct⟩) hW1 hcov h0 hl hcell hobj (Vm.classAt_of_findClass hcls) r
  exact ⟨vm', hW', fun Q E d acts => by rw [hq1, if_neg (by rw [hno']; decide), hq, if_pos (asg_self _ _)]; rfl⟩
section XH
variable {p : Program} {l : Launch} {e : Env} {R : Room} {s : State} {m : MethodId} {args : Array Value} {below : List Frame} {meth : Method} {c : Code} {H : Heap} {locs : List Loc} {cells slots : Nat} {Q : State → Prop}
variable {cc : ByteArray} {pc : Nat} {ls : Array Slot} {rest st0 : List Value} {D : va_G} {A : Nat → Prop} {tys : List (ClassId × FieldType)} {ws wc wr : va_W} {H0 : Heap}
variable {y : MethodName} {bytes : ByteArray} {maxL nL mc ms index : Nat} {ret : Option FieldType} {rm : Room} {own C : String} {b : Nat} {As : List Value}
/-- a call whose callee throws, caught here -/
theorem tv_catch {B : State → Prop} (hx : p.tables.exec = Jvm.exec) (hb : c.code = cc) (hml : c.maxLocals = nL) (hown : s.vm.findClass own = some m.cls) (hg : ∀ w ∈ gws, w.before args s = true) {Cr : String}
    (hM : MetT l y (.code y bytes maxL ret :: gws) rm (va_Pc (.ref b :: As) B) C) (ks : kV own Cr index y (.code y bytes maxL ret)) (hd : kN Cr y As.length) (hR : rm.frames + 1 ≤ R.frames ∧ 8 + (maxL + 11) + rm.locals ≤ R.locals ∧ 0 + rm.cells ≤ R.cells ∧ 0 + rm.slots ≤ R.slots)
    (hbl : FrameBlind (va_Pc (.ref b :: As) B)) (hpre : ∀ U : State, U.heap = s.heap → s.WarmedH U.vm → B U) (hrecv : ∃ cellB : Cell, s.heap[b]? = some cellB ∧ cellB.vm.isStatics = false ∧ s.vm.findClass Cr = some cellB.cls)
    (hls : ls.size = nL) (hst : st0 = As.reverse ++ .ref b :: rest) (hW : (rest.map fun v => v.category).sum ≤ 8) (hdg : decode cc pc = .ok (.invokevirtual index, 3)) {hpc : Nat} (hfh : fh_ok e s m c C pc hpc)
    (kk : ∀ (H1 : Heap) (x : Nat), s.heap.size ≤ H1.size → (∀ q : Nat, q < s.heap.size → H1[q]? = s.heap[q]?) → W p l e R s m args below meth c H1 [] 1 6 Q (F0 m hpc ls [.ref x])) :
    W p l e R s m args below meth c s.heap [] 0 0 Q (F0 m pc ls st0) := by
  intro T hT X
  obtain ⟨x, cell, T', X', a1, a2, a3, a4, a5, a6⟩ := thr_V X hx hb hml hown hg hM ks hd hR hbl (by rw [hT]; exact hpre) (by rw [hT]; exact hrecv) hls hst hW hdg
  rw [hT] at a4 a5
  have hpl : e.platform.magicAccessors = ({} : Platform).magicAccessors := by rw [X.admits.platform]
  have hvm : ((T'.setTop (F0 m pc ls rest)).pushFrame (.throwing x)).vm = T'.vm := Stand.throwing_vm T' _ x
  have hhp : ((T'.setTop (F0 m pc ls rest)).pushFrame (.throwing x)).heap = T'.heap := Stand.throwing_heap T' _ x
  obtain ⟨vm', hW', hq⟩ := hfh hpl (F0 m pc ls rest) ((T'.setTop (F0 m pc ls rest)).pushFrame (.throwing x)) x cell rfl rfl (by rw [hvm]; exact X'.warmed) (by rw [hhp]; exact a1) a2 a3
  obtain ⟨t, st, ht⟩ := kk T'.heap x a4 a5 (T'.setVm vm') rfl (X'.noted hW')
  refine ⟨t, a6.trans (fh_caught (g := F0 m pc ls rest) X'.here (vm' := vm') (pc := hpc) (fun Q E d acts => ?_) st), ht⟩
  rw [W.findHandler_eq (meth := meth) (code := c) (by rw [hvm]; exact X'.method') X'.code]
  exact hq Q E d acts
/-- a static call of a method with a handler table, by its contract -/
theorem va_runSW {hh : List (Nat × Nat × Nat × Nat)} {Pc : Array Value → State → Prop} {Qc : Array Value → State → Outcome → State → Prop} {free : Addr → Prop} (hx : p.tables.exec = Jvm.exec) (hb : c.code = cc) (hml : c.maxLocals = nL) (hown : s.vm.findClass own = some m.cls) (hg : ∀ w ∈ gws, w.before args s = true)
    (hM : Met l y (.codeWith y bytes maxL ret hh :: gws) rm Pc Qc mc ms free) (ks : kS own index y (.codeWith y bytes maxL ret hh)) (hd : kN own y As.length) (hR : kR R rm maxL mc ms) (hp : PreS s H Pc As)
    (hls : ls.size = nL) (hst : st0 = As.reverse ++ rest) (hW : (rest.map fun v => v.category).sum ≤ 8) (hdg : decode cc pc = .ok (.invokestatic index, 3)) (hf : cells + mc ≤ R.cells ∧ slots + ms ≤ R.slots) :
    va_Run p l e R s m args below meth c H locs cells slots mc ms (F0 m pc ls st0) rest (Qc As.toArray) free := by
  subst hb
  obtain ⟨k1, k2, k4, k5⟩ := ks
  obtain ⟨hC, hy1, hy2, hlen⟩ := hd
  have hK : Back l R p e below s args y 3 8 (PreOf R mc ms Pc) (PostOf Qc mc ms free) := va_backW (hh := hh) (bytes := bytes) (maxL := maxL) (ret := ret) hM hp.1 hR.1 hR.2.1 hR.2.2.1 hR.2.2.2 (pay_in hg (gw_all k5)) List.mem_cons_self
    (fun a' U hW => by rw [hC]; exact pay_in hg (gw_all k4) _ List.mem_cons_self a' U hW)
  intro T hT X
  obtain ⟨mk, methM, cM, hnamed, hmethM, -, -, -, -, -, -, hsigM⟩ := Cond.codeWith_spec (hg _ k5)
  have hstatic : methM.isStatic = true := Cond.static_spec hnamed hmethM (hg _ k2)
  obtain ⟨kP, hkP, -⟩ := className_of_methodNamed hnamed
  have hinitP : kP.init = .initialized := Cond.initialized_spec (findClass_of_methodNamed hnamed) hkP (by rw [hC]; exact hg _ k4)
  rw [hsigM] at hlen
  obtain ⟨vm₁, X₁, hstep₁⟩ := X.invokestatic hx hown (hg _ k1) hnamed hmethM hstatic hkP hinitP ⟨hy1, hy2⟩ (g := F0 m pc ls st0) rfl (argsL := As) (rest := rest) (Option.some.inj hlen).symm hst hdg
  obtain ⟨v, ⟨U', l2, c2, s2⟩, X', ⟨g', mk', t, L, e1, e2, hq, h1, hL, h2, h3⟩, hsteps⟩ := hK m meth c ⟨T.setVm vm₁, locs, cells, slots⟩ (F0 m pc ls rest) (.invokestatic index) mk As.toArray X₁ rfl (hls.trans hml.symm) hdg (lv_room hW) (X₁.named hnamed) ⟨hf.1, hf.2, hp.2 (T.setVm vm₁) hT X₁.warmed⟩
  dsimp only [Pt.U, Pt.locs, Pt.cells, Pt.slots] at X' e1 e2 h1 h2 h3 hsteps
  subst h1; subst h2; subst h3
  exact ⟨v, (T.setVm vm₁).calling g' mk' As.toArray, t, U', L, hT, X', hL, e1, e2, hq, fun target h => hstep₁ _ fun acts => by rw [doInvoke_state]; exact hsteps.trans h⟩
end XH
end
section
/-! plain numbers: sums, the divisor ways (1, 2), the way of rests (0) -/
def pu_sum (f : Nat → Nat) : Nat → Nat
  | 0 => 0
  | n + 1 => pu_sum f n + f n
def pu_up {α : Type} (f : Nat → α) (k : Nat) (v : α) : Nat → α := fun j => if j = k then v else f j
def pu_inc (f : Nat → Nat) (k : Nat) : Nat → Nat := pu_up f k (f k + 1)
theorem pu_up_s {α : Type} (f : Nat → α) (k : Nat) (v : α) : pu_up f k v k = v := if_pos rfl
theorem pu_up_n {α : Type} {f : Nat → α} {k j : Nat} {v : α} (h : j ≠ k) : pu_up f k v j = f j := if_neg h
theorem pu_sum_congr {f g : Nat → Nat} : ∀ {n : Nat}, (∀ p, p < n → f p = g p) → pu_sum f n = pu_sum g n
  | 0, _ => rfl
  | n + 1, h => by
    simp only [pu_sum]
    rw [pu_sum_congr (fun p hp => h p (by omega)), h n (by omega)]
theorem pu_sum_le {f g : Nat → Nat} : ∀ {n : Nat}, (∀ p, p < n → f p ≤ g p) → pu_sum f n ≤ pu_sum g n
  | 0, _ => Nat.le_refl _
  | n + 1, h => by
    simp only [pu_sum]
    exact Nat.add_le_add (pu_sum_le (fun p hp => h p (by omega))) (h n (by omega))
theorem pu_sum_lt {f g : Nat → Nat} {q : Nat} : ∀ {n : Nat}, (∀ p, p < n → f p ≤ g p) → q < n → f q < g q → pu_sum f n < pu_sum g n
  | 0, _, h, _ => by omega
  | n + 1, h, hq, hlt => by
    simp only [pu_sum]
    have h1 := h n (by omega)
    rcases Nat.lt_or_ge q n with z | z
    · have := pu_sum_lt (n := n) (fun p hp => h p (by omega)) z hlt
      omega
    · have : q = n := by omega
      subst this
      have := pu_sum_le (n := q) (fun p hp => h p (by omega))
      omega
theorem pu_sum_ex {f g : Nat → Nat} : ∀ {n : Nat}, pu_sum f n < pu_sum g n → ∃ p, p < n ∧ f p < g p
  | 0, h => by simp [pu_sum] at h
  | n + 1, h => by
    simp only [pu_sum] at h
    by_cases hn : f n < g n
    · exact ⟨n, by omega, hn⟩
    · obtain ⟨p, hp, hl⟩ := pu_sum_ex (n := n) (f := f) (g := g) (by omega)
      exact ⟨p, by omega, hl⟩
theorem pu_sum_eq {f g : Nat → Nat} {n : Nat} (h : ∀ p, p < n → f p ≤ g p) (hs : pu_sum g n ≤ pu_sum f n) : ∀ p, p < n → f p = g p := by
  intro p hp
  have h1 := h p hp
  rcases Nat.lt_or_ge (f p) (g p) with z | z
  · have := pu_sum_lt h hp z
    omega
  · omega
theorem pu_sum_inc {f : Nat → Nat} {b : Nat} : ∀ {n : Nat}, b < n → pu_sum (pu_inc f b) n = pu_sum f n + 1
  | 0, h => by omega
  | n + 1, h => by
    simp only [pu_sum]
    rcases Nat.lt_or_ge b n with z | z
    · rw [pu_sum_inc z]
      have : pu_inc f b n = f n := pu_up_n (by omega)
      omega
    · have : b = n := by omega
      subst this
      have e1 : pu_inc f b b = f b + 1 := pu_up_s _ _ _
      have e2 : pu_sum (pu_inc f b) b = pu_sum f b := pu_sum_congr (fun p hp => pu_up_n (by omega))
      omega
theorem pu_sum_mul (c : Nat) (f : Nat → Nat) : ∀ n : Nat, pu_sum (fun p => c * f p) n = c * pu_sum f n
  | 0 => rfl
  | n + 1 => by simp only [pu_sum]; rw [pu_sum_mul c f n, Nat.mul_add]
theorem pu_sum_mulr (c : Nat) (f : Nat → Nat) : ∀ n : Nat, pu_sum (fun p => f p * c) n = pu_sum f n * c
  | 0 => by simp [pu_sum]
  | n + 1 => by simp only [pu_sum]; rw [pu_sum_mulr c f n, Nat.add_mul]
theorem pu_sum_add (f g : Nat → Nat) : ∀ n : Nat, pu_sum (fun p => f p + g p) n = pu_sum f n + pu_sum g n
  | 0 => rfl
  | n + 1 => by simp only [pu_sum]; rw [pu_sum_add f g n]; omega
theorem pu_sum_const (c : Nat) : ∀ n : Nat, pu_sum (fun _ => c) n = n * c
  | 0 => by simp [pu_sum]
  | n + 1 => by simp only [pu_sum]; rw [pu_sum_const c n, Nat.add_mul, Nat.one_mul]
theorem pu_le_sum {f : Nat → Nat} {p : Nat} : ∀ {n : Nat}, p < n → f p ≤ pu_sum f n
  | 0, h => by omega
  | n + 1, h => by
    simp only [pu_sum]
    rcases Nat.lt_or_ge p n with z | z
    · have := pu_le_sum (f := f) z
      omega
    · have : p = n := by omega
      subst this
      omega
theorem pu_sum_pos {f : Nat → Nat} : ∀ {n : Nat}, 0 < pu_sum f n → ∃ p, p < n ∧ 0 < f p
  | 0, h => by simp [pu_sum] at h
  | n + 1, h => by
    simp only [pu_sum] at h
    by_cases z : 0 < f n
    · exact ⟨n, by omega, z⟩
    · obtain ⟨p, h1, h2⟩ := pu_sum_pos (n := n) (f := f) (by omega)
      exact ⟨p, by omega, h2⟩
/-! the divisor ways -/
def pu_qm (w s : Nat → Nat) (d : Nat) : Nat → Option Nat
  | 0 => none
  | k + 1 => match pu_qm w s d k with
    | none => if 0 < w k then some k else none
    | some b => if 0 < w k ∧ w b * (d * s k + 1) < w k * (d * s b + 1) then some k else some b
def pu_qc (w s : Nat → Nat) (d : Nat) : Nat → Nat
  | 0 => 0
  | k + 1 => if w (pu_qc w s d k) * (d * s (k + 1) + 1) < w (k + 1) * (d * s (pu_qc w s d k) + 1) then k + 1 else pu_qc w s d k
def pu_win (n : Nat) (w s : Nat → Nat) (d b : Nat) : Prop := b < n ∧ 0 < w b ∧ ∀ p, p < n → (p < b → w p * (d * s b + 1) < w b * (d * s p + 1)) ∧ (b < p → w p * (d * s b + 1) ≤ w b * (d * s p + 1))
theorem pu_cross {x1 x2 x3 y1 y2 y3 : Nat} (h1 : x1 * y2 ≤ x2 * y1) (h2 : x2 * y3 < x3 * y2) (hy1 : 0 < y1) : x1 * y3 < x3 * y1 := by
  have a : x1 * y2 * y3 ≤ x2 * y1 * y3 := Nat.mul_le_mul_right _ h1
  have b : x2 * y3 * y1 < x3 * y2 * y1 := Nat.mul_lt_mul_of_pos_right h2 hy1
  have e1 : x1 * y2 * y3 = x1 * y3 * y2 := Nat.mul_right_comm _ _ _
  have e2 : x2 * y1 * y3 = x2 * y3 * y1 := Nat.mul_right_comm _ _ _
  have e3 : x3 * y2 * y1 = x3 * y1 * y2 := Nat.mul_right_comm _ _ _
  have c : x1 * y3 * y2 < x3 * y1 * y2 := by omega
  exact Nat.lt_of_mul_lt_mul_right c
theorem pu_qm_none {w s : Nat → Nat} {d : Nat} : ∀ {k : Nat}, pu_qm w s d k = none → ∀ p, p < k → w p = 0
  | 0, _, p, hp => by omega
  | k + 1, h, p, hp => by
    rw [pu_qm] at h
    cases hq : pu_qm w s d k with
    | none =>
      rw [hq] at h
      simp only at h
      by_cases hw : 0 < w k
      · rw [if_pos hw] at h; cases h
      · rcases Nat.lt_or_ge p k with z | z
        · exact pu_qm_none hq p z
        · have : p = k := by omega
          subst this; omega
    | some b =>
      rw [hq] at h
      simp only at h
      split at h <;> cases h
theorem pu_qm_some {w s : Nat → Nat} {d : Nat} : ∀ {k b : Nat}, pu_qm w s d k = some b → pu_win k w s d b
  | 0, b, h => by simp [pu_qm] at h
  | k + 1, b, h => by
    rw [pu_qm] at h
    cases hq : pu_qm w s d k with
    | none =>
      rw [hq] at h
      simp only at h
      by_cases hw : 0 < w k
      · rw [if_pos hw] at h
        cases h
        refine ⟨by omega, hw, fun p hp => ⟨fun hl => ?_, fun hl => by omega⟩⟩
        rw [pu_qm_none hq p hl, Nat.zero_mul]
        exact Nat.mul_pos hw (by omega)
      · rw [if_neg hw] at h; cases h
    | some b' =>
      rw [hq] at h
      simp only at h
      obtain ⟨h1, h2, h3⟩ := pu_qm_some hq
      by_cases hc : 0 < w k ∧ w b' * (d * s k + 1) < w k * (d * s b' + 1)
      · rw [if_pos hc] at h
        cases h
        refine ⟨by omega, hc.1, fun p hp => ⟨fun hl => ?_, fun hl => by omega⟩⟩
        obtain ⟨g1, g2⟩ := h3 p hl
        rcases Nat.lt_trichotomy p b' with z | z | z
        · exact pu_cross (Nat.le_of_lt (g1 z)) hc.2 (by omega)
        · subst z; exact hc.2
        · exact pu_cross (g2 z) hc.2 (by omega)
      · rw [if_neg hc] at h
        cases h
        refine ⟨by omega, h2, fun p hp => ?_⟩
        rcases Nat.lt_or_ge p k with z | z
        · exact h3 p z
        · have : p = k := by omega
          subst this
          refine ⟨fun hl => by omega, fun _ => ?_⟩
          by_cases hw : 0 < w p
          · exact Nat.le_of_not_lt (fun q => hc ⟨hw, q⟩)
          · have : w p = 0 := by omega
            rw [this, Nat.zero_mul]; exact Nat.zero_le _
theorem pu_qc_qm {w s : Nat → Nat} {d : Nat} : ∀ k : Nat, (pu_qm w s d (k + 1) = none → pu_qc w s d k = 0) ∧ ∀ b, pu_qm w s d (k + 1) = some b → pu_qc w s d k = b
  | 0 => by
    refine ⟨fun _ => rfl, fun b h => ?_⟩
    simp only [pu_qm] at h
    split at h
    · cases h; rfl
    · cases h
  | k + 1 => by
    obtain ⟨i1, i2⟩ := pu_qc_qm (w := w) (s := s) (d := d) k
    rw [pu_qm, pu_qc]
    cases hq : pu_qm w s d (k + 1) with
    | none =>
      have h0 := pu_qm_none hq
      rw [i1 hq]
      have hz : w 0 = 0 := h0 0 (by omega)
      rw [hz, Nat.zero_mul]
      simp only
      by_cases hw : 0 < w (k + 1)
      · rw [if_pos hw, if_pos (Nat.mul_pos hw (by omega))]
        exact ⟨fun h => (by cases h), fun b h => (by cases h; rfl)⟩
      · have : w (k + 1) = 0 := by omega
        rw [this, Nat.zero_mul]
        simp
    | some b' =>
      rw [i2 b' hq]
      simp only
      by_cases hc : w b' * (d * s (k + 1) + 1) < w (k + 1) * (d * s b' + 1)
      · have hw : 0 < w (k + 1) := Nat.pos_of_ne_zero (fun z => by rw [z, Nat.zero_mul] at hc; omega)
        rw [if_pos hc, if_pos ⟨hw, hc⟩]
        exact ⟨fun h => (by cases h), fun b h => (by cases h; rfl)⟩
      · rw [if_neg hc, if_neg (fun q => hc q.2)]
        exact ⟨fun h => (by cases h), fun b h => (by cases h; rfl)⟩
/-- j units more, by the way d, over the shares t -/
def pu_gs (n : Nat) (w : Nat → Nat) (d : Nat) (t : Nat → Nat) : Nat → (Nat → Nat)
  | 0 => t
  | j + 1 => match pu_qm w (pu_gs n w d t j) d n with
    | none => pu_gs n w d t j
    | some b => pu_inc (pu_gs n w d t j) b
abbrev pu_G (n : Nat) (w : Nat → Nat) (d m : Nat) : Nat → Nat := pu_gs n w d (fun _ => 0) m
theorem pu_qm_ex {n : Nat} {w : Nat → Nat} (s : Nat → Nat) (d : Nat) (hW : 0 < pu_sum w n) : ∃ b, pu_qm w s d n = some b ∧ pu_win n w s d b := by
  cases hq : pu_qm w s d n with
  | none =>
    obtain ⟨p, h1, h2⟩ := pu_sum_pos hW
    have := pu_qm_none hq p h1
    omega
  | some b => exact ⟨b, rfl, pu_qm_some hq⟩
theorem pu_gs_s {n : Nat} {w : Nat → Nat} {d : Nat} {t : Nat → Nat} {j b : Nat} (h : pu_qm w (pu_gs n w d t j) d n = some b) : pu_gs n w d t (j + 1) = pu_inc (pu_gs n w d t j) b := by
  rw [pu_gs, h]
theorem pu_gs_sum {n : Nat} {w : Nat → Nat} (d : Nat) (t : Nat → Nat) (hW : 0 < pu_sum w n) : ∀ j : Nat, pu_sum (pu_gs n w d t j) n = pu_sum t n + j
  | 0 => rfl
  | j + 1 => by
    obtain ⟨b, hb, hw⟩ := pu_qm_ex (pu_gs n w d t j) d hW
    rw [pu_gs_s hb, pu_sum_inc hw.1, pu_gs_sum d t hW j]
    omega
theorem pu_inc_le (f : Nat → Nat) (b p : Nat) : f p ≤ pu_inc f b p := by
  by_cases h : p = b
  · subst h; rw [pu_inc, pu_up_s]; omega
  · rw [pu_inc, pu_up_n h]; exact Nat.le_refl _
theorem pu_gs_mono1 {n : Nat} {w : Nat → Nat} {d : Nat} {t : Nat → Nat} (j p : Nat) : pu_gs n w d t j p ≤ pu_gs n w d t (j + 1) p := by
  rw [pu_gs]
  cases pu_qm w (pu_gs n w d t j) d n with
  | none => exact Nat.le_refl _
  | some b => exact pu_inc_le _ _ _
theorem pu_gs_mono {n : Nat} {w : Nat → Nat} {d : Nat} {t : Nat → Nat} {i : Nat} (p : Nat) : ∀ {j : Nat}, i ≤ j → pu_gs n w d t i p ≤ pu_gs n w d t j p
  | 0, h => by have : i = 0 := by omega
               subst this; exact Nat.le_refl _
  | j + 1, h => by
    rcases Nat.lt_or_ge i (j + 1) with z | z
    · exact Nat.le_trans (pu_gs_mono p (by omega)) (pu_gs_mono1 j p)
    · have : i = j + 1 := by omega
      subst this; exact Nat.le_refl _
theorem pu_reach {n : Nat} {w : Nat → Nat} {d : Nat} {q v : Nat} : ∀ {m : Nat}, v < pu_G n w d m q → ∃ k, k < m ∧ pu_G n w d k q = v ∧ pu_win n w (pu_G n w d k) d q
  | 0, h => by simp [pu_G, pu_gs] at h
  | m + 1, h => by
    by_cases hv : v < pu_G n w d m q
    · obtain ⟨k, h1, h2⟩ := pu_reach hv
      exact ⟨k, by omega, h2⟩
    · cases hq : pu_qm w (pu_G n w d m) d n with
      | none =>
        have e : pu_G n w d (m + 1) = pu_G n w d m := by rw [pu_G, pu_gs, hq]
        rw [e] at h; exact absurd h hv
      | some b =>
        have e : pu_G n w d (m + 1) = pu_inc (pu_G n w d m) b := pu_gs_s hq
        rw [e] at h
        by_cases hb : q = b
        · subst hb
          rw [pu_inc, pu_up_s] at h
          exact ⟨m, by omega, by omega, pu_qm_some hq⟩
        · rw [pu_inc, pu_up_n hb] at h
          exact absurd h hv
theorem pu_cont {n : Nat} {w : Nat → Nat} {d m : Nat} {t : Nat → Nat} (hW : 0 < pu_sum w n) (ht : ∀ p, p < n → t p ≤ pu_G n w d m p) (hs : pu_sum t n < m) {b : Nat} (hb : pu_qm w t d n = some b) : t b < pu_G n w d m b := by
  have hwin := pu_qm_some hb
  rcases Nat.lt_or_ge (t b) (pu_G n w d m b) with z | z
  · exact z
  · exfalso
    have hsum : pu_sum (pu_G n w d m) n = m := by rw [pu_gs_sum d _ hW m, pu_sum_const]; omega
    obtain ⟨q, hq1, hq2⟩ := pu_sum_ex (f := t) (g := pu_G n w d m) (n := n) (by omega)
    obtain ⟨k, k1, k2, k3⟩ := pu_reach hq2
    have hkb : pu_G n w d k b ≤ t b := Nat.le_trans (pu_gs_mono b (by omega)) z
    have hmul : w q * (d * pu_G n w d k b + 1) ≤ w q * (d * t b + 1) := Nat.mul_le_mul_left _ (Nat.add_le_add_right (Nat.mul_le_mul_left _ hkb) 1)
    have hne : q ≠ b := fun e => by subst e; omega
    have g1 := hwin.2.2 q hq1
    have g2 := k3.2.2 b hwin.1
    rw [k2] at g2
    rcases Nat.lt_or_ge q b with y | y
    · have a1 := g1.1 y
      have a2 := g2.2 y
      omega
    · have a1 := g1.2 (by omega)
      have a2 := g2.1 (by omega)
      omega
theorem pu_run {n : Nat} {w : Nat → Nat} {d m : Nat} {t : Nat → Nat} (hW : 0 < pu_sum w n) (ht : ∀ p, p < n → t p ≤ pu_G n w d m p) : ∀ j : Nat, pu_sum t n + j ≤ m → ∀ p, p < n → pu_gs n w d t j p ≤ pu_G n w d m p
  | 0, _ => ht
  | j + 1, hj => by
    have ih := pu_run hW ht j (by omega)
    obtain ⟨b, hb, hw⟩ := pu_qm_ex (pu_gs n w d t j) d hW
    have hs := pu_gs_sum d t hW j
    have := pu_cont hW ih (by omega) hb
    rw [pu_gs_s hb]
    intro p hp
    by_cases e : p = b
    · subst e; rw [pu_inc, pu_up_s]; omega
    · rw [pu_inc, pu_up_n e]; exact ih p hp
theorem pu_end {n : Nat} {w : Nat → Nat} {d m : Nat} {t : Nat → Nat} (hW : 0 < pu_sum w n) (ht : ∀ p, p < n → t p ≤ pu_G n w d m p) : pu_sum t n ≤ m ∧ ∀ p, p < n → pu_gs n w d t (m - pu_sum t n) p = pu_G n w d m p := by
  have hsum : pu_sum (pu_G n w d m) n = m := by rw [pu_gs_sum d _ hW m, pu_sum_const]; omega
  have hle : pu_sum t n ≤ m := by rw [← hsum]; exact pu_sum_le ht
  refine ⟨hle, pu_sum_eq (pu_run hW ht _ (by omega)) ?_⟩
  rw [hsum, pu_gs_sum d t hW]
  omega
theorem pu_low {n : Nat} {w : Nat → Nat} {d m q : Nat} (hd : 0 < d) (hW : 0 < pu_sum w n) (hq : q < n) (hwq : 0 < w q) : w q * (d * m) < pu_sum w n * (d * pu_G n w d m q + 1) + n * (w q * (d - 1)) := by
  have hsum : pu_sum (pu_G n w d m) n = m := by rw [pu_gs_sum d _ hW m, pu_sum_const]; omega
  have key : ∀ p, p < n → w q * (d * pu_G n w d m p) ≤ w p * (d * pu_G n w d m q + 1) + w q * (d - 1) := by
    intro p hp
    by_cases hpq : p = q
    · subst hpq
      rw [Nat.mul_add]
      omega
    · cases hv : pu_G n w d m p with
      | zero => simp
      | succ v =>
        obtain ⟨k, k1, k2, k3⟩ := pu_reach (n := n) (w := w) (d := d) (q := p) (v := v) (m := m) (by omega)
        have g := k3.2.2 q hq
        rw [k2] at g
        have hm : w p * (d * pu_G n w d k q + 1) ≤ w p * (d * pu_G n w d m q + 1) := Nat.mul_le_mul_left _ (Nat.add_le_add_right (Nat.mul_le_mul_left _ (pu_gs_mono q (by omega))) 1)
        have h1 : w q * (d * v + 1) ≤ w p * (d * pu_G n w d k q + 1) := by
          rcases Nat.lt_or_ge q p with y | y
          · exact Nat.le_of_lt (g.1 y)
          · exact g.2 (by omega)
        have e1 : d * (v + 1) = (d * v + 1) + (d - 1) := by rw [Nat.mul_add]; omega
        rw [e1, Nat.mul_add]
        omega
  have hstrict : w q * (d * pu_G n w d m q) < w q * (d * pu_G n w d m q + 1) + w q * (d - 1) := by
    rw [Nat.mul_add]; omega
  have hs := pu_sum_lt (f := fun p => w q * (d * pu_G n w d m p)) (g := fun p => w p * (d * pu_G n w d m q + 1) + w q * (d - 1)) key hq hstrict
  rw [pu_sum_add, pu_sum_mulr, pu_sum_const, pu_sum_mul, pu_sum_mul, hsum] at hs
  exact hs
/-- the start of 'quotients' -/
def pu_t (n : Nat) (w : Nat → Nat) (d m : Nat) : Nat → Nat := fun p => if d = 1 then m * w p / pu_sum w n else (2 * ((m - n) * w p) + pu_sum w n - 1) / (2 * pu_sum w n)
theorem pu_t_le {n : Nat} {w : Nat → Nat} {d m : Nat} (hd : d = 1 ∨ d = 2) (hW : 0 < pu_sum w n) : ∀ q, q < n → pu_t n w d m q ≤ pu_G n w d m q := by
  intro q hq
  by_cases hwq : 0 < w q
  · have hl := pu_low (d := d) (m := m) (by omega) hW hq hwq
    rcases hd with rfl | rfl
    · rw [pu_t, if_pos rfl]
      refine Nat.le_of_lt_succ ((Nat.div_lt_iff_lt_mul hW).mpr ?_)
      simp only [Nat.one_mul, Nat.sub_self, Nat.mul_zero, Nat.add_zero] at hl
      rw [Nat.mul_comm m, Nat.mul_comm _ (pu_sum w n)]
      exact hl
    · rw [pu_t, if_neg (by decide)]
      refine Nat.le_of_lt_succ ((Nat.div_lt_iff_lt_mul (by omega)).mpr ?_)
      generalize pu_G n w 2 m q = G at hl ⊢
      generalize pu_sum w n = W at hl hW ⊢
      generalize w q = v at hl hwq ⊢
      simp only [Nat.mul_one, show (2 : Nat) - 1 = 1 from rfl] at hl
      have e1 : (G + 1) * (2 * W) = W * (2 * G + 1) + W := by
        rw [Nat.add_mul, Nat.mul_add, Nat.mul_one, Nat.one_mul, Nat.mul_left_comm, Nat.mul_left_comm W, Nat.mul_comm W G]; omega
      rw [Nat.succ_eq_add_one, e1]
      have e2 : v * (2 * m) = 2 * (m * v) := by rw [Nat.mul_left_comm, Nat.mul_comm v m]
      rw [e2] at hl
      rw [Nat.sub_mul]
      omega
  · have h0 : w q = 0 := by omega
    have : pu_t n w d m q = 0 := by
      rw [pu_t]
      split
      · rw [h0, Nat.mul_zero, Nat.zero_div]
      · rw [h0, Nat.mul_zero, Nat.mul_zero, Nat.zero_add]
        exact Nat.div_eq_of_lt (by omega)
    omega
/-- **what 'quotients' answers is what one by one gives** -/
theorem pu_quot {n : Nat} {w : Nat → Nat} {d m : Nat} (hd : d = 1 ∨ d = 2) (hW : 0 < pu_sum w n) : pu_sum (pu_t n w d m) n ≤ m ∧ ∀ p, p < n → pu_gs n w d (pu_t n w d m) (m - pu_sum (pu_t n w d m) n) p = pu_G n w d m p := pu_end hW (pu_t_le hd hW)
theorem pu_G_le {n : Nat} {w : Nat → Nat} {d m p : Nat} (hW : 0 < pu_sum w n) (hp : p < n) : pu_G n w d m p ≤ m := by
  have hsum : pu_sum (pu_G n w d m) n = m := by rw [pu_gs_sum d _ hW m, pu_sum_const]; omega
  have := pu_le_sum (f := pu_G n w d m) hp
  omega
theorem pu_G_zero {n : Nat} {w : Nat → Nat} {d m p : Nat} (hw : w p = 0) : pu_G n w d m p = 0 := by
  rcases Nat.eq_zero_or_pos (pu_G n w d m p) with h | h
  · exact h
  · obtain ⟨k, -, -, k3⟩ := pu_reach h
    have := k3.2.1
    omega
end
section
/-! the way of rests -/
def pu_pk (g : Nat → Bool) (r : Nat → Nat) : Nat → Option Nat
  | 0 => none
  | k + 1 => match pu_pk g r k with
    | none => if g k = true then none else some k
    | some b => if g k = false ∧ r b < r k then some k else some b
theorem pu_pk_none {g : Nat → Bool} {r : Nat → Nat} : ∀ {k : Nat}, pu_pk g r k = none → ∀ p, p < k → g p = true
  | 0, _, p, hp => by omega
  | k + 1, h, p, hp => by
    rw [pu_pk] at h
    cases hq : pu_pk g r k with
    | none =>
      rw [hq] at h
      simp only at h
      rcases Nat.lt_or_ge p k with z | z
      · exact pu_pk_none hq p z
      · have : p = k := by omega
        subst this
        by_cases hg : g p = true
        · exact hg
        · rw [if_neg hg] at h; cases h
    | some b =>
      rw [hq] at h
      simp only at h
      split at h <;> cases h
theorem pu_pk_some {g : Nat → Bool} {r : Nat → Nat} : ∀ {k b : Nat}, pu_pk g r k = some b → b < k ∧ g b = false ∧ ∀ p, p < k → g p = false → r p ≤ r b
  | 0, b, h => by simp [pu_pk] at h
  | k + 1, b, h => by
    rw [pu_pk] at h
    cases hq : pu_pk g r k with
    | none =>
      rw [hq] at h
      simp only at h
      by_cases hg : g k = true
      · rw [if_pos hg] at h; cases h
      · rw [if_neg hg] at h
        cases h
        refine ⟨by omega, by simpa using hg, fun p hp hgp => ?_⟩
        rcases Nat.lt_or_ge p k with z | z
        · have := pu_pk_none hq p z
          rw [this] at hgp; cases hgp
        · have : p = k := by omega
          subst this; exact Nat.le_refl _
    | some b' =>
      rw [hq] at h
      simp only at h
      obtain ⟨h1, h2, h3⟩ := pu_pk_some hq
      by_cases hc : g k = false ∧ r b' < r k
      · rw [if_pos hc] at h
        cases h
        refine ⟨by omega, hc.1, fun p hp hgp => ?_⟩
        rcases Nat.lt_or_ge p k with z | z
        · exact Nat.le_trans (h3 p z hgp) (Nat.le_of_lt hc.2)
        · have : p = k := by omega
          subst this; exact Nat.le_refl _
      · rw [if_neg hc] at h
        cases h
        refine ⟨by omega, h2, fun p hp hgp => ?_⟩
        rcases Nat.lt_or_ge p k with z | z
        · exact h3 p z hgp
        · have : p = k := by omega
          subst this
          exact Nat.le_of_not_lt (fun q => hc ⟨hgp, q⟩)
def pu_hs (n : Nat) (r b0 : Nat → Nat) : Nat → (Nat → Nat) × (Nat → Bool)
  | 0 => (b0, fun _ => false)
  | j + 1 => match pu_pk (pu_hs n r b0 j).2 r n with
    | none => pu_hs n r b0 j
    | some b => (pu_inc (pu_hs n r b0 j).1 b, pu_up (pu_hs n r b0 j).2 b true)
theorem pu_hs_s {n : Nat} {r b0 : Nat → Nat} {j b : Nat} (h : pu_pk (pu_hs n r b0 j).2 r n = some b) : pu_hs n r b0 (j + 1) = (pu_inc (pu_hs n r b0 j).1 b, pu_up (pu_hs n r b0 j).2 b true) := by
  rw [pu_hs, h]
def pu_inv (n : Nat) (r b0 : Nat → Nat) (j : Nat) (S : (Nat → Nat) × (Nat → Bool)) : Prop := (∀ p, S.1 p = b0 p + (S.2 p).toNat) ∧ pu_sum (fun p => (S.2 p).toNat) n = j ∧ ∀ p, S.2 p = true → 0 < r p
theorem pu_pk_ex {n : Nat} {r b0 : Nat → Nat} {L W j : Nat} {S : (Nat → Nat) × (Nat → Bool)} (hWp : 0 < W) (hr : ∀ p, p < n → r p < W) (hs : pu_sum r n = L * W) (hj : j < L) (hi : pu_inv n r b0 j S) : ∃ b, pu_pk S.2 r n = some b ∧ b < n ∧ S.2 b = false ∧ 0 < r b := by
  have hex : ∃ p, p < n ∧ S.2 p = false ∧ 0 < r p := by
    refine Classical.byContradiction (fun hno => ?_)
    have h0 : ∀ p, p < n → r p ≤ (S.2 p).toNat * W := by
      intro p hp
      cases hg : S.2 p with
      | true =>
        have := hr p hp
        simp; omega
      | false =>
        have : ¬ 0 < r p := fun q => hno ⟨p, hp, hg, q⟩
        omega
    have h1 := pu_sum_le h0
    rw [pu_sum_mulr, hi.2.1, hs] at h1
    have h2 : j * W < L * W := Nat.mul_lt_mul_of_pos_right hj hWp
    omega
  obtain ⟨p, p1, p2, p3⟩ := hex
  cases hq : pu_pk S.2 r n with
  | none =>
    have := pu_pk_none hq p p1
    rw [this] at p2; cases p2
  | some b =>
    obtain ⟨b1, b2, b3⟩ := pu_pk_some hq
    exact ⟨b, rfl, b1, b2, Nat.lt_of_lt_of_le p3 (b3 p p1 p2)⟩
theorem pu_sum_flag {g : Nat → Bool} {b : Nat} : ∀ {n : Nat}, b < n → g b = false → pu_sum (fun p => (pu_up g b true p).toNat) n = pu_sum (fun p => (g p).toNat) n + 1
  | 0, h, _ => by omega
  | n + 1, h, hg => by
    simp only [pu_sum]
    rcases Nat.lt_or_ge b n with z | z
    · rw [pu_sum_flag z hg, pu_up_n (show n ≠ b by omega)]
      omega
    · have : b = n := by omega
      subst this
      rw [pu_up_s, hg]
      have : pu_sum (fun p => (pu_up g b true p).toNat) b = pu_sum (fun p => (g p).toNat) b := pu_sum_congr (fun p hp => by rw [pu_up_n (show p ≠ b by omega)])
      rw [this]; rfl
theorem pu_inv_s {n : Nat} {r b0 : Nat → Nat} {j b : Nat} {S : (Nat → Nat) × (Nat → Bool)} (hi : pu_inv n r b0 j S) (hb : b < n) (hg : S.2 b = false) (hr : 0 < r b) : pu_inv n r b0 (j + 1) (pu_inc S.1 b, pu_up S.2 b true) := by
  obtain ⟨h1, h2, h3⟩ := hi
  refine ⟨fun p => ?_, ?_, fun p hp => ?_⟩
  · by_cases e : p = b
    · subst e
      show pu_inc S.1 p p = b0 p + (pu_up S.2 p true p).toNat
      have := h1 p
      rw [hg] at this
      rw [pu_inc, pu_up_s, pu_up_s]
      simp at this ⊢
      omega
    · show pu_inc S.1 b p = b0 p + (pu_up S.2 b true p).toNat
      rw [pu_inc, pu_up_n e, pu_up_n e]
      exact h1 p
  · show pu_sum (fun p => (pu_up S.2 b true p).toNat) n = j + 1
    rw [pu_sum_flag hb hg, h2]
  · by_cases e : p = b
    · subst e; exact hr
    · exact h3 p (by have : pu_up S.2 b true p = true := hp; rwa [pu_up_n e] at this)
theorem pu_hs_inv {n : Nat} {r b0 : Nat → Nat} {L W : Nat} (hWp : 0 < W) (hr : ∀ p, p < n → r p < W) (hs : pu_sum r n = L * W) : ∀ j, j ≤ L → pu_inv n r b0 j (pu_hs n r b0 j)
  | 0, _ => ⟨fun p => rfl, by show pu_sum (fun _ => 0) n = 0; rw [pu_sum_const]; omega, fun p h => by cases h⟩
  | j + 1, hj => by
    have ih := pu_hs_inv (b0 := b0) hWp hr hs j (by omega)
    obtain ⟨b, b1, b2, b3, b4⟩ := pu_pk_ex hWp hr hs (by omega) ih
    rw [pu_hs_s b1]
    exact pu_inv_s ih b2 b3 b4
/-- the parts, the rests, and what is left behind the parts -/
abbrev pu_b (n : Nat) (w : Nat → Nat) (m : Nat) : Nat → Nat := fun p => m * w p / pu_sum w n
abbrev pu_r (n : Nat) (w : Nat → Nat) (m : Nat) : Nat → Nat := fun p => m * w p % pu_sum w n
abbrev pu_left (n : Nat) (w : Nat → Nat) (m : Nat) : Nat := m - pu_sum (pu_b n w m) n
def pu_ham (n : Nat) (w : Nat → Nat) (m : Nat) : Nat → Nat := (pu_hs n (pu_r n w m) (pu_b n w m) (pu_left n w m)).1
theorem pu_rests {n : Nat} {w : Nat → Nat} (m : Nat) (hW : 0 < pu_sum w n) : pu_sum (pu_b n w m) n ≤ m ∧ pu_sum (pu_r n w m) n = pu_left n w m * pu_sum w n ∧ ∀ p, p < n → pu_r n w m p < pu_sum w n := by
  have h1 : pu_sum (fun p => pu_sum w n * pu_b n w m p + pu_r n w m p) n = pu_sum (fun p => m * w p) n := pu_sum_congr (fun p _ => Nat.div_add_mod _ _)
  rw [pu_sum_add, pu_sum_mul, pu_sum_mul] at h1
  have h2 : pu_sum (pu_b n w m) n ≤ m := by
    refine Nat.le_of_mul_le_mul_left ?_ hW
    rw [Nat.mul_comm (pu_sum w n) m]
    omega
  refine ⟨h2, ?_, fun p _ => Nat.mod_lt _ hW⟩
  rw [pu_left, Nat.sub_mul, Nat.mul_comm (pu_sum (pu_b n w m) n)]
  omega
theorem pu_ham_inv {n : Nat} {w : Nat → Nat} (m : Nat) (hW : 0 < pu_sum w n) (j : Nat) (hj : j ≤ pu_left n w m) : pu_inv n (pu_r n w m) (pu_b n w m) j (pu_hs n (pu_r n w m) (pu_b n w m) j) :=
  pu_hs_inv hW (pu_rests m hW).2.2 (pu_rests m hW).2.1 j hj
theorem pu_ham_pk {n : Nat} {w : Nat → Nat} (m : Nat) (hW : 0 < pu_sum w n) (j : Nat) (hj : j < pu_left n w m) : ∃ b, pu_pk (pu_hs n (pu_r n w m) (pu_b n w m) j).2 (pu_r n w m) n = some b ∧ b < n ∧ (pu_hs n (pu_r n w m) (pu_b n w m) j).2 b = false :=  by
  obtain ⟨b, h1, h2, h3, -⟩ := pu_pk_ex hW (pu_rests m hW).2.2 (pu_rests m hW).2.1 hj (pu_ham_inv m hW j (by omega))
  exact ⟨b, h1, h2, h3⟩
theorem pu_ham_bd {n : Nat} {w : Nat → Nat} (m : Nat) (hW : 0 < pu_sum w n) (p : Nat) : pu_b n w m p ≤ pu_ham n w m p ∧ pu_ham n w m p ≤ pu_b n w m p + 1 ∧ (pu_r n w m p = 0 → pu_ham n w m p = pu_b n w m p) := by
  obtain ⟨h1, h2, h3⟩ := pu_ham_inv m hW (pu_left n w m) (Nat.le_refl _)
  have e := h1 p
  have : pu_ham n w m p = (pu_hs n (pu_r n w m) (pu_b n w m) (pu_left n w m)).1 p := rfl
  cases hg : (pu_hs n (pu_r n w m) (pu_b n w m) (pu_left n w m)).2 p with
  | true =>
    have h4 := h3 p hg
    rw [hg] at e
    simp only [Bool.toNat_true] at e
    exact ⟨by omega, by omega, fun z => by omega⟩
  | false =>
    rw [hg] at e
    simp only [Bool.toNat_false] at e
    exact ⟨by omega, by omega, fun z => by omega⟩
theorem pu_ham_sum {n : Nat} {w : Nat → Nat} (m : Nat) (hW : 0 < pu_sum w n) : pu_sum (pu_ham n w m) n = m := by
  obtain ⟨h1, h2, h3⟩ := pu_ham_inv m hW (pu_left n w m) (Nat.le_refl _)
  have e : pu_sum (pu_ham n w m) n = pu_sum (fun p => pu_b n w m p + ((pu_hs n (pu_r n w m) (pu_b n w m) (pu_left n w m)).2 p).toNat) n := pu_sum_congr (fun p _ => h1 p)
  rw [e, pu_sum_add, h2]
  have := (pu_rests m hW).1
  show pu_sum (pu_b n w m) n + (m - pu_sum (pu_b n w m) n) = m
  omega
theorem pu_ham_le {n : Nat} {w : Nat → Nat} {m p : Nat} (hW : 0 < pu_sum w n) (hp : p < n) : pu_ham n w m p ≤ m := by
  have := pu_le_sum (f := pu_ham n w m) hp
  rw [pu_ham_sum m hW] at this
  exact this
theorem pu_ham_zero {n : Nat} {w : Nat → Nat} {m p : Nat} (hW : 0 < pu_sum w n) (hw : w p = 0) : pu_ham n w m p = 0 := by
  have h := (pu_ham_bd m hW p).2.2 (by show m * w p % pu_sum w n = 0; rw [hw, Nat.mul_zero, Nat.zero_mod])
  rw [h]
  show m * w p / pu_sum w n = 0
  rw [hw, Nat.mul_zero, Nat.zero_div]
theorem pu_ham_lo {n : Nat} {w : Nat → Nat} {m p k : Nat} (hW : 0 < pu_sum w n) (hw : 0 < w p) (hk : k + 1 ≤ pu_ham n w m p) : k * pu_sum w n / w p ≤ m := by
  have h := (pu_ham_bd m hW p).2.1
  have h1 : k ≤ m * w p / pu_sum w n := by
    have : pu_b n w m p = m * w p / pu_sum w n := rfl
    omega
  have h2 : k * pu_sum w n ≤ m * w p := (Nat.le_div_iff_mul_le hW).mp h1
  exact Nat.div_le_of_le_mul (by rw [Nat.mul_comm (w p)]; exact h2)
theorem pu_ham_hi {n : Nat} {w : Nat → Nat} {m p k : Nat} (hW : 0 < pu_sum w n) (hw : 0 < w p) (hk : k * pu_sum w n / w p + 1 ≤ m) : k ≤ pu_ham n w m p := by
  have h1 : k * pu_sum w n < m * w p := (Nat.div_lt_iff_lt_mul hw).mp (by omega)
  have h2 : k ≤ m * w p / pu_sum w n := (Nat.le_div_iff_mul_le hW).mpr (Nat.le_of_lt h1)
  exact Nat.le_trans h2 (pu_ham_bd m hW p).1
/-- the share of p out of m units by the way d -/
def pu_sh (n : Nat) (w : Nat → Nat) (d m p : Nat) : Nat := if d = 0 then pu_ham n w m p else pu_G n w d m p
theorem pu_sh_le {n : Nat} {w : Nat → Nat} {d m p : Nat} (hW : 0 < pu_sum w n) (hp : p < n) : pu_sh n w d m p ≤ m := by
  unfold pu_sh
  split
  · exact pu_ham_le hW hp
  · exact pu_G_le hW hp
theorem pu_sh_zero {n : Nat} {w : Nat → Nat} {d m p : Nat} (hW : 0 < pu_sum w n) (hw : w p = 0) : pu_sh n w d m p = 0 := by
  unfold pu_sh
  split
  · exact pu_ham_zero hW hw
  · exact pu_G_zero hw
/-- r answers: the least m up to 10000 with k ≤ f m, or -1 -/
def pu_isL (f : Nat → Nat) (k : Nat) (r : Int32) : Prop := (∃ m, m ≤ 10000 ∧ k ≤ f m ∧ (∀ j, j < m → f j < k) ∧ r = nI m) ∨ ((∀ m, m ≤ 10000 → f m < k) ∧ r = -1)
theorem pu_isL_u {f : Nat → Nat} {k : Nat} {r r' : Int32} (h : pu_isL f k r) (h' : pu_isL f k r') : r = r' := by
  rcases h with ⟨m, a1, a2, a3, rfl⟩ | ⟨a1, rfl⟩ <;> rcases h' with ⟨m', b1, b2, b3, rfl⟩ | ⟨b1, rfl⟩
  · rcases Nat.lt_trichotomy m m' with z | z | z
    · have := b3 m z; omega
    · rw [z]
    · have := a3 m' z; omega
  · have := b1 m a1; omega
  · have := a1 m' b1; omega
  · rfl
/-- 'next': which party alone gets one more -/
def pu_nx (a b : Nat → Nat) : Nat → Option (Option Nat)
  | 0 => some none
  | i + 1 => match pu_nx a b i with
    | none => none
    | some o => if b i = a i then some o else if o.isSome = true ∨ b i ≠ a i + 1 then none else some (some i)
def pu_nxR (o : Option (Option Nat)) : Int32 := match o with
  | some (some p) => nI p
  | _ => -1
theorem pu_nx_abs {a b : Nat → Nat} {i : Nat} (h : pu_nx a b i = none) : ∀ {n : Nat}, i ≤ n → pu_nx a b n = none
  | 0, hn => by have : i = 0 := by omega
                subst this; exact h
  | n + 1, hn => by
    rcases Nat.lt_or_ge i (n + 1) with z | z
    · rw [pu_nx, pu_nx_abs h (show i ≤ n by omega)]
    · have : i = n + 1 := by omega
      subst this; exact h
theorem pu_nx_congr {a b a' b' : Nat → Nat} : ∀ {n : Nat}, (∀ p, p < n → a p = a' p) → (∀ p, p < n → b p = b' p) → pu_nx a b n = pu_nx a' b' n
  | 0, _, _ => rfl
  | n + 1, h1, h2 => by
    rw [pu_nx, pu_nx, pu_nx_congr (fun p hp => h1 p (by omega)) (fun p hp => h2 p (by omega)), h1 n (by omega), h2 n (by omega)]
def pu_cnt (w : Nat → Nat) : Nat → Nat
  | 0 => 0
  | i + 1 => if 0 < w i then pu_cnt w i + 1 else pu_cnt w i
theorem pu_cnt_le (w : Nat → Nat) : ∀ n : Nat, pu_cnt w n ≤ n
  | 0 => Nat.le_refl _
  | n + 1 => by
    have := pu_cnt_le w n
    rw [pu_cnt]
    split <;> omega
end
section
/-! small helpers; leaf methods -/
theorem xinc (i : Nat) : nI i + Int32.ofInt 1 = nI (i + 1) := nI_1 i
theorem xdec {i : Nat} (h : 0 < i) : nI i + Int32.ofInt (-1) = nI (i - 1) := sb_m1 h
theorem lN_ne0 {a : Nat} (h0 : 0 < a) (h : a < 2 ^ 63) : ¬ lN a = 0 := fun q => by
  have := (pk_lEQ h (by decide : 0 < 2 ^ 63)).mp (q.trans (show (0 : Int64) = lN 0 by decide))
  omega
theorem xb0 : narrow .boolean (.int (nI 0)) = .int (nI 0) := rfl
theorem xb1 : narrow .boolean (.int (nI 1)) = .int (nI 1) := rfl
abbrev oD (x qw qs qo : Nat) (P Wh : Int32) : Nat × va_E := (x, .inr (0, [.ref qw, .ref qs, .ref qo, .int P, .int Wh]))
abbrev oM (x : Nat) (er P : Int32) (mw ms mk mg : Nat) : Nat × va_E := (x, .inr (1, [.int er, .int P, .ref mw, .ref ms, .ref mk, .ref mg]))
abbrev aI (q : Nat) (c : ClassId) (f : Nat → Int32) : Nat × va_E := (q, .inl (c, 8, .inl f))
abbrev aL (q : Nat) (c : ClassId) (f : Nat → Int64) : Nat × va_E := (q, .inl (c, 8, .inr (.inl f)))
theorem n_sd_init : kN "ShareDesk" y_sd_init 0 := ⟨rfl, by decide, by decide, by decide +kernel⟩
theorem n_sl_begin : kN "ShareDeskLaw" y_sl_begin 2 := ⟨rfl, by decide, by decide, by decide +kernel⟩
theorem n_sd_begin : kN "ShareDesk" y_sd_begin 1 := ⟨rfl, by decide, by decide, by decide +kernel⟩
theorem n_sd_good : kN "ShareDesk" y_sd_good 1 := ⟨rfl, by decide, by decide, by decide +kernel⟩
theorem n_sl_weight : kN "ShareDeskLaw" y_sl_weight 4 := ⟨rfl, by decide, by decide, by decide +kernel⟩
theorem n_sd_weight : kN "ShareDesk" y_sd_weight 2 := ⟨rfl, by decide, by decide, by decide +kernel⟩
theorem n_sd_is : kN "ShareDesk" y_sd_is 1 := ⟨rfl, by decide, by decide, by decide +kernel⟩
theorem n_sl_share : kN "ShareDeskLaw" y_sl_share 5 := ⟨rfl, by decide, by decide, by decide +kernel⟩
theorem n_sd_share : kN "ShareDesk" y_sd_share 3 := ⟨rfl, by decide, by decide, by decide +kernel⟩
theorem n_sd_ready : kN "ShareDesk" y_sd_ready 2 := ⟨rfl, by decide, by decide, by decide +kernel⟩
theorem n_sd_give : kN "ShareDesk" y_sd_give 3 := ⟨rfl, by decide, by decide, by decide +kernel⟩
theorem n_sd_rests : kN "ShareDesk" y_sd_rests 2 := ⟨rfl, by decide, by decide, by decide +kernel⟩
theorem n_sd_quot : kN "ShareDesk" y_sd_quot 3 := ⟨rfl, by decide, by decide, by decide +kernel⟩
theorem n_jm_max : kN "java/lang/Math" y_jm_max 2 := ⟨rfl, by decide, by decide, by decide +kernel⟩
theorem n_sd_by : kN "ShareDesk" y_sd_by 2 := ⟨rfl, by decide, by decide, by decide +kernel⟩
theorem n_sl_over : kN "ShareDeskLaw" y_sl_over 5 := ⟨rfl, by decide, by decide, by decide +kernel⟩
theorem n_sd_over : kN "ShareDesk" y_sd_over 3 := ⟨rfl, by decide, by decide, by decide +kernel⟩
theorem n_sl_next : kN "ShareDeskLaw" y_sl_next 4 := ⟨rfl, by decide, by decide, by decide +kernel⟩
theorem n_sd_next : kN "ShareDesk" y_sd_next 2 := ⟨rfl, by decide, by decide, by decide +kernel⟩
theorem n_sl_least : kN "ShareDeskLaw" y_sl_least 5 := ⟨rfl, by decide, by decide, by decide +kernel⟩
theorem n_sd_least : kN "ShareDesk" y_sd_least 3 := ⟨rfl, by decide, by decide, by decide +kernel⟩
theorem n_sl_count : kN "ShareDeskLaw" y_sl_count 3 := ⟨rfl, by decide, by decide, by decide +kernel⟩
theorem n_sd_count : kN "ShareDesk" y_sd_count 1 := ⟨rfl, by decide, by decide, by decide +kernel⟩
theorem n_sm_init : kN "ShareDeskModel" y_sm_init 0 := ⟨rfl, by decide, by decide, by decide +kernel⟩
theorem n_sm_thrown : kN "ShareDeskModel" y_sm_thrown 0 := ⟨rfl, by decide, by decide, by decide +kernel⟩
theorem n_sm_begin : kN "ShareDeskModel" y_sm_begin 1 := ⟨rfl, by decide, by decide, by decide +kernel⟩
theorem n_sm_in : kN "ShareDeskModel" y_sm_in 3 := ⟨rfl, by decide, by decide, by decide +kernel⟩
theorem n_sm_fails : kN "ShareDeskModel" y_sm_fails 2 := ⟨rfl, by decide, by decide, by decide +kernel⟩
theorem n_sm_weight : kN "ShareDeskModel" y_sm_weight 2 := ⟨rfl, by decide, by decide, by decide +kernel⟩
theorem n_sm_isParty : kN "ShareDeskModel" y_sm_isParty 1 := ⟨rfl, by decide, by decide, by decide +kernel⟩
theorem n_sm_share : kN "ShareDeskModel" y_sm_share 3 := ⟨rfl, by decide, by decide, by decide +kernel⟩
theorem n_sm_isWay : kN "ShareDeskModel" y_sm_isWay 1 := ⟨rfl, by decide, by decide, by decide +kernel⟩
theorem n_sm_all : kN "ShareDeskModel" y_sm_all 0 := ⟨rfl, by decide, by decide, by decide +kernel⟩
theorem n_sm_give : kN "ShareDeskModel" y_sm_give 2 := ⟨rfl, by decide, by decide, by decide +kernel⟩
theorem n_sm_parts : kN "ShareDeskModel" y_sm_parts 1 := ⟨rfl, by decide, by decide, by decide +kernel⟩
theorem n_sm_one : kN "ShareDeskModel" y_sm_one 1 := ⟨rfl, by decide, by decide, by decide +kernel⟩
theorem n_sm_over : kN "ShareDeskModel" y_sm_over 3 := ⟨rfl, by decide, by decide, by decide +kernel⟩
theorem n_sm_next : kN "ShareDeskModel" y_sm_next 2 := ⟨rfl, by decide, by decide, by decide +kernel⟩
theorem n_sm_least : kN "ShareDeskModel" y_sm_least 3 := ⟨rfl, by decide, by decide, by decide +kernel⟩
theorem n_sm_count : kN "ShareDeskModel" y_sm_count 1 := ⟨rfl, by decide, by decide, by decide +kernel⟩
set_option maxRecDepth 10000 in
theorem c_sd_by (l : Launch) (d s0 : Nat) (hd : d = 1 ∨ d = 2) : Met l y_sd_by w_sd_by (rL 0 0 0) (va_Pc [.int (nI d), .int (nI s0)] (fun _ => True)) (vp_Si (fun r => r = nI (d * s0 + 1))) 0 0 (fun _ => False) := by
  refine Met.ofW (cc := b_sd_by) (maxL := 2) (ret := (some .int)) (by decide) rfl ?_
  intro p e s m args below meth c s₁ B hml hv
  obtain ⟨rfl, -⟩ := hv
  have hx := B.exec
  have hb := B.bytes
  have hr := B.returns
  have hts := atoms_spec (ws := w_sd_by) B.pre
  have hg : ∀ w ∈ gws, w.before ([.int (nI d), .int (nI s0)] : List Value).toArray s = true := fun w hw => hts w (List.mem_cons_of_mem _ hw)
  have hown : s.vm.findClass "ShareDesk" = some m.cls := findClass_of_methodNamed B.named
  have hlk := B.notSynchronized
  have hl := lv_entry ([.int (nI d), .int (nI s0)]) (n := 2) (Nat.le_of_ble_eq_true rfl)
  rw [lg_entry_eq]
  generalize (lg_sl ([.int (nI d), .int (nI s0)]) ++ List.replicate (2 - (lg_sl ([.int (nI d), .int (nI s0)])).length) Slot.unset).toArray = ls at hl ⊢
  have hl : lv_has ls 2 [(0, .int (nI d)), (1, .int (nI s0))] := hl
  refine lv_iload_n hx hb d_sd_by_0 rfl (lv_at hl 0 rfl) ?_
  refine lv_iconst (v := nI 1) hx hb d_sd_by_1 (by decide) ?_
  refine xc_ne (tgt := 11) hx hb d_sd_by_2 (by decide) (by omega) (by omega) (fun hc => ?_) (fun hc => ?_)
  · have hd : d = 2 := by omega
    subst hd
    refine lv_iconst (v := nI 2) hx hb d_sd_by_11 (by decide) ?_
    refine lv_iload_n hx hb d_sd_by_12 rfl (lv_at hl 1 rfl) ?_
    refine lv_imul hx hb d_sd_by_13 ?_
    refine xr_i (pk_mul _ _) ?_
    refine lv_iconst (v := nI 1) hx hb d_sd_by_14 (by decide) ?_
    refine lv_iadd hx hb d_sd_by_15 ?_
    refine xr_i (nI_add _ _) ?_
    exact en_i hx hb hr hlk rfl d_sd_by_16
  · subst hc
    refine lv_iload_n hx hb d_sd_by_5 rfl (lv_at hl 1 rfl) ?_
    refine lv_iconst (v := nI 1) hx hb d_sd_by_6 (by decide) ?_
    refine lv_iadd hx hb d_sd_by_7 ?_
    refine xr_i (nI_add _ _) ?_
    refine lv_goto (tgt := 16) hx hb d_sd_by_8 (by decide) ?_
    exact en_i hx hb hr hlk (by rw [Nat.one_mul]) d_sd_by_16
set_option maxRecDepth 10000 in
theorem c_sd_is (l : Launch) (D : va_G) (tys : List (ClassId × FieldType)) (x qw qs qo sz n : Nat) (Wh pv : Int32) : Met l y_sd_is w_sd_is (rL 0 0 0) (va_Pc [.ref x, .int pv] (gP D tys [oD x qw qs qo (nI n) Wh] sz)) (vp_Si (fun r => (¬ pv < 0 ∧ ¬ nI n ≤ pv → r = nI 1) ∧ (pv < 0 ∨ nI n ≤ pv → r = nI 0))) 0 0 (fun _ => False) := by
  refine Met.ofW (cc := b_sd_is) (maxL := 2) (ret := (some .boolean)) (by decide) rfl ?_
  intro p e s m args below meth c s₁ B hml hv
  obtain ⟨rfl, hsz, hP, hK, hD0⟩ := hv
  have hx := B.exec
  have hb := B.bytes
  have hr := B.returns
  have hts := atoms_spec (ws := w_sd_is) B.pre
  have hg : ∀ w ∈ gws, w.before ([.ref x, .int pv] : List Value).toArray s = true := fun w hw => hts w (List.mem_cons_of_mem _ hw)
  have hown : s.vm.findClass "ShareDesk" = some m.cls := findClass_of_methodNamed B.named
  have hlk := B.notSynchronized
  subst hsz
  have hD := hD0
  have hP : va_P D cls2 [oD x qw qs qo (nI n) Wh] s.heap := hP
  have hl := lv_entry ([.ref x, .int pv]) (n := 2) (Nat.le_of_ble_eq_true rfl)
  rw [lg_entry_eq]
  generalize (lg_sl ([.ref x, .int pv]) ++ List.replicate (2 - (lg_sl ([.ref x, .int pv])).length) Slot.unset).toArray = ls at hl ⊢
  have hl : lv_has ls 2 [(0, .ref x), (1, .int pv)] := hl
  refine lv_iload_n hx hb d_sd_is_0 rfl (lv_at hl 1 rfl) ?_
  refine lv_if_lt (tgt := 16) hx hb d_sd_is_1 (by decide) (fun h1 => ?_) (fun h1 => ?_)
  · refine lv_iconst (v := nI 0) hx hb d_sd_is_16 (by decide) ?_
    exact en_z hx hb hr hlk xb0 ⟨fun h => absurd h1 h.1, fun _ => rfl⟩ d_sd_is_17
  · refine lv_iload_n hx hb d_sd_is_4 rfl (lv_at hl 1 rfl) ?_
    refine lv_aload_n hx hb d_sd_is_5 rfl (lv_at hl 0 rfl) ?_
    refine sd_get hx hb hg hown hK hP 0 rfl 3 (by decide) k_20 rfl d_sd_is_6 ?_
    refine lv_icmp_ge (tgt := 16) hx hb d_sd_is_9 (by decide) (fun h2 => ?_) (fun h2 => ?_)
    · refine lv_iconst (v := nI 0) hx hb d_sd_is_16 (by decide) ?_
      exact en_z hx hb hr hlk xb0 ⟨fun h => absurd h2 h.2, fun _ => rfl⟩ d_sd_is_17
    · refine lv_iconst (v := nI 1) hx hb d_sd_is_12 (by decide) ?_
      refine lv_goto (tgt := 17) hx hb d_sd_is_13 (by decide) ?_
      exact en_z hx hb hr hlk xb1 ⟨fun _ => rfl, fun h => h.elim (fun z => absurd z h1) (fun z => absurd z h2)⟩ d_sd_is_17
set_option maxRecDepth 10000 in
theorem c_sd_good (l : Launch) : Met l y_sd_good w_sd_good (rL 0 0 0) (va_Pc [.int (nI 1)] (fun _ => True)) (va_Sv (fun _ => True)) 0 0 (fun _ => False) := by
  refine Met.ofW (cc := b_sd_good) (maxL := 1) (ret := none) (by decide) rfl ?_
  intro p e s m args below meth c s₁ B hml hv
  obtain ⟨rfl, -⟩ := hv
  have hx := B.exec
  have hb := B.bytes
  have hr := B.returns
  have hts := atoms_spec (ws := w_sd_good) B.pre
  have hg : ∀ w ∈ gws, w.before ([.int (nI 1)] : List Value).toArray s = true := fun w hw => hts w (List.mem_cons_of_mem _ hw)
  have hown : s.vm.findClass "ShareDesk" = some m.cls := findClass_of_methodNamed B.named
  have hlk := B.notSynchronized
  have hl := lv_entry ([.int (nI 1)]) (n := 1) (Nat.le_of_ble_eq_true rfl)
  rw [lg_entry_eq]
  generalize (lg_sl ([.int (nI 1)]) ++ List.replicate (1 - (lg_sl ([.int (nI 1)])).length) Slot.unset).toArray = ls at hl ⊢
  have hl : lv_has ls 1 [(0, .int (nI 1))] := hl
  refine lv_iload_n hx hb d_sd_good_0 rfl (lv_at hl 0 rfl) ?_
  refine xz_ne (tgt := 12) hx hb d_sd_good_1 (by decide) (by omega) (fun hc => ?_) (fun hc => ?_)
  · exact en_v hx hb hr hlk trivial d_sd_good_12
  · exact absurd hc (by decide)
set_option maxRecDepth 10000 in
theorem t_sd_good (l : Launch) (htr : l.stackTraces = false) : MetT l y_sd_good w_sd_good (rL 6 1 6) (va_Pc [.int (nI 0)] (fun U => xs noA U U.heap)) sIAE := by
  refine MetT.ofW (cc := b_sd_good) (maxL := 1) (ret := none) (by decide) rfl ?_
  intro p e s m args below meth c s₁ B hml hv
  obtain ⟨rfl, hxs⟩ := hv
  have hx := B.exec
  have hb := B.bytes
  have hr := B.returns
  have hts := atoms_spec (ws := w_sd_good) B.pre
  have hg : ∀ w ∈ gws, w.before ([.int (nI 0)] : List Value).toArray s = true := fun w hw => hts w (List.mem_cons_of_mem _ hw)
  have hown : s.vm.findClass "ShareDesk" = some m.cls := findClass_of_methodNamed B.named
  have hlk := B.notSynchronized
  have hno := B.noHandlers (hts _ List.mem_cons_self)
  have hl := lv_entry ([.int (nI 0)]) (n := 1) (Nat.le_of_ble_eq_true rfl)
  rw [lg_entry_eq]
  generalize (lg_sl ([.int (nI 0)]) ++ List.replicate (1 - (lg_sl ([.int (nI 0)])).length) Slot.unset).toArray = ls at hl ⊢
  have hl : lv_has ls 1 [(0, .int (nI 0))] := hl
  refine lv_iload_n hx hb d_sd_good_0 rfl (lv_at hl 0 rfl) ?_
  refine xz_ne (tgt := 12) hx hb d_sd_good_1 (by decide) (by omega) (fun hc => ?_) (fun hc => ?_)
  · exact absurd hc (by decide)
  · exact thr_new hx hb htr hown hlk hno (hg _ k_45) (hg _ k_46) (hg _ k_6) (by decide +kernel) (oa_iae hg hxs) (hl.1.trans hml.symm) ⟨by decide, by decide, by decide, by decide⟩ d_sd_good_4 d_sd_good_7 d_sd_good_8 d_sd_good_11
set_option maxRecDepth 10000 in
theorem c_sm_thrown (l : Launch) (D : va_G) (tys : List (ClassId × FieldType)) (x mw ms mk mg sz : Nat) (er P : Int32) : Met l y_sm_thrown w_sm_thrown (rL 0 0 0) (va_Pc [.ref x] (gP D tys [oM x er P mw ms mk mg] sz)) (vp_Si (fun r => r = er)) 0 0 (fun _ => False) := by
  refine Met.ofW (cc := b_sm_thrown) (maxL := 1) (ret := (some .int)) (by decide) rfl ?_
  intro p e s m args below meth c s₁ B hml hv
  obtain ⟨rfl, hsz, hP, hK, hD0⟩ := hv
  have hx := B.exec
  have hb := B.bytes
  have hr := B.returns
  have hts := atoms_spec (ws := w_sm_thrown) B.pre
  have hg : ∀ w ∈ gws, w.before ([.ref x] : List Value).toArray s = true := fun w hw => hts w (List.mem_cons_of_mem _ hw)
  have hown : s.vm.findClass "ShareDeskModel" = some m.cls := findClass_of_methodNamed B.named
  have hlk := B.notSynchronized
  subst hsz
  have hD := hD0
  have hP : va_P D cls2 [oM x er P mw ms mk mg] s.heap := hP
  have hl := lv_entry ([.ref x]) (n := 1) (Nat.le_of_ble_eq_true rfl)
  rw [lg_entry_eq]
  generalize (lg_sl ([.ref x]) ++ List.replicate (1 - (lg_sl ([.ref x])).length) Slot.unset).toArray = ls at hl ⊢
  have hl : lv_has ls 1 [(0, .ref x)] := hl
  refine lv_aload_n hx hb d_sm_thrown_0 rfl (lv_at hl 0 rfl) ?_
  refine sm_get hx hb hg hown hK hP 0 rfl 0 (by decide) k_202 rfl d_sm_thrown_1 ?_
  exact en_i hx hb hr hlk rfl d_sm_thrown_4
set_option maxRecDepth 10000 in
theorem c_sm_in (l : Launch) (v a b : Int64) : Met l y_sm_in w_sm_in (rL 0 0 0) (va_Pc [.long v, .long a, .long b] (fun _ => True)) (vp_Si (fun r => (a ≤ v ∧ v ≤ b → r = nI 1) ∧ (v < a ∨ b < v → r = nI 0))) 0 0 (fun _ => False) := by
  refine Met.ofW (cc := b_sm_in) (maxL := 6) (ret := (some .boolean)) (by decide) rfl ?_
  intro p e s m args below meth c s₁ B hml hv
  obtain ⟨rfl, -⟩ := hv
  have hx := B.exec
  have hb := B.bytes
  have hr := B.returns
  have hts := atoms_spec (ws := w_sm_in) B.pre
  have hg : ∀ w ∈ gws, w.before ([.long v, .long a, .long b] : List Value).toArray s = true := fun w hw => hts w (List.mem_cons_of_mem _ hw)
  have hown : s.vm.findClass "ShareDeskModel" = some m.cls := findClass_of_methodNamed B.named
  have hlk := B.notSynchronized
  have hl := lv_entry ([.long v, .long a, .long b]) (n := 6) (Nat.le_of_ble_eq_true rfl)
  rw [lg_entry_eq]
  generalize (lg_sl ([.long v, .long a, .long b]) ++ List.replicate (6 - (lg_sl ([.long v, .long a, .long b])).length) Slot.unset).toArray = ls at hl ⊢
  have hl : lv_has ls 6 [(0, .long v), (2, .long a), (4, .long b)] := hl
  refine lv_lload_n hx hb d_sm_in_0 rfl (lv_at hl 0 rfl) ?_
  refine lv_lload_n hx hb d_sm_in_1 rfl (lv_at hl 1 rfl) ?_
  refine W.lcmp hx hb d_sm_in_2 ?_
  refine lv_if_lt (tgt := 17) hx hb d_sm_in_3 (by decide) (fun h1 => ?_) (fun h1 => ?_)
  · have h1 := (lg_cmp_lt _ _).mp h1
    refine lv_iconst (v := nI 0) hx hb d_sm_in_17 (by decide) ?_
    exact en_z hx hb hr hlk xb0 ⟨fun h => absurd h1 (Int64.not_lt.mpr h.1), fun _ => rfl⟩ d_sm_in_18
  · have h1 : ¬ v < a := fun z => h1 ((lg_cmp_lt _ _).mpr z)
    refine lv_lload_n hx hb d_sm_in_6 rfl (lv_at hl 0 rfl) ?_
    refine lv_lload hx hb d_sm_in_7 (lv_at hl 2 rfl) ?_
    refine W.lcmp hx hb d_sm_in_9 ?_
    refine lv_if_gt (tgt := 17) hx hb d_sm_in_10 (by decide) (fun h2 => ?_) (fun h2 => ?_)
    · have h2 := (lg_cmp_gt _ _).mp h2
      refine lv_iconst (v := nI 0) hx hb d_sm_in_17 (by decide) ?_
      exact en_z hx hb hr hlk xb0 ⟨fun h => absurd h2 (Int64.not_lt.mpr h.2), fun _ => rfl⟩ d_sm_in_18
    · have h2 : ¬ b < v := fun z => h2 ((lg_cmp_gt _ _).mpr z)
      refine lv_iconst (v := nI 1) hx hb d_sm_in_13 (by decide) ?_
      refine lv_goto (tgt := 18) hx hb d_sm_in_14 (by decide) ?_
      exact en_z hx hb hr hlk xb1 ⟨fun _ => rfl, fun h => h.elim (fun z => absurd z h1) (fun z => absurd z h2)⟩ d_sm_in_18
end
section
/-! the reference's small methods -/
theorem ti_lt {v : Int32} {n : Nat} (hn : n < 2 ^ 31) : v < nI n ↔ v.toInt < (n : Int) := by rw [Int32.lt_iff_toInt_lt, nI_toInt hn]
theorem ti_le {v : Int32} {n : Nat} (hn : n < 2 ^ 31) : nI n ≤ v ↔ (n : Int) ≤ v.toInt := by rw [Int32.le_iff_toInt_le, nI_toInt hn]
theorem ti_le' {v : Int32} {n : Nat} (hn : n < 2 ^ 31) : v ≤ nI n ↔ v.toInt ≤ (n : Int) := by rw [Int32.le_iff_toInt_le, nI_toInt hn]
theorem ti_neg {v : Int32} : v < 0 ↔ v.toInt < 0 := by rw [Int32.lt_iff_toInt_lt]; rfl
theorem tl_le {v : Int32} {n : Nat} (hn : n < 2 ^ 31) : lN n ≤ v.toInt64 ↔ (n : Int) ≤ v.toInt := by rw [Int64.le_iff_toInt_le, lN_toInt hn, Int32.toInt_toInt64]
theorem tl_le' {v : Int32} {n : Nat} (hn : n < 2 ^ 31) : v.toInt64 ≤ lN n ↔ v.toInt ≤ (n : Int) := by rw [Int64.le_iff_toInt_le, lN_toInt hn, Int32.toInt_toInt64]
theorem tl_lt {v : Int32} {n : Nat} (hn : n < 2 ^ 31) : v.toInt64 < lN n ↔ v.toInt < (n : Int) := by rw [Int64.lt_iff_toInt_lt, lN_toInt hn, Int32.toInt_toInt64]
theorem tl_lt' {v : Int32} {n : Nat} (hn : n < 2 ^ 31) : lN n < v.toInt64 ↔ (n : Int) < v.toInt := by rw [Int64.lt_iff_toInt_lt, lN_toInt hn, Int32.toInt_toInt64]
/-- 'in' at an int between two naturals -/
abbrev qIn (v : Int32) (a b : Nat) (r : Int32) : Prop := ((a : Int) ≤ v.toInt ∧ v.toInt ≤ (b : Int) → r = nI 1) ∧ (v.toInt < (a : Int) ∨ (b : Int) < v.toInt → r = nI 0)
theorem qIn_of {v : Int32} {a b : Nat} {r : Int32} (ha : a < 2 ^ 31) (hb : b < 2 ^ 31) (h : (lN a ≤ v.toInt64 ∧ v.toInt64 ≤ lN b → r = nI 1) ∧ (v.toInt64 < lN a ∨ lN b < v.toInt64 → r = nI 0)) : qIn v a b r :=
  ⟨fun q => h.1 ⟨(tl_le ha).mpr q.1, (tl_le' hb).mpr q.2⟩, fun q => h.2 (q.imp (tl_lt ha).mpr (tl_lt' hb).mpr)⟩
set_option maxRecDepth 10000 in
theorem c_sm_isWay (l : Launch) (v : Int32) : Met l y_sm_isWay w_sm_isWay (rL 1 0 0) (va_Pc [.int v] (fun _ => True)) (vp_Si (qIn v 0 2)) 0 0 (fun _ => False) := by
  refine Met.ofW (cc := b_sm_isWay) (maxL := 1) (ret := (some .boolean)) (by decide) rfl ?_
  intro p e s m args below meth c s₁ B hml hv
  obtain ⟨rfl, -⟩ := hv
  have hx := B.exec
  have hb := B.bytes
  have hr := B.returns
  have hts := atoms_spec (ws := w_sm_isWay) B.pre
  have hg : ∀ w ∈ gws, w.before ([.int v] : List Value).toArray s = true := fun w hw => hts w (List.mem_cons_of_mem _ hw)
  have hown : s.vm.findClass "ShareDeskModel" = some m.cls := findClass_of_methodNamed B.named
  have hlk := B.notSynchronized
  have hl := lv_entry ([.int v]) (n := 1) (Nat.le_of_ble_eq_true rfl)
  rw [lg_entry_eq]
  generalize (lg_sl ([.int v]) ++ List.replicate (1 - (lg_sl ([.int v])).length) Slot.unset).toArray = ls at hl ⊢
  have hl : lv_has ls 1 [(0, .int v)] := hl
  refine lv_iload_n hx hb d_sm_isWay_0 rfl (lv_at hl 0 rfl) ?_
  refine lv_i2l hx hb d_sm_isWay_1 rfl ?_
  refine lv_lconst (v := lN 0) hx hb d_sm_isWay_2 (by decide) ?_
  refine lv_ldc2 hx hb hown (hg _ k_255) d_sm_isWay_3 ?_
  refine xr_l (show (2 : Int64) = lN 2 by decide) ?_
  refine ps_i hx hb hml hown hg (c_sm_in l v.toInt64 (lN 0) (lN 2)) ⟨k_232, k_233, k_2, k_234⟩ n_sm_in ⟨rfl, rfl, by decide, by decide⟩ hl.1 rfl (by decide) d_sm_isWay_6 ⟨Nat.zero_le _, Nat.zero_le _⟩ (fun r hp => ?_)
  have hq := qIn_of (v := v) (a := 0) (b := 2) (by decide) (by decide) hp
  refine en_z hx hb hr hlk ?_ hq d_sm_isWay_9
  by_cases hc : (0 : Int) ≤ v.toInt ∧ v.toInt ≤ 2
  · rw [hq.1 hc]; rfl
  · rw [hq.2 (by omega)]; rfl
set_option maxRecDepth 10000 in
theorem c_sm_isParty (l : Launch) (D : va_G) (tys : List (ClassId × FieldType)) (x mw ms mk mg sz n : Nat) (er v : Int32) (hn1 : 1 ≤ n) (hn8 : n ≤ 8) : Met l y_sm_isParty w_sm_isParty (rL 1 0 0) (va_Pc [.ref x, .int v] (gP D tys [oM x er (nI n) mw ms mk mg] sz)) (vp_Si (qIn v 0 (n - 1))) 0 0 (fun _ => False) := by
  refine Met.ofW (cc := b_sm_isParty) (maxL := 2) (ret := (some .boolean)) (by decide) rfl ?_
  intro p e s m args below meth c s₁ B hml hv
  obtain ⟨rfl, hsz, hP, hK, hD0⟩ := hv
  have hx := B.exec
  have hb := B.bytes
  have hr := B.returns
  have hts := atoms_spec (ws := w_sm_isParty) B.pre
  have hg : ∀ w ∈ gws, w.before ([.ref x, .int v] : List Value).toArray s = true := fun w hw => hts w (List.mem_cons_of_mem _ hw)
  have hown : s.vm.findClass "ShareDeskModel" = some m.cls := findClass_of_methodNamed B.named
  have hlk := B.notSynchronized
  subst hsz
  have hD := hD0
  have hP : va_P D cls2 [oM x er (nI n) mw ms mk mg] s.heap := hP
  have hl := lv_entry ([.ref x, .int v]) (n := 2) (Nat.le_of_ble_eq_true rfl)
  rw [lg_entry_eq]
  generalize (lg_sl ([.ref x, .int v]) ++ List.replicate (2 - (lg_sl ([.ref x, .int v])).length) Slot.unset).toArray = ls at hl ⊢
  have hl : lv_has ls 2 [(0, .ref x), (1, .int v)] := hl
  refine lv_iload_n hx hb d_sm_isParty_0 rfl (lv_at hl 1 rfl) ?_
  refine lv_i2l hx hb d_sm_isParty_1 rfl ?_
  refine lv_lconst (v := lN 0) hx hb d_sm_isParty_2 (by decide) ?_
  refine lv_aload_n hx hb d_sm_isParty_3 rfl (lv_at hl 0 rfl) ?_
  refine sm_get hx hb hg hown hK hP 0 rfl 1 (by decide) k_203 rfl d_sm_isParty_4 ?_
  refine lv_iconst (v := nI 1) hx hb d_sm_isParty_7 (by decide) ?_
  refine lv_isub hx hb d_sm_isParty_8 ?_
  refine xr_i (pk_sub (by omega)) ?_
  refine lv_i2l (v := lN (n - 1)) hx hb d_sm_isParty_9 (nI_l (by omega)) ?_
  refine ps_i hx hb hml hown hg (c_sm_in l v.toInt64 (lN 0) (lN (n - 1))) ⟨k_232, k_233, k_2, k_234⟩ n_sm_in ⟨rfl, rfl, by decide, by decide⟩ hl.1 rfl (by decide) d_sm_isParty_10 ⟨Nat.zero_le _, Nat.zero_le _⟩ (fun r hp => ?_)
  have hq := qIn_of (v := v) (a := 0) (b := n - 1) (by decide) (by omega) hp
  refine en_z hx hb hr hlk ?_ hq d_sm_isParty_13
  by_cases hc : ((0 : Nat) : Int) ≤ v.toInt ∧ v.toInt ≤ ((n - 1 : Nat) : Int)
  · rw [hq.1 hc]; rfl
  · rw [hq.2 (by omega)]; rfl
set_option maxRecDepth 10000 in
theorem c_sm_fails0 (l : Launch) (D : va_G) (tys : List (ClassId × FieldType)) (x mw ms mk mg sz k : Nat) (P : Int32) : Met l y_sm_fails w_sm_fails (rL 0 0 0) (va_Pc [.ref x, .int (nI 0), .int (nI k)] (gP D tys [oM x (nI 0) P mw ms mk mg] sz)) (vp_Si (fun r => r = nI 0)) 0 0 (fun _ => False) := by
  refine Met.ofW (cc := b_sm_fails) (maxL := 3) (ret := (some .boolean)) (by decide) rfl ?_
  intro p e s m args below meth c s₁ B hml hv
  obtain ⟨rfl, hsz, hP, hK, hD0⟩ := hv
  have hx := B.exec
  have hb := B.bytes
  have hr := B.returns
  have hts := atoms_spec (ws := w_sm_fails) B.pre
  have hg : ∀ w ∈ gws, w.before ([.ref x, .int (nI 0), .int (nI k)] : List Value).toArray s = true := fun w hw => hts w (List.mem_cons_of_mem _ hw)
  have hown : s.vm.findClass "ShareDeskModel" = some m.cls := findClass_of_methodNamed B.named
  have hlk := B.notSynchronized
  subst hsz
  have hD := hD0
  have hP : va_P D cls2 [oM x (nI 0) P mw ms mk mg] s.heap := hP
  have hl := lv_entry ([.ref x, .int (nI 0), .int (nI k)]) (n := 3) (Nat.le_of_ble_eq_true rfl)
  rw [lg_entry_eq]
  generalize (lg_sl ([.ref x, .int (nI 0), .int (nI k)]) ++ List.replicate (3 - (lg_sl ([.ref x, .int (nI 0), .int (nI k)])).length) Slot.unset).toArray = ls at hl ⊢
  have hl : lv_has ls 3 [(0, .ref x), (1, .int (nI 0)), (2, .int (nI k))] := hl
  refine lv_iload_n hx hb d_sm_fails_0 rfl (lv_at hl 1 rfl) ?_
  refine xz_eq (tgt := 16) hx hb d_sm_fails_1 (by decide) (by omega) (fun hc => ?_) (fun hc => ?_)
  · refine lv_aload_n hx hb d_sm_fails_16 rfl (lv_at hl 0 rfl) ?_
    refine sm_get hx hb hg hown hK hP 0 rfl 0 (by decide) k_202 rfl d_sm_fails_17 ?_
    refine xz_eq (tgt := 27) hx hb d_sm_fails_20 (by decide) (by omega) (fun h2 => ?_) (fun h2 => ?_)
    · refine lv_iconst (v := nI 0) hx hb d_sm_fails_27 (by decide) ?_
      exact en_z hx hb hr hlk xb0 rfl d_sm_fails_28
    · exact absurd h2 (by decide)
  · exact absurd hc (by decide)
set_option maxRecDepth 10000 in
theorem c_sm_fails1 (l : Launch) (D : va_G) (tys : List (ClassId × FieldType)) (x mw ms mk mg sz k : Nat) (P : Int32) (hk : 0 < k) (hk2 : k < 3) : Met l y_sm_fails w_sm_fails (rL 0 0 0) (va_Pc [.ref x, .int (nI 1), .int (nI k)] (gP D tys [oM x (nI 0) P mw ms mk mg] sz)) (va_Qi (fun r (_ : Unit) => r = nI 1) (gB D tys (va_A [oM x (nI 0) P mw ms mk mg] sz) (fun _ => [oM x (nI k) P mw ms mk mg])) (va_A [oM x (nI 0) P mw ms mk mg] sz)) 0 0 (va_A [oM x (nI 0) P mw ms mk mg] sz) := by
  refine Met.ofW (cc := b_sm_fails) (maxL := 3) (ret := (some .boolean)) (by decide) rfl ?_
  intro p e s m args below meth c s₁ B hml hv
  obtain ⟨rfl, hsz, hP, hK, hD0⟩ := hv
  have hx := B.exec
  have hb := B.bytes
  have hr := B.returns
  have hts := atoms_spec (ws := w_sm_fails) B.pre
  have hg : ∀ w ∈ gws, w.before ([.ref x, .int (nI 1), .int (nI k)] : List Value).toArray s = true := fun w hw => hts w (List.mem_cons_of_mem _ hw)
  have hown : s.vm.findClass "ShareDeskModel" = some m.cls := findClass_of_methodNamed B.named
  have hlk := B.notSynchronized
  subst hsz
  have hD := hD0.self (sz := s.heap.size)
  generalize hAe : va_A [oM x (nI 0) P mw ms mk mg] s.heap.size = A at hD ⊢
  have hA : ∀ q : Nat, s.heap.size ≤ q → A q := fun q h => by rw [← hAe]; exact Or.inr h
  have hS : va_S A s.heap s.heap [] := va_S.rf
  have hP : va_P D cls2 [oM x (nI 0) P mw ms mk mg] s.heap := hP
  have hl := lv_entry ([.ref x, .int (nI 1), .int (nI k)]) (n := 3) (Nat.le_of_ble_eq_true rfl)
  rw [lg_entry_eq]
  generalize (lg_sl ([.ref x, .int (nI 1), .int (nI k)]) ++ List.replicate (3 - (lg_sl ([.ref x, .int (nI 1), .int (nI k)])).length) Slot.unset).toArray = ls at hl ⊢
  have hl : lv_has ls 3 [(0, .ref x), (1, .int (nI 1)), (2, .int (nI k))] := hl
  refine lv_iload_n hx hb d_sm_fails_0 rfl (lv_at hl 1 rfl) ?_
  refine xz_eq (tgt := 16) hx hb d_sm_fails_1 (by decide) (by omega) (fun hc => ?_) (fun hc => ?_)
  · exact absurd hc (by decide)
  · refine lv_aload_n hx hb d_sm_fails_4 rfl (lv_at hl 0 rfl) ?_
    refine sm_get hx hb hg hown hK hP 0 rfl 0 (by decide) k_202 rfl d_sm_fails_5 ?_
    refine xz_ne (tgt := 16) hx hb d_sm_fails_8 (by decide) (by omega) (fun h2 => ?_) (fun h2 => ?_)
    · exact absurd h2 (by decide)
    · refine lv_aload_n hx hb d_sm_fails_11 rfl (lv_at hl 0 rfl) ?_
      refine lv_iload_n hx hb d_sm_fails_12 rfl (lv_at hl 2 rfl) ?_
      refine sm_put hx hb hg hown hK hP hD hS 0 rfl 0 (by decide) k_202 rfl (by decide +kernel) (Nat.le_of_ble_eq_true rfl) d_sm_fails_13 (fun H locs hP hD hS => ?_)
      have hP : va_P D cls2 [oM x (nI k) P mw ms mk mg] H := hP
      have hD : va_D A [oM x (nI k) P mw ms mk mg] := hD
      refine lv_aload_n hx hb d_sm_fails_16 rfl (lv_at hl 0 rfl) ?_
      refine sm_get hx hb hg hown hK hP 0 rfl 0 (by decide) k_202 rfl d_sm_fails_17 ?_
      refine xz_eq (tgt := 27) hx hb d_sm_fails_20 (by decide) (by omega) (fun h3 => ?_) (fun h3 => ?_)
      · exact absurd h3 (by omega)
      · refine lv_iconst (v := nI 1) hx hb d_sm_fails_23 (by decide) ?_
        refine lv_goto (tgt := 28) hx hb d_sm_fails_24 (by decide) ?_
        exact en_gz () hx hb hr hlk xb1 rfl hP hK hD hS d_sm_fails_28
section LPA
variable {p : Program} {l : Launch} {e : Env} {R : Room} {s : State} {m : MethodId} {args : Array Value} {below : List Frame} {meth : Method} {c : Code} {H : Heap} {locs : List Loc} {cells slots : Nat} {Q : State → Prop}
variable {D : va_G} {A : Nat → Prop} {tys : List (ClassId × FieldType)}
set_option maxRecDepth 10000 in
theorem lp_sm_all {x mw ms mk mg n : Nat} {er : Int32} {cJ cZ : ClassId} {gw : Nat → Int64} {w : Nat → Nat} (hx : p.tables.exec = Jvm.exec) (hb : c.code = b_sm_all) (hg : ∀ w ∈ gws, w.before args s = true) (hown : s.vm.findClass "ShareDeskModel" = some m.cls) (hK : va_K D cls2 [(cJ, .long), (cZ, .boolean)] s) (hP : va_P D cls2 [oM x er (nI n) mw ms mk mg, aL mw cJ gw] H) (hn8 : n ≤ 8) (hgw : ∀ q, q < 8 → gw q = lN (w q))
    (kk : ∀ ls : Array Slot, lv_has ls 4 [(3, .int (nI n)), (1, .long (lN (pu_sum w n))), (0, .ref x)] → W p l e R s m args below meth c H locs cells slots Q (F0 m 27 ls [])) : ∀ (j i : Nat) (ls : Array Slot), i + j = n → lv_has ls 4 [(3, .int (nI i)), (1, .long (lN (pu_sum w i))), (0, .ref x)] → W p l e R s m args below meth c H locs cells slots Q (F0 m 4 ls []) := by
  intro j
  induction j with
  | zero => 
    intro i ls hi hl
    refine lv_iload_n hx hb d_sm_all_4 rfl (lv_at hl 0 rfl) ?_
    refine lv_aload_n hx hb d_sm_all_5 rfl (lv_at hl 2 rfl) ?_
    refine sm_get hx hb hg hown hK hP 0 rfl 1 (by decide) k_203 rfl d_sm_all_6 ?_
    refine xc_ge (tgt := 27) hx hb d_sm_all_9 (by decide) (by omega) (by omega) (fun hc => ?_) (fun hc => ?_)
    · have : i = n := by omega
      subst this
      exact kk ls hl
    · exact absurd hc (by omega)
  | succ j ih =>
    intro i ls hi hl
    refine lv_iload_n hx hb d_sm_all_4 rfl (lv_at hl 0 rfl) ?_
    refine lv_aload_n hx hb d_sm_all_5 rfl (lv_at hl 2 rfl) ?_
    refine sm_get hx hb hg hown hK hP 0 rfl 1 (by decide) k_203 rfl d_sm_all_6 ?_
    refine xc_ge (tgt := 27) hx hb d_sm_all_9 (by decide) (by omega) (by omega) (fun hc => ?_) (fun hc => ?_)
    · exact absurd hc (by omega)
    · refine lv_lload_n hx hb d_sm_all_12 rfl (lv_at hl 1 rfl) ?_
      refine lv_aload_n hx hb d_sm_all_13 rfl (lv_at hl 2 rfl) ?_
      refine sm_get hx hb hg hown hK hP 0 rfl 2 (by decide) k_204 rfl d_sm_all_14 ?_
      refine lv_iload_n hx hb d_sm_all_17 rfl (lv_at hl 0 rfl) ?_
      refine xa_lald hx hb hK hP 1 0 rfl rfl (by omega) d_sm_all_18 (v := lN (w i)) (hgw i (by omega)) ?_
      refine lv_ladd hx hb d_sm_all_19 ?_
      refine xr_l (lN_add _ _) ?_
      refine lv_lstore_n (lv' := [(1, .long (lN ((pu_sum w i) + (w i)))), (3, .int (nI i)), (0, .ref x)]) hx hb d_sm_all_20 rfl hl (by decide) rfl (fun ls hl => ?_)
      refine lv_iinc (k := 1) (v := nI (i + 1)) (lv' := [(3, .int (nI (i + 1))), (1, .long (lN ((pu_sum w i) + (w i)))), (0, .ref x)]) hx hb d_sm_all_21 hl rfl (xinc _) (by decide) rfl (fun ls hl => ?_)
      refine lv_goto (tgt := 4) hx hb d_sm_all_24 (by decide) ?_
      exact ih (i + 1) ls (by omega) (lv_sub hl [0, 1, 2] rfl)
end LPA
set_option maxRecDepth 10000 in
theorem c_sm_all (l : Launch) (D : va_G) (cJ cZ : ClassId) (x mw ms mk mg sz n : Nat) (er : Int32) (gw : Nat → Int64) (w : Nat → Nat) (hn8 : n ≤ 8) (hgw : ∀ q, q < 8 → gw q = lN (w q)) : Met l y_sm_all w_sm_all (rL 0 0 0) (va_Pc [.ref x] (gP D [(cJ, .long), (cZ, .boolean)] [oM x er (nI n) mw ms mk mg, aL mw cJ gw] sz)) (vp_Sl (fun r => r = lN (pu_sum w n))) 0 0 (fun _ => False) := by
  refine Met.ofW (cc := b_sm_all) (maxL := 4) (ret := (some .long)) (by decide) rfl ?_
  intro p e s m args below meth c s₁ B hml hv
  obtain ⟨rfl, hsz, hP, hK, hD0⟩ := hv
  have hx := B.exec
  have hb := B.bytes
  have hr := B.returns
  have hts := atoms_spec (ws := w_sm_all) B.pre
  have hg : ∀ w ∈ gws, w.before ([.ref x] : List Value).toArray s = true := fun w hw => hts w (List.mem_cons_of_mem _ hw)
  have hown : s.vm.findClass "ShareDeskModel" = some m.cls := findClass_of_methodNamed B.named
  have hlk := B.notSynchronized
  subst hsz
  have hD := hD0
  have hP : va_P D cls2 [oM x er (nI n) mw ms mk mg, aL mw cJ gw] s.heap := hP
  have hl := lv_entry ([.ref x]) (n := 4) (Nat.le_of_ble_eq_true rfl)
  rw [lg_entry_eq]
  generalize (lg_sl ([.ref x]) ++ List.replicate (4 - (lg_sl ([.ref x])).length) Slot.unset).toArray = ls at hl ⊢
  have hl : lv_has ls 4 [(0, .ref x)] := hl
  refine lv_lconst (v := lN 0) hx hb d_sm_all_0 (by decide) ?_
  refine lv_lstore_n (lv' := [(1, .long (lN 0)), (0, .ref x)]) hx hb d_sm_all_1 rfl hl (by decide) rfl (fun ls hl => ?_)
  refine lv_iconst (v := nI 0) hx hb d_sm_all_2 (by decide) ?_
  refine lv_istore_n (lv' := [(3, .int (nI 0)), (1, .long (lN 0)), (0, .ref x)]) hx hb d_sm_all_3 rfl hl (by decide) rfl (fun ls hl => ?_)
  refine lp_sm_all hx hb hg hown hK hP hn8 hgw (fun ls hl => ?_) n 0 ls (by omega) (lv_sub hl [0, 1, 2] rfl)
  refine lv_lload_n hx hb d_sm_all_27 rfl (lv_at hl 1 rfl) ?_
  exact en_l hx hb hr hlk rfl d_sm_all_28
end
section
/-! bits (a family of kit/laws/BITS.to-paste), and what both walks of the rests need -/
def bt (x : Int32) (i : Nat) : Bool := x.toBitVec.getLsbD i
theorem b_ext {x y : Int32} (h : ∀ i, i < 32 → bt x i = bt y i) : x = y := Int32.toBitVec_inj.mp (BitVec.eq_of_getLsbD_eq (fun i hi => h i hi))
theorem b_or (x y : Int32) (i : Nat) : bt (x ||| y) i = (bt x i || bt y i) := by unfold bt; rw [Int32.toBitVec_or, BitVec.getLsbD_or]
theorem b_and (x y : Int32) (i : Nat) : bt (x &&& y) i = (bt x i && bt y i) := by unfold bt; rw [Int32.toBitVec_and, BitVec.getLsbD_and]
theorem b_xor (x y : Int32) (i : Nat) : bt (x ^^^ y) i = (bt x i ^^ bt y i) := by unfold bt; rw [Int32.toBitVec_xor, BitVec.getLsbD_xor]
theorem b_big {x : Int32} {i : Nat} (h : 32 ≤ i) : bt x i = false := BitVec.getLsbD_of_ge _ _ h
theorem b_255 (i : Nat) : bt 255 i = decide (i < 8) := by
  rcases Nat.lt_or_ge i 32 with h | h
  · exact (by decide +kernel : ∀ i, i < 32 → bt 255 i = decide (i < 8)) i h
  · rw [b_big h, decide_eq_false (by omega)]
theorem b_65535 (i : Nat) : bt 65535 i = decide (i < 16) := by
  rcases Nat.lt_or_ge i 32 with h | h
  · exact (by decide +kernel : ∀ i, i < 32 → bt 65535 i = decide (i < 16)) i h
  · rw [b_big h, decide_eq_false (by omega)]
theorem b_m1 : ∀ i, i < 32 → bt (-1) i = true := by decide +kernel
theorem b_0 (i : Nat) : bt 0 i = false := BitVec.getLsbD_zero
theorem s_l : ∀ n, n < 32 → ((nI n &&& 31).toBitVec.smod 32).toNat = n := by decide +kernel
theorem s_u : ∀ n, n < 32 → (((nI n).toUInt32 &&& Int32.toUInt32 31).toBitVec % 32).toNat = n := by decide +kernel
theorem b_shl (n : Nat) (hn : n < 32) (x : Int32) {i : Nat} (hi : i < 32) : bt (x <<< (nI n &&& 31)) i = (decide (n ≤ i) && bt x (i - n)) := by
  unfold bt
  rw [Int32.toBitVec_shiftLeft]
  show (x.toBitVec <<< ((nI n &&& 31).toBitVec.smod 32).toNat).getLsbD i = _
  rw [s_l n hn, BitVec.getLsbD_shiftLeft]
  rcases Nat.lt_or_ge i n with h | h
  · simp [h, Nat.not_le.mpr h]
  · simp [hi, h, Nat.not_lt.mpr h]
theorem b_ushr (n : Nat) (hn : n < 32) (x : Int32) (i : Nat) : bt ((x.toUInt32 >>> ((nI n).toUInt32 &&& Int32.toUInt32 31)).toInt32) i = bt x (n + i) := by
  show (x.toUInt32 >>> ((nI n).toUInt32 &&& Int32.toUInt32 31)).toBitVec.getLsbD i = x.toUInt32.toBitVec.getLsbD (n + i)
  rw [UInt32.toBitVec_shiftRight]
  show (x.toUInt32.toBitVec >>> (((nI n).toUInt32 &&& Int32.toUInt32 31).toBitVec % 32).toNat).getLsbD i = _
  rw [s_u n hn, BitVec.getLsbD_ushiftRight]
theorem b_sshr (n : Nat) (hn : n < 32) (x : Int32) {i : Nat} (hi : i < 32) : bt (x >>> (nI n &&& 31)) i = if n + i < 32 then bt x (n + i) else bt x 31 := by
  unfold bt
  rw [Int32.toBitVec_shiftRight]
  show (x.toBitVec.sshiftRight ((nI n &&& 31).toBitVec.smod 32).toNat).getLsbD i = _
  rw [s_l n hn, BitVec.getLsbD_sshiftRight, BitVec.msb_eq_getLsbD_last]
  simp [hi]
theorem b_one : ∀ i, i < 32 → bt (nI 1) i = decide (i = 0) := by decide +kernel
theorem gb_zero (x : Int32) {q : Nat} (hq : q < 8) : (x >>> (nI q &&& 31)) &&& nI 1 = 0 ↔ bt x q = false := by
  constructor
  · intro h
    have h0 : bt ((x >>> (nI q &&& 31)) &&& nI 1) 0 = false := by rw [h]; exact b_0 0
    rw [b_and, b_one 0 (by omega), b_sshr q (by omega) x (by omega : 0 < 32), if_pos (by omega)] at h0
    simpa using h0
  · intro h
    refine b_ext (fun i hi => ?_)
    rw [b_and, b_one i hi, b_0]
    by_cases e : i = 0
    · subst e
      rw [b_sshr q (by omega) x (by omega : 0 < 32), if_pos (by omega), Nat.add_zero, h]
      rfl
    · rw [decide_eq_false e, Bool.and_false]
theorem gb_or (x : Int32) {b q : Nat} (hb : b < 8) (hq : q < 8) : bt (x ||| (nI 1 <<< (nI b &&& 31))) q = (bt x q || decide (q = b)) := by
  rw [b_or, b_shl b (by omega) (nI 1) (by omega : q < 32), b_one (q - b) (by omega)]
  congr 1
  by_cases e : q = b
  · subst e; simp
  · rcases Nat.lt_or_ge q b with z | z
    · simp [e]; omega
    · simp [e]; omega
theorem pu_sum_mono (f : Nat → Nat) {i : Nat} : ∀ {n : Nat}, i ≤ n → pu_sum f i ≤ pu_sum f n
  | 0, h => by have : i = 0 := by omega
               subst this; exact Nat.le_refl _
  | n + 1, h => by
    rcases Nat.lt_or_ge i (n + 1) with z | z
    · have := pu_sum_mono f (n := n) (show i ≤ n by omega)
      simp only [pu_sum]; omega
    · have : i = n + 1 := by omega
      subst this; exact Nat.le_refl _
theorem pu_sum_bd {w : Nat → Nat} {n : Nat} (hn : n ≤ 8) (hw : ∀ q, w q ≤ 100000) : pu_sum w n ≤ 800000 := by
  have h := pu_sum_le (f := w) (g := fun _ => 100000) (n := n) (fun p _ => hw p)
  rw [pu_sum_const] at h
  omega
theorem mw_bd {m v : Nat} (hm : m ≤ 10000) (hv : v ≤ 100000) : m * v ≤ 1000000000 := Nat.mul_le_mul hm hv
/-- the best so far, and its rest -/
def pu_bm (o : Option Nat) (r : Nat → Nat) (bst : Int32) (mst : Int64) : Prop := match o with
  | none => bst = -1 ∧ mst = -1
  | some b => bst = nI b ∧ mst = lN (r b)
theorem lN_gem1 {a : Nat} (h : a < 2 ^ 63) : ¬ lN a ≤ (-1 : Int64) := by
  rw [Int64.le_iff_toInt_le, pk_lT h]
  have : (-1 : Int64).toInt = -1 := by decide
  omega
theorem pu_bm_t {g : Nat → Bool} {r : Nat → Nat} {i : Nat} {bst : Int32} {mst : Int64} (h : pu_bm (pu_pk g r i) r bst mst) (hg : g i = true) : pu_bm (pu_pk g r (i + 1)) r bst mst := by
  rw [pu_pk]
  cases hq : pu_pk g r i with
  | none => rw [hq] at h; simp only [if_pos hg]; exact h
  | some b => rw [hq] at h; simp only [hg, Bool.true_eq_false, false_and, if_false]; exact h
theorem pu_bm_f {g : Nat → Bool} {r : Nat → Nat} {i : Nat} {bst : Int32} {mst : Int64} (h : pu_bm (pu_pk g r i) r bst mst) (hg : g i = false) (hr : ∀ q, r q < 2 ^ 63) (hle : lN (r i) ≤ mst) : pu_bm (pu_pk g r (i + 1)) r bst mst := by
  rw [pu_pk]
  cases hq : pu_pk g r i with
  | none => rw [hq] at h; obtain ⟨-, rfl⟩ := h; exact absurd hle (lN_gem1 (hr i))
  | some b =>
    rw [hq] at h
    obtain ⟨rfl, rfl⟩ := h
    have := (pk_lLE (hr i) (hr b)).mp hle
    simp only [hg, true_and, if_neg (show ¬ r b < r i by omega)]
    exact ⟨rfl, rfl⟩
theorem pu_bm_n {g : Nat → Bool} {r : Nat → Nat} {i : Nat} {bst : Int32} {mst : Int64} (h : pu_bm (pu_pk g r i) r bst mst) (hg : g i = false) (hr : ∀ q, r q < 2 ^ 63) (hle : ¬ lN (r i) ≤ mst) : pu_bm (pu_pk g r (i + 1)) r (nI i) (lN (r i)) := by
  rw [pu_pk]
  cases hq : pu_pk g r i with
  | none => simp only [hg, Bool.false_eq_true, if_false]; exact ⟨rfl, rfl⟩
  | some b =>
    rw [hq] at h
    obtain ⟨rfl, rfl⟩ := h
    have : r b < r i := Nat.lt_of_not_le (fun q => hle ((pk_lLE (hr i) (hr b)).mpr q))
    simp only [hg, true_and, if_pos this]
    exact ⟨rfl, rfl⟩
end
section
/-! ShareDesk.rests -/
section RST
variable {p : Program} {l : Launch} {e : Env} {R : Room} {s : State} {m : MethodId} {args : Array Value} {below : List Frame} {meth : Method} {c : Code} {cells slots : Nat} {Q : State → Prop}
variable {D : va_G} {A : Nat → Prop} {x qw qs qo qt n mm : Nat} {cI : ClassId} {fw : Nat → Int32} {w : Nat → Nat}
set_option maxRecDepth 10000 in
set_option maxHeartbeats 4000000 in
theorem lp_rests1 (hx : p.tables.exec = Jvm.exec) (hb : c.code = b_sd_rests) (hg : ∀ w ∈ gws, w.before args s = true) (hown : s.vm.findClass "ShareDesk" = some m.cls) (hK : va_K D cls2 [(cI, .int)] s) (hn8 : n ≤ 8) (hm : mm ≤ 10000) (hw : ∀ q, w q ≤ 100000) (hW : 0 < pu_sum w n) (hfw : ∀ q, q < 8 → fw q = nI (w q))
    (kk : ∀ (H : Heap) (locs : List Loc) (ls : Array Slot) (ft : Nat → Int32), (∀ q, q < n → ft q = nI (pu_b n w mm q)) → va_P D cls2 [oD x qw qs qo (nI n) (nI (pu_sum w n)), aI qw cI fw, aI qt cI ft] H → va_D A [oD x qw qs qo (nI n) (nI (pu_sum w n)), aI qw cI fw, aI qt cI ft] → va_S A s.heap H locs → lv_has ls 11 [(4, .int (nI 0)), (3, .int (nI (mm - pu_sum (pu_b n w mm) n))), (2, .ref qt), (1, .int (nI mm)), (0, .ref x)] → W p l e R s m args below meth c H locs cells slots Q (F0 m 52 ls [])) :
    ∀ (j i : Nat) (H : Heap) (locs : List Loc) (ls : Array Slot) (ft : Nat → Int32), i + j = n → (∀ q, q < i → ft q = nI (pu_b n w mm q)) → va_P D cls2 [oD x qw qs qo (nI n) (nI (pu_sum w n)), aI qw cI fw, aI qt cI ft] H → va_D A [oD x qw qs qo (nI n) (nI (pu_sum w n)), aI qw cI fw, aI qt cI ft] → va_S A s.heap H locs → lv_has ls 11 [(5, .int (nI i)), (4, .int (nI 0)), (3, .int (nI (mm - pu_sum (pu_b n w mm) i))), (2, .ref qt), (1, .int (nI mm)), (0, .ref x)] → W p l e R s m args below meth c H locs cells slots Q (F0 m 8 ls []) := by
  have hWb := pu_sum_bd hn8 hw
  intro j
  induction j with
  | zero =>
    intro i H locs ls ft hi hft hP hD hS hl
    refine lv_iload hx hb d_sd_rests_8 (lv_at hl 0 rfl) ?_
    refine lv_aload_n hx hb d_sd_rests_10 rfl (lv_at hl 5 rfl) ?_
    refine sd_get hx hb hg hown hK hP 0 rfl 3 (by decide) k_20 rfl d_sd_rests_11 ?_
    refine xc_ge (tgt := 52) hx hb d_sd_rests_14 (by decide) (by omega) (by omega) (fun hc => ?_) (fun hc => ?_)
    · have : i = n := by omega
      subst this
      exact kk H locs ls ft hft hP hD hS (lv_sub hl [1, 2, 3, 4, 5] rfl)
    · exact absurd hc (by omega)
  | succ j ih =>
    intro i H locs ls ft hi hft hP hD hS hl
    refine lv_iload hx hb d_sd_rests_8 (lv_at hl 0 rfl) ?_
    refine lv_aload_n hx hb d_sd_rests_10 rfl (lv_at hl 5 rfl) ?_
    refine sd_get hx hb hg hown hK hP 0 rfl 3 (by decide) k_20 rfl d_sd_rests_11 ?_
    refine xc_ge (tgt := 52) hx hb d_sd_rests_14 (by decide) (by omega) (by omega) (fun hc => ?_) (fun hc => ?_)
    · exact absurd hc (by omega)
    · have hwi := hw i
      have hmw := mw_bd hm hwi
      have hq : mm * w i / pu_sum w n ≤ mm * w i := Nat.div_le_self _ _
      have hsum : pu_sum (pu_b n w mm) (i + 1) = pu_sum (pu_b n w mm) i + mm * w i / pu_sum w n := rfl
      have hle := pu_sum_mono (pu_b n w mm) (show i + 1 ≤ n by omega)
      have hle2 := (pu_rests mm hW).1
      refine lv_aload_n hx hb d_sd_rests_17 rfl (lv_at hl 3 rfl) ?_
      refine lv_iload hx hb d_sd_rests_18 (lv_at hl 0 rfl) ?_
      refine lv_iload_n hx hb d_sd_rests_20 rfl (lv_at hl 4 rfl) ?_
      refine lv_i2l (v := lN mm) hx hb d_sd_rests_21 (nI_l (by omega)) ?_
      refine lv_aload_n hx hb d_sd_rests_22 rfl (lv_at hl 5 rfl) ?_
      refine sd_get hx hb hg hown hK hP 0 rfl 0 (by decide) k_17 rfl d_sd_rests_23 ?_
      refine lv_iload hx hb d_sd_rests_26 (lv_at hl 0 rfl) ?_
      refine xa_iald hx hb hK hP 1 0 rfl rfl (by omega) d_sd_rests_28 (v := nI (w i)) (hfw i (by omega)) ?_
      refine lv_i2l (v := lN (w i)) hx hb d_sd_rests_29 (nI_l (by omega)) ?_
      refine lv_lmul hx hb d_sd_rests_30 ?_
      refine xr_l (lN_mul _ _) ?_
      refine lv_aload_n hx hb d_sd_rests_31 rfl (lv_at hl 5 rfl) ?_
      refine sd_get hx hb hg hown hK hP 0 rfl 4 (by decide) k_21 rfl d_sd_rests_32 ?_
      refine lv_i2l (v := lN (pu_sum w n)) hx hb d_sd_rests_35 (nI_l (by omega)) ?_
      refine lv_ldiv hx hb d_sd_rests_36 (lN_ne0 (by omega) (by omega)) ?_
      refine xr_l (pk_lDiv (by omega) (by omega) (by omega)) ?_
      refine lv_l2i (v := nI ((mm * (w i)) / (pu_sum w n))) hx hb d_sd_rests_37 (lN_i _) ?_
      refine xa_iast hx hb hK hP hD hS 2 0 rfl rfl (by omega) d_sd_rests_38 (fun H locs hP hD hS => ?_)
      have hP : va_P D cls2 [oD x qw qs qo (nI n) (nI (pu_sum w n)), aI qw cI fw, aI qt cI (upd ft i (nI ((mm * (w i)) / (pu_sum w n))))] H := hP
      have hD : va_D A [oD x qw qs qo (nI n) (nI (pu_sum w n)), aI qw cI fw, aI qt cI (upd ft i (nI ((mm * (w i)) / (pu_sum w n))))] := hD
      refine lv_iload_n hx hb d_sd_rests_39 rfl (lv_at hl 2 rfl) ?_
      refine lv_aload_n hx hb d_sd_rests_40 rfl (lv_at hl 3 rfl) ?_
      refine lv_iload hx hb d_sd_rests_41 (lv_at hl 0 rfl) ?_
      refine xa_iald hx hb hK hP 2 0 rfl rfl (by omega) d_sd_rests_43 (v := nI (mm * w i / pu_sum w n)) pk_us ?_
      refine lv_isub hx hb d_sd_rests_44 ?_
      refine xr_i (y := nI (mm - pu_sum (pu_b n w mm) (i + 1))) (by rw [pk_sub (by omega), hsum, Nat.sub_sub]) ?_
      refine lv_istore_n (lv' := [(3, .int (nI (mm - pu_sum (pu_b n w mm) (i + 1)))), (5, .int (nI i)), (4, .int (nI 0)), (2, .ref qt), (1, .int (nI mm)), (0, .ref x)]) hx hb d_sd_rests_45 rfl hl (by decide) rfl (fun ls hl => ?_)
      refine lv_iinc (k := 1) (v := nI (i + 1)) (lv' := [(5, .int (nI (i + 1))), (3, .int (nI (mm - pu_sum (pu_b n w mm) (i + 1)))), (4, .int (nI 0)), (2, .ref qt), (1, .int (nI mm)), (0, .ref x)]) hx hb d_sd_rests_46 hl rfl (xinc _) (by decide) rfl (fun ls hl => ?_)
      refine lv_goto (tgt := 8) hx hb d_sd_rests_49 (by decide) ?_
      refine ih (i + 1) H locs ls _ (by omega) (fun q hq2 => ?_) hP hD hS (lv_sub hl [0, 2, 1, 3, 4, 5] rfl)
      by_cases e9 : q = i
      · subst e9; exact pk_us
      · rw [pk_un e9]; exact hft q (by omega)
set_option maxRecDepth 10000 in
set_option maxHeartbeats 4000000 in
theorem lp_rests3 {k : Nat} {g : Nat → Bool} {gone : Int32} {H : Heap} {locs : List Loc} {ft : Nat → Int32} (hx : p.tables.exec = Jvm.exec) (hb : c.code = b_sd_rests) (hg : ∀ w ∈ gws, w.before args s = true) (hown : s.vm.findClass "ShareDesk" = some m.cls) (hK : va_K D cls2 [(cI, .int)] s) (hn8 : n ≤ 8) (hm : mm ≤ 10000) (hw : ∀ q, w q ≤ 100000) (hW : 0 < pu_sum w n) (hfw : ∀ q, q < 8 → fw q = nI (w q)) (hgo : ∀ q, q < 8 → bt gone q = g q) (hP : va_P D cls2 [oD x qw qs qo (nI n) (nI (pu_sum w n)), aI qw cI fw, aI qt cI ft] H)
    (kk : ∀ (ls : Array Slot) (bst : Int32) (mst : Int64), pu_bm (pu_pk g (pu_r n w mm) n) (pu_r n w mm) bst mst → lv_has ls 11 [(5, .int bst), (4, .int gone), (3, .int (nI k)), (2, .ref qt), (1, .int (nI mm)), (0, .ref x)] → W p l e R s m args below meth c H locs cells slots Q (F0 m 127 ls [])) :
    ∀ (j i : Nat) (ls : Array Slot) (bst : Int32) (mst : Int64), i + j = n → pu_bm (pu_pk g (pu_r n w mm) i) (pu_r n w mm) bst mst → lv_has ls 11 [(8, .int (nI i)), (6, .long mst), (5, .int bst), (4, .int gone), (3, .int (nI k)), (2, .ref qt), (1, .int (nI mm)), (0, .ref x)] → W p l e R s m args below meth c H locs cells slots Q (F0 m 67 ls []) := by
  have hWb := pu_sum_bd hn8 hw
  have hrb : ∀ q, (pu_r n w mm) q < 2 ^ 63 := fun q => Nat.lt_of_lt_of_le (Nat.mod_lt _ hW) (by omega)
  intro j
  induction j with
  | zero =>
    intro i ls bst mst hi hbm hl
    refine lv_iload hx hb d_sd_rests_67 (lv_at hl 0 rfl) ?_
    refine lv_aload_n hx hb d_sd_rests_69 rfl (lv_at hl 7 rfl) ?_
    refine sd_get hx hb hg hown hK hP 0 rfl 3 (by decide) k_20 rfl d_sd_rests_70 ?_
    refine xc_ge (tgt := 127) hx hb d_sd_rests_73 (by decide) (by omega) (by omega) (fun hc => ?_) (fun hc => ?_)
    · have : i = n := by omega
      subst this
      exact kk ls bst mst hbm (lv_sub hl [2, 3, 4, 5, 6, 7] rfl)
    · exact absurd hc (by omega)
  | succ j ih =>
    intro i ls bst mst hi hbm hl
    refine lv_iload hx hb d_sd_rests_67 (lv_at hl 0 rfl) ?_
    refine lv_aload_n hx hb d_sd_rests_69 rfl (lv_at hl 7 rfl) ?_
    refine sd_get hx hb hg hown hK hP 0 rfl 3 (by decide) k_20 rfl d_sd_rests_70 ?_
    refine xc_ge (tgt := 127) hx hb d_sd_rests_73 (by decide) (by omega) (by omega) (fun hc => ?_) (fun hc => ?_)
    · exact absurd hc (by omega)
    · have hwi := hw i
      have hmw := mw_bd hm hwi
      refine lv_iload_n hx hb d_sd_rests_76 rfl (lv_at hl 6 rfl) ?_
      refine lv_i2l (v := lN mm) hx hb d_sd_rests_77 (nI_l (by omega)) ?_
      refine lv_aload_n hx hb d_sd_rests_78 rfl (lv_at hl 7 rfl) ?_
      refine sd_get hx hb hg hown hK hP 0 rfl 0 (by decide) k_17 rfl d_sd_rests_79 ?_
      refine lv_iload hx hb d_sd_rests_82 (lv_at hl 0 rfl) ?_
      refine xa_iald hx hb hK hP 1 0 rfl rfl (by omega) d_sd_rests_84 (v := nI (w i)) (hfw i (by omega)) ?_
      refine lv_i2l (v := lN (w i)) hx hb d_sd_rests_85 (nI_l (by omega)) ?_
      refine lv_lmul hx hb d_sd_rests_86 ?_
      refine xr_l (lN_mul _ _) ?_
      refine lv_aload_n hx hb d_sd_rests_87 rfl (lv_at hl 7 rfl) ?_
      refine sd_get hx hb hg hown hK hP 0 rfl 4 (by decide) k_21 rfl d_sd_rests_88 ?_
      refine lv_i2l (v := lN (pu_sum w n)) hx hb d_sd_rests_91 (nI_l (by omega)) ?_
      refine lv_lrem hx hb d_sd_rests_92 (lN_ne0 (by omega) (by omega)) ?_
      refine xr_l (pk_lRem (by omega) (by omega) (by omega)) ?_
      refine lv_lstore (lv' := [(9, .long (lN ((mm * (w i)) % (pu_sum w n)))), (8, .int (nI i)), (6, .long mst), (5, .int bst), (4, .int gone), (3, .int (nI k)), (2, .ref qt), (1, .int (nI mm)), (0, .ref x)]) hx hb d_sd_rests_93 hl (by decide) rfl (fun ls hl => ?_)
      refine lv_iload hx hb d_sd_rests_95 (lv_at hl 4 rfl) ?_
      refine lv_iload hx hb d_sd_rests_97 (lv_at hl 1 rfl) ?_
      refine lv_ishr hx hb d_sd_rests_99 ?_
      refine xr_i (y := gone >>> (nI i &&& 31)) rfl ?_
      refine lv_iconst (v := nI 1) hx hb d_sd_rests_100 (by decide) ?_
      refine lv_iand hx hb d_sd_rests_101 ?_
      refine xr_i (y := (gone >>> (nI i &&& 31)) &&& nI 1) rfl ?_
      refine lv_if_ne (tgt := 121) hx hb d_sd_rests_102 (by decide) (fun hz => ?_) (fun hz => ?_)
      · have hgt : g i = true := by
          rw [← hgo i (by omega)]
          cases h9 : bt gone i with
          | true => rfl
          | false => exact absurd ((gb_zero gone (by omega)).mpr h9) hz
        refine lv_iinc (k := 1) (v := nI (i + 1)) (lv' := [(8, .int (nI (i + 1))), (9, .long (lN ((mm * (w i)) % (pu_sum w n)))), (6, .long mst), (5, .int bst), (4, .int gone), (3, .int (nI k)), (2, .ref qt), (1, .int (nI mm)), (0, .ref x)]) hx hb d_sd_rests_121 hl rfl (xinc _) (by decide) rfl (fun ls hl => ?_)
        refine lv_goto (tgt := 67) hx hb d_sd_rests_124 (by decide) ?_
        exact ih (i + 1) ls _ _ (by omega) (pu_bm_t hbm hgt) (lv_sub hl [0, 2, 3, 4, 5, 6, 7, 8] rfl)
      · have hgf : g i = false := by rw [← hgo i (by omega)]; exact (gb_zero gone (by omega)).mp hz
        refine lv_lload hx hb d_sd_rests_105 (lv_at hl 0 rfl) ?_
        refine lv_lload hx hb d_sd_rests_107 (lv_at hl 2 rfl) ?_
        refine W.lcmp hx hb d_sd_rests_109 ?_
        refine lv_if_le (tgt := 121) hx hb d_sd_rests_110 (by decide) (fun h2 => ?_) (fun h2 => ?_)
        · have h2 := (lg_cmp_le _ _).mp h2
          refine lv_iinc (k := 1) (v := nI (i + 1)) (lv' := [(8, .int (nI (i + 1))), (9, .long (lN ((mm * (w i)) % (pu_sum w n)))), (6, .long mst), (5, .int bst), (4, .int gone), (3, .int (nI k)), (2, .ref qt), (1, .int (nI mm)), (0, .ref x)]) hx hb d_sd_rests_121 hl rfl (xinc _) (by decide) rfl (fun ls hl => ?_)
          refine lv_goto (tgt := 67) hx hb d_sd_rests_124 (by decide) ?_
          exact ih (i + 1) ls _ _ (by omega) (pu_bm_f hbm hgf hrb h2) (lv_sub hl [0, 2, 3, 4, 5, 6, 7, 8] rfl)
        · have h2 : ¬ lN ((pu_r n w mm) i) ≤ mst := fun z => h2 ((lg_cmp_le _ _).mpr z)
          refine lv_iload hx hb d_sd_rests_113 (lv_at hl 1 rfl) ?_
          refine lv_istore (lv' := [(5, .int (nI i)), (9, .long (lN ((mm * (w i)) % (pu_sum w n)))), (8, .int (nI i)), (6, .long mst), (4, .int gone), (3, .int (nI k)), (2, .ref qt), (1, .int (nI mm)), (0, .ref x)]) hx hb d_sd_rests_115 hl (by decide) rfl (fun ls hl => ?_)
          refine lv_lload hx hb d_sd_rests_117 (lv_at hl 1 rfl) ?_
          refine lv_lstore (lv' := [(6, .long (lN ((mm * (w i)) % (pu_sum w n)))), (5, .int (nI i)), (9, .long (lN ((mm * (w i)) % (pu_sum w n)))), (8, .int (nI i)), (4, .int gone), (3, .int (nI k)), (2, .ref qt), (1, .int (nI mm)), (0, .ref x)]) hx hb d_sd_rests_119 hl (by decide) rfl (fun ls hl => ?_)
          refine lv_iinc (k := 3) (v := nI (i + 1)) (lv' := [(8, .int (nI (i + 1))), (6, .long (lN ((mm * (w i)) % (pu_sum w n)))), (5, .int (nI i)), (9, .long (lN ((mm * (w i)) % (pu_sum w n)))), (4, .int gone), (3, .int (nI k)), (2, .ref qt), (1, .int (nI mm)), (0, .ref x)]) hx hb d_sd_rests_121 hl rfl (xinc _) (by decide) rfl (fun ls hl => ?_)
          refine lv_goto (tgt := 67) hx hb d_sd_rests_124 (by decide) ?_
          exact ih (i + 1) ls _ _ (by omega) (pu_bm_n hbm hgf hrb h2) (lv_sub hl [0, 1, 2, 4, 5, 6, 7, 8] rfl)
set_option maxRecDepth 10000 in
set_option maxHeartbeats 4000000 in
theorem lp_rests2 (hx : p.tables.exec = Jvm.exec) (hb : c.code = b_sd_rests) (hg : ∀ w ∈ gws, w.before args s = true) (hown : s.vm.findClass "ShareDesk" = some m.cls) (hK : va_K D cls2 [(cI, .int)] s) (hn8 : n ≤ 8) (hm : mm ≤ 10000) (hw : ∀ q, w q ≤ 100000) (hW : 0 < pu_sum w n) (hfw : ∀ q, q < 8 → fw q = nI (w q))
    (kk : ∀ (H : Heap) (locs : List Loc) (ls : Array Slot) (ft : Nat → Int32), (∀ q, q < n → ft q = nI (pu_ham n w mm q)) → va_P D cls2 [oD x qw qs qo (nI n) (nI (pu_sum w n)), aI qw cI fw, aI qt cI ft] H → va_D A [oD x qw qs qo (nI n) (nI (pu_sum w n)), aI qw cI fw, aI qt cI ft] → va_S A s.heap H locs → W p l e R s m args below meth c H locs cells slots Q (F0 m 150 ls [])) :
    ∀ (k j : Nat) (H : Heap) (locs : List Loc) (ls : Array Slot) (ft : Nat → Int32) (gone : Int32), j + k = pu_left n w mm → (∀ q, q < n → ft q = nI ((pu_hs n (pu_r n w mm) (pu_b n w mm) j).1 q)) → (∀ q, q < 8 → bt gone q = (pu_hs n (pu_r n w mm) (pu_b n w mm) j).2 q) → va_P D cls2 [oD x qw qs qo (nI n) (nI (pu_sum w n)), aI qw cI fw, aI qt cI ft] H → va_D A [oD x qw qs qo (nI n) (nI (pu_sum w n)), aI qw cI fw, aI qt cI ft] → va_S A s.heap H locs → lv_has ls 11 [(4, .int gone), (3, .int (nI k)), (2, .ref qt), (1, .int (nI mm)), (0, .ref x)] → W p l e R s m args below meth c H locs cells slots Q (F0 m 52 ls []) := by
  have hWb := pu_sum_bd hn8 hw
  intro k
  induction k with
  | zero =>
    intro j H locs ls ft gone hj hft hgo hP hD hS hl
    have hLm : pu_left n w mm ≤ mm := Nat.sub_le _ _
    refine lv_iload_n hx hb d_sd_rests_52 rfl (lv_at hl 1 rfl) ?_
    refine xz_le (tgt := 150) hx hb d_sd_rests_53 (by decide) (by omega) (fun hc => ?_) (fun hc => ?_)
    · have : j = pu_left n w mm := by omega
      subst this
      exact kk H locs ls ft hft hP hD hS
    · exact absurd hc (by omega)
  | succ k ih =>
    intro j H locs ls ft gone hj hft hgo hP hD hS hl
    have hLm : pu_left n w mm ≤ mm := Nat.sub_le _ _
    refine lv_iload_n hx hb d_sd_rests_52 rfl (lv_at hl 1 rfl) ?_
    refine xz_le (tgt := 150) hx hb d_sd_rests_53 (by decide) (by omega) (fun hc => ?_) (fun hc => ?_)
    · exact absurd hc (by omega)
    · refine lv_iconst (v := -1) hx hb d_sd_rests_56 (by decide) ?_
      refine lv_istore (lv' := [(5, .int (-1)), (4, .int gone), (3, .int (nI (k + 1))), (2, .ref qt), (1, .int (nI mm)), (0, .ref x)]) hx hb d_sd_rests_57 hl (by decide) rfl (fun ls hl => ?_)
      refine lv_ldc2 hx hb hown (hg _ k_154) d_sd_rests_59 ?_
      refine lv_lstore (lv' := [(6, .long (-1)), (5, .int (-1)), (4, .int gone), (3, .int (nI (k + 1))), (2, .ref qt), (1, .int (nI mm)), (0, .ref x)]) hx hb d_sd_rests_62 hl (by decide) rfl (fun ls hl => ?_)
      refine lv_iconst (v := nI 0) hx hb d_sd_rests_64 (by decide) ?_
      refine lv_istore (lv' := [(8, .int (nI 0)), (6, .long (-1)), (5, .int (-1)), (4, .int gone), (3, .int (nI (k + 1))), (2, .ref qt), (1, .int (nI mm)), (0, .ref x)]) hx hb d_sd_rests_65 hl (by decide) rfl (fun ls hl => ?_)
      refine lp_rests3 (k := k + 1) hx hb hg hown hK hn8 hm hw hW hfw hgo hP (fun ls bst mst hbm hl => ?_) n 0 ls _ _ (by omega) ⟨rfl, rfl⟩ (lv_sub hl [0, 1, 2, 3, 4, 5, 6, 7] rfl)
      obtain ⟨b, hb1, hb2, hb3⟩ := pu_ham_pk mm hW j (by omega)
      rw [hb1] at hbm
      obtain ⟨rfl, -⟩ := hbm
      have hsb := hft b hb2
      refine lv_aload_n hx hb d_sd_rests_127 rfl (lv_at hl 3 rfl) ?_
      refine lv_iload hx hb d_sd_rests_128 (lv_at hl 0 rfl) ?_
      refine lv_dup2_11 hx hb d_sd_rests_130 rfl rfl ?_
      refine xa_iald hx hb hK hP 2 0 rfl rfl (by omega) d_sd_rests_131 (v := nI ((pu_hs n (pu_r n w mm) (pu_b n w mm) j).1 b)) hsb ?_
      refine lv_iconst (v := nI 1) hx hb d_sd_rests_132 (by decide) ?_
      refine lv_iadd hx hb d_sd_rests_133 ?_
      refine xr_i (nI_add _ _) ?_
      refine xa_iast hx hb hK hP hD hS 2 0 rfl rfl (by omega) d_sd_rests_134 (fun H locs hP hD hS => ?_)
      have hP : va_P D cls2 [oD x qw qs qo (nI n) (nI (pu_sum w n)), aI qw cI fw, aI qt cI (upd ft b (nI (((pu_hs n (pu_r n w mm) (pu_b n w mm) j).1 b) + 1)))] H := hP
      have hD : va_D A [oD x qw qs qo (nI n) (nI (pu_sum w n)), aI qw cI fw, aI qt cI (upd ft b (nI (((pu_hs n (pu_r n w mm) (pu_b n w mm) j).1 b) + 1)))] := hD
      refine lv_iload hx hb d_sd_rests_135 (lv_at hl 1 rfl) ?_
      refine lv_iconst (v := nI 1) hx hb d_sd_rests_137 (by decide) ?_
      refine lv_iload hx hb d_sd_rests_138 (lv_at hl 0 rfl) ?_
      refine lv_ishl hx hb d_sd_rests_140 ?_
      refine xr_i (y := nI 1 <<< (nI b &&& 31)) rfl ?_
      refine lv_ior hx hb d_sd_rests_141 ?_
      refine xr_i (y := gone ||| (nI 1 <<< (nI b &&& 31))) rfl ?_
      refine lv_istore (lv' := [(4, .int (gone ||| (nI 1 <<< (nI b &&& 31)))), (5, .int (nI b)), (3, .int (nI (k + 1))), (2, .ref qt), (1, .int (nI mm)), (0, .ref x)]) hx hb d_sd_rests_142 hl (by decide) rfl (fun ls hl => ?_)
      refine lv_iinc (k := 2) (v := nI (k + 1 - 1)) (lv' := [(3, .int (nI (k + 1 - 1))), (4, .int (gone ||| (nI 1 <<< (nI b &&& 31)))), (5, .int (nI b)), (2, .ref qt), (1, .int (nI mm)), (0, .ref x)]) hx hb d_sd_rests_144 hl rfl (xdec (by omega)) (by decide) rfl (fun ls hl => ?_)
      refine lv_goto (tgt := 52) hx hb d_sd_rests_147 (by decide) ?_
      have hs1 := pu_hs_s hb1
      refine ih (j + 1) H locs ls _ _ (by omega) (fun q hq => ?_) (fun q hq => ?_) hP hD hS (lv_sub hl [1, 0, 3, 4, 5] rfl)
      · rw [hs1]
        by_cases e9 : q = b
        · subst e9
          rw [pk_us]
          show _ = nI (pu_inc (pu_hs n (pu_r n w mm) (pu_b n w mm) j).1 q q)
          rw [pu_inc, pu_up_s]
        · rw [pk_un e9]
          show _ = nI (pu_inc (pu_hs n (pu_r n w mm) (pu_b n w mm) j).1 b q)
          rw [pu_inc, pu_up_n e9]
          exact hft q hq
      · rw [hs1, gb_or gone (by omega) hq]
        show _ = pu_up (pu_hs n (pu_r n w mm) (pu_b n w mm) j).2 b true q
        by_cases e9 : q = b
        · subst e9
          rw [pu_up_s]
          simp
        · rw [pu_up_n e9, hgo q hq]
          simp [e9]
end RST
set_option maxRecDepth 10000 in
set_option maxHeartbeats 4000000 in
theorem c_sd_rests (l : Launch) (D : va_G) (cI : ClassId) (x qw qs qo qt sz n mm : Nat) (fw ft : Nat → Int32) (w : Nat → Nat) (hn8 : n ≤ 8) (hm : mm ≤ 10000) (hw : ∀ q, w q ≤ 100000) (hW : 0 < pu_sum w n) (hfw : ∀ q, q < 8 → fw q = nI (w q)) : Met l y_sd_rests w_sd_rests (rL 0 0 0) (va_Pc [.ref x, .int (nI mm), .ref qt] (gP D [(cI, .int)] [oD x qw qs qo (nI n) (nI (pu_sum w n)), aI qw cI fw, aI qt cI ft] sz)) (va_Qv (fun u : Nat → Int32 => ∀ q, q < n → u q = nI (pu_ham n w mm q)) (gB D [(cI, .int)] (va_A [oD x qw qs qo (nI n) (nI (pu_sum w n)), aI qw cI fw, aI qt cI ft] sz) (fun u => [oD x qw qs qo (nI n) (nI (pu_sum w n)), aI qw cI fw, aI qt cI u])) (va_A [oD x qw qs qo (nI n) (nI (pu_sum w n)), aI qw cI fw, aI qt cI ft] sz)) 0 0 (va_A [oD x qw qs qo (nI n) (nI (pu_sum w n)), aI qw cI fw, aI qt cI ft] sz) := by
  refine Met.ofW (cc := b_sd_rests) (maxL := 11) (ret := none) (by decide) rfl ?_
  intro p e s m args below meth c s₁ B hml hv
  obtain ⟨rfl, hsz, hP, hK, hD0⟩ := hv
  have hx := B.exec
  have hb := B.bytes
  have hr := B.returns
  have hts := atoms_spec (ws := w_sd_rests) B.pre
  have hg : ∀ w ∈ gws, w.before ([.ref x, .int (nI mm), .ref qt] : List Value).toArray s = true := fun w hw => hts w (List.mem_cons_of_mem _ hw)
  have hown : s.vm.findClass "ShareDesk" = some m.cls := findClass_of_methodNamed B.named
  have hlk := B.notSynchronized
  subst hsz
  have hD := hD0.self (sz := s.heap.size)
  generalize hAe : va_A [oD x qw qs qo (nI n) (nI (pu_sum w n)), aI qw cI fw, aI qt cI ft] s.heap.size = A at hD ⊢
  have hA : ∀ q : Nat, s.heap.size ≤ q → A q := fun q h => by rw [← hAe]; exact Or.inr h
  have hS : va_S A s.heap s.heap [] := va_S.rf
  have hP : va_P D cls2 [oD x qw qs qo (nI n) (nI (pu_sum w n)), aI qw cI fw, aI qt cI ft] s.heap := hP
  have hl := lv_entry ([.ref x, .int (nI mm), .ref qt]) (n := 11) (Nat.le_of_ble_eq_true rfl)
  rw [lg_entry_eq]
  generalize (lg_sl ([.ref x, .int (nI mm), .ref qt]) ++ List.replicate (11 - (lg_sl ([.ref x, .int (nI mm), .ref qt])).length) Slot.unset).toArray = ls at hl ⊢
  have hl : lv_has ls 11 [(0, .ref x), (1, .int (nI mm)), (2, .ref qt)] := hl
  refine lv_iload_n hx hb d_sd_rests_0 rfl (lv_at hl 1 rfl) ?_
  refine lv_istore_n (lv' := [(3, .int (nI mm)), (0, .ref x), (1, .int (nI mm)), (2, .ref qt)]) hx hb d_sd_rests_1 rfl hl (by decide) rfl (fun ls hl => ?_)
  refine lv_iconst (v := nI 0) hx hb d_sd_rests_2 (by decide) ?_
  refine lv_istore (lv' := [(4, .int (nI 0)), (3, .int (nI mm)), (0, .ref x), (1, .int (nI mm)), (2, .ref qt)]) hx hb d_sd_rests_3 hl (by decide) rfl (fun ls hl => ?_)
  refine lv_iconst (v := nI 0) hx hb d_sd_rests_5 (by decide) ?_
  refine lv_istore (lv' := [(5, .int (nI 0)), (4, .int (nI 0)), (3, .int (nI mm)), (0, .ref x), (1, .int (nI mm)), (2, .ref qt)]) hx hb d_sd_rests_6 hl (by decide) rfl (fun ls hl => ?_)
  refine lp_rests1 hx hb hg hown hK hn8 hm hw hW hfw (fun H locs ls ft hft hP hD hS hl => ?_) n 0 _ _ ls ft (by omega) (fun q hq => absurd hq (by omega)) hP hD hS (lv_sub hl [0, 1, 2, 5, 4, 3] rfl)
  refine lp_rests2 hx hb hg hown hK hn8 hm hw hW hfw (fun H locs ls ft hft hP hD hS => ?_) _ 0 _ _ ls ft _ (Nat.zero_add _) hft (fun q hq => by rw [nI_0]; exact b_0 q) hP hD hS hl
  exact en_gv ft hx hb hr hlk hft hP hK hD hS d_sd_rests_150
end
section
/-! ShareDesk.quotients -/
theorem mx0 {a n : Nat} (ha : a ≤ 10000) (hn : n ≤ 8) : (if nI 0 < nI a - nI n then nI a - nI n else nI 0) = nI (a - n) := by
  rcases Nat.lt_or_ge n a with z | z
  · rw [pk_sub (by omega), if_pos (nI_lt (by omega) (by omega))]
  · have e0 : a - n = 0 := by omega
    rw [e0]
    refine if_neg (fun h => ?_)
    rw [Int32.lt_iff_toInt_lt, pk_sub_toInt (by omega) (by omega), nI_toInt (by decide)] at h
    omega
theorem pu_qc_le (w s : Nat → Nat) (d : Nat) : ∀ k : Nat, pu_qc w s d k ≤ k
  | 0 => Nat.le_refl _
  | k + 1 => by
    have := pu_qc_le w s d k
    rw [pu_qc]
    split <;> omega
theorem ds_bd {d v : Nat} (hd : d = 1 ∨ d = 2) (hv : v ≤ 10000) : d * v + 1 ≤ 20001 := by rcases hd with rfl | rfl <;> omega
theorem wds_bd {a b : Nat} (ha : a ≤ 100000) (hb : b ≤ 20001) : a * b ≤ 2000100000 := Nat.mul_le_mul ha hb
section QUO
variable {p : Program} {l : Launch} {e : Env} {R : Room} {s : State} {m : MethodId} {args : Array Value} {below : List Frame} {meth : Method} {c : Code} {cells slots : Nat} {Q : State → Prop}
variable {D : va_G} {A : Nat → Prop} {x qw qs qo qt n mm d fe : Nat} {cI : ClassId} {fw : Nat → Int32} {w : Nat → Nat}
set_option maxRecDepth 10000 in
set_option maxHeartbeats 4000000 in
theorem lp_quot1 (hfe : fe = if d = 1 then mm else mm - n) (hx : p.tables.exec = Jvm.exec) (hb : c.code = b_sd_quot) (hml : c.maxLocals = 9) (hRR : 1 ≤ R.frames ∧ 36 ≤ R.locals ∧ cells + 0 ≤ R.cells ∧ slots + 0 ≤ R.slots) (hg : ∀ w ∈ gws, w.before args s = true) (hown : s.vm.findClass "ShareDesk" = some m.cls) (hK : va_K D cls2 [(cI, .int)] s) (hd : d = 1 ∨ d = 2) (hn1 : 1 ≤ n) (hn8 : n ≤ 8) (hm : mm ≤ 10000) (hw : ∀ q, w q ≤ 100000) (hW : 0 < pu_sum w n) (hfw : ∀ q, q < 8 → fw q = nI (w q))
    (kk : ∀ (H : Heap) (locs : List Loc) (ls : Array Slot) (ft : Nat → Int32), (∀ q, q < n → ft q = nI (pu_t n w d mm q)) → va_P D cls2 [oD x qw qs qo (nI n) (nI (pu_sum w n)), aI qw cI fw, aI qt cI ft] H → va_D A [oD x qw qs qo (nI n) (nI (pu_sum w n)), aI qw cI fw, aI qt cI ft] → va_S A s.heap H locs → lv_has ls 9 [(5, .int (nI (mm - pu_sum (pu_t n w d mm) n))), (3, .ref qt), (2, .int (nI mm)), (1, .int (nI d)), (0, .ref x)] → W p l e R s m args below meth c H locs cells slots Q (F0 m 110 ls [])) :
    ∀ (j i : Nat) (H : Heap) (locs : List Loc) (ls : Array Slot) (ft : Nat → Int32), i + j = n → (∀ q, q < i → ft q = nI (pu_t n w d mm q)) → va_P D cls2 [oD x qw qs qo (nI n) (nI (pu_sum w n)), aI qw cI fw, aI qt cI ft] H → va_D A [oD x qw qs qo (nI n) (nI (pu_sum w n)), aI qw cI fw, aI qt cI ft] → va_S A s.heap H locs → lv_has ls 9 [(6, .int (nI i)), (5, .int (nI (mm - pu_sum (pu_t n w d mm) i))), (4, .int (nI fe)), (3, .ref qt), (2, .int (nI mm)), (1, .int (nI d)), (0, .ref x)] → W p l e R s m args below meth c H locs cells slots Q (F0 m 27 ls []) := by
  have hWb := pu_sum_bd hn8 hw
  have hfm : fe ≤ mm := by rw [hfe]; split <;> omega
  have hle2 := (pu_quot (m := mm) hd hW).1
  intro j
  induction j with
  | zero =>
    intro i H locs ls ft hi hft hP hD hS hl
    refine lv_iload hx hb d_sd_quot_27 (lv_at hl 0 rfl) ?_
    refine lv_aload_n hx hb d_sd_quot_29 rfl (lv_at hl 6 rfl) ?_
    refine sd_get hx hb hg hown hK hP 0 rfl 3 (by decide) k_20 rfl d_sd_quot_30 ?_
    refine xc_ge (tgt := 110) hx hb d_sd_quot_33 (by decide) (by omega) (by omega) (fun hc => ?_) (fun hc => ?_)
    · have : i = n := by omega
      subst this
      exact kk H locs ls ft hft hP hD hS (lv_sub hl [1, 3, 4, 5, 6] rfl)
    · exact absurd hc (by omega)
  | succ j ih =>
    intro i H locs ls ft hi hft hP hD hS hl
    refine lv_iload hx hb d_sd_quot_27 (lv_at hl 0 rfl) ?_
    refine lv_aload_n hx hb d_sd_quot_29 rfl (lv_at hl 6 rfl) ?_
    refine sd_get hx hb hg hown hK hP 0 rfl 3 (by decide) k_20 rfl d_sd_quot_30 ?_
    refine xc_ge (tgt := 110) hx hb d_sd_quot_33 (by decide) (by omega) (by omega) (fun hc => ?_) (fun hc => ?_)
    · exact absurd hc (by omega)
    · have hwi := hw i
      have hmw : fe * w i ≤ 1000000000 := mw_bd (by omega) hwi
      have hsum : pu_sum (pu_t n w d mm) (i + 1) = pu_sum (pu_t n w d mm) i + pu_t n w d mm i := rfl
      have hle := pu_sum_mono (pu_t n w d mm) (show i + 1 ≤ n by omega)
      refine lv_iload hx hb d_sd_quot_36 (lv_at hl 2 rfl) ?_
      refine lv_i2l (v := lN fe) hx hb d_sd_quot_38 (nI_l (by omega)) ?_
      refine lv_aload_n hx hb d_sd_quot_39 rfl (lv_at hl 6 rfl) ?_
      refine sd_get hx hb hg hown hK hP 0 rfl 0 (by decide) k_17 rfl d_sd_quot_40 ?_
      refine lv_iload hx hb d_sd_quot_43 (lv_at hl 0 rfl) ?_
      refine xa_iald hx hb hK hP 1 0 rfl rfl (by omega) d_sd_quot_45 (v := nI (w i)) (hfw i (by omega)) ?_
      refine lv_i2l (v := lN (w i)) hx hb d_sd_quot_46 (nI_l (by omega)) ?_
      refine lv_lmul hx hb d_sd_quot_47 ?_
      refine xr_l (lN_mul _ _) ?_
      refine lv_lstore (lv' := [(7, .long (lN (fe * (w i)))), (6, .int (nI i)), (5, .int (nI (mm - pu_sum (pu_t n w d mm) i))), (4, .int (nI fe)), (3, .ref qt), (2, .int (nI mm)), (1, .int (nI d)), (0, .ref x)]) hx hb d_sd_quot_48 hl (by decide) rfl (fun ls hl => ?_)
      refine lv_aload_n hx hb d_sd_quot_50 rfl (lv_at hl 4 rfl) ?_
      refine lv_iload hx hb d_sd_quot_51 (lv_at hl 1 rfl) ?_
      refine lv_iload_n hx hb d_sd_quot_53 rfl (lv_at hl 6 rfl) ?_
      refine lv_iconst (v := nI 1) hx hb d_sd_quot_54 (by decide) ?_
      refine xc_ne (tgt := 69) hx hb d_sd_quot_55 (by decide) (by omega) (by omega) (fun h1 => ?_) (fun h1 => ?_)
      · have ht : (2 * (fe * w i) + pu_sum w n - 1) / (2 * pu_sum w n) = pu_t n w d mm i := by rw [pu_t, if_neg h1, hfe, if_neg h1]
        refine lv_ldc2 hx hb hown (hg _ k_162) d_sd_quot_69 ?_
        refine xr_l (show (2 : Int64) = lN 2 by decide) ?_
        refine lv_lload hx hb d_sd_quot_72 (lv_at hl 0 rfl) ?_
        refine lv_lmul hx hb d_sd_quot_74 ?_
        refine xr_l (lN_mul _ _) ?_
        refine lv_aload_n hx hb d_sd_quot_75 rfl (lv_at hl 7 rfl) ?_
        refine sd_get hx hb hg hown hK hP 0 rfl 4 (by decide) k_21 rfl d_sd_quot_76 ?_
        refine lv_i2l (v := lN (pu_sum w n)) hx hb d_sd_quot_79 (nI_l (by omega)) ?_
        refine lv_ladd hx hb d_sd_quot_80 ?_
        refine xr_l (lN_add _ _) ?_
        refine lv_lconst (v := lN 1) hx hb d_sd_quot_81 (by decide) ?_
        refine lv_lsub hx hb d_sd_quot_82 ?_
        refine xr_l (lN_sub (by omega)) ?_
        refine lv_ldc2 hx hb hown (hg _ k_162) d_sd_quot_83 ?_
        refine xr_l (show (2 : Int64) = lN 2 by decide) ?_
        refine lv_aload_n hx hb d_sd_quot_86 rfl (lv_at hl 7 rfl) ?_
        refine sd_get hx hb hg hown hK hP 0 rfl 4 (by decide) k_21 rfl d_sd_quot_87 ?_
        refine lv_i2l (v := lN (pu_sum w n)) hx hb d_sd_quot_90 (nI_l (by omega)) ?_
        refine lv_lmul hx hb d_sd_quot_91 ?_
        refine xr_l (lN_mul _ _) ?_
        refine lv_ldiv hx hb d_sd_quot_92 (lN_ne0 (by omega) (by omega)) ?_
        refine xr_l (pk_lDiv (by omega) (by omega) (by omega)) ?_
        refine xr_l (y := lN (pu_t n w d mm i)) (by rw [ht]) ?_
        refine lv_l2i (v := nI (pu_t n w d mm i)) hx hb d_sd_quot_93 (lN_i _) ?_
        refine xa_iast hx hb hK hP hD hS 2 0 rfl rfl (by omega) d_sd_quot_94 (fun H locs hP hD hS => ?_)
        have hP : va_P D cls2 [oD x qw qs qo (nI n) (nI (pu_sum w n)), aI qw cI fw, aI qt cI (upd ft i (nI (pu_t n w d mm i)))] H := hP
        have hD : va_D A [oD x qw qs qo (nI n) (nI (pu_sum w n)), aI qw cI fw, aI qt cI (upd ft i (nI (pu_t n w d mm i)))] := hD
        refine lv_iload hx hb d_sd_quot_95 (lv_at hl 2 rfl) ?_
        refine lv_aload_n hx hb d_sd_quot_97 rfl (lv_at hl 4 rfl) ?_
        refine lv_iload hx hb d_sd_quot_98 (lv_at hl 1 rfl) ?_
        refine xa_iald hx hb hK hP 2 0 rfl rfl (by omega) d_sd_quot_100 (v := nI (pu_t n w d mm i)) pk_us ?_
        refine lv_isub hx hb d_sd_quot_101 ?_
        refine xr_i (y := nI (mm - pu_sum (pu_t n w d mm) (i + 1))) (by rw [pk_sub (by omega), hsum, Nat.sub_sub]) ?_
        refine lv_istore (lv' := [(5, .int (nI (mm - pu_sum (pu_t n w d mm) (i + 1)))), (7, .long (lN (fe * (w i)))), (6, .int (nI i)), (4, .int (nI fe)), (3, .ref qt), (2, .int (nI mm)), (1, .int (nI d)), (0, .ref x)]) hx hb d_sd_quot_102 hl (by decide) rfl (fun ls hl => ?_)
        refine lv_iinc (k := 2) (v := nI (i + 1)) (lv' := [(6, .int (nI (i + 1))), (5, .int (nI (mm - pu_sum (pu_t n w d mm) (i + 1)))), (7, .long (lN (fe * (w i)))), (4, .int (nI fe)), (3, .ref qt), (2, .int (nI mm)), (1, .int (nI d)), (0, .ref x)]) hx hb d_sd_quot_104 hl rfl (xinc _) (by decide) rfl (fun ls hl => ?_)
        refine lv_goto (tgt := 27) hx hb d_sd_quot_107 (by decide) ?_
        refine ih (i + 1) H locs ls _ (by omega) (fun q hq2 => ?_) hP hD hS (lv_sub hl [0, 1, 3, 4, 5, 6, 7] rfl)
        by_cases e9 : q = i
        · subst e9; exact pk_us
        · rw [pk_un e9]; exact hft q (by omega)
      · have ht : fe * w i / pu_sum w n = pu_t n w d mm i := by rw [pu_t, if_pos h1, hfe, if_pos h1]
        refine lv_lload hx hb d_sd_quot_58 (lv_at hl 0 rfl) ?_
        refine lv_aload_n hx hb d_sd_quot_60 rfl (lv_at hl 7 rfl) ?_
        refine sd_get hx hb hg hown hK hP 0 rfl 4 (by decide) k_21 rfl d_sd_quot_61 ?_
        refine lv_i2l (v := lN (pu_sum w n)) hx hb d_sd_quot_64 (nI_l (by omega)) ?_
        refine lv_ldiv hx hb d_sd_quot_65 (lN_ne0 (by omega) (by omega)) ?_
        refine xr_l (pk_lDiv (by omega) (by omega) (by omega)) ?_
        refine xr_l (y := lN (pu_t n w d mm i)) (by rw [ht]) ?_
        refine lv_goto (tgt := 93) hx hb d_sd_quot_66 (by decide) ?_
        refine lv_l2i (v := nI (pu_t n w d mm i)) hx hb d_sd_quot_93 (lN_i _) ?_
        refine xa_iast hx hb hK hP hD hS 2 0 rfl rfl (by omega) d_sd_quot_94 (fun H locs hP hD hS => ?_)
        have hP : va_P D cls2 [oD x qw qs qo (nI n) (nI (pu_sum w n)), aI qw cI fw, aI qt cI (upd ft i (nI (pu_t n w d mm i)))] H := hP
        have hD : va_D A [oD x qw qs qo (nI n) (nI (pu_sum w n)), aI qw cI fw, aI qt cI (upd ft i (nI (pu_t n w d mm i)))] := hD
        refine lv_iload hx hb d_sd_quot_95 (lv_at hl 2 rfl) ?_
        refine lv_aload_n hx hb d_sd_quot_97 rfl (lv_at hl 4 rfl) ?_
        refine lv_iload hx hb d_sd_quot_98 (lv_at hl 1 rfl) ?_
        refine xa_iald hx hb hK hP 2 0 rfl rfl (by omega) d_sd_quot_100 (v := nI (pu_t n w d mm i)) pk_us ?_
        refine lv_isub hx hb d_sd_quot_101 ?_
        refine xr_i (y := nI (mm - pu_sum (pu_t n w d mm) (i + 1))) (by rw [pk_sub (by omega), hsum, Nat.sub_sub]) ?_
        refine lv_istore (lv' := [(5, .int (nI (mm - pu_sum (pu_t n w d mm) (i + 1)))), (7, .long (lN (fe * (w i)))), (6, .int (nI i)), (4, .int (nI fe)), (3, .ref qt), (2, .int (nI mm)), (1, .int (nI d)), (0, .ref x)]) hx hb d_sd_quot_102 hl (by decide) rfl (fun ls hl => ?_)
        refine lv_iinc (k := 2) (v := nI (i + 1)) (lv' := [(6, .int (nI (i + 1))), (5, .int (nI (mm - pu_sum (pu_t n w d mm) (i + 1)))), (7, .long (lN (fe * (w i)))), (4, .int (nI fe)), (3, .ref qt), (2, .int (nI mm)), (1, .int (nI d)), (0, .ref x)]) hx hb d_sd_quot_104 hl rfl (xinc _) (by decide) rfl (fun ls hl => ?_)
        refine lv_goto (tgt := 27) hx hb d_sd_quot_107 (by decide) ?_
        refine ih (i + 1) H locs ls _ (by omega) (fun q hq2 => ?_) hP hD hS (lv_sub hl [0, 1, 3, 4, 5, 6, 7] rfl)
        by_cases e9 : q = i
        · subst e9; exact pk_us
        · rw [pk_un e9]; exact hft q (by omega)
set_option maxRecDepth 10000 in
set_option maxHeartbeats 4000000 in
theorem lp_quot3 {k : Nat} {sj : Nat → Nat} {H : Heap} {locs : List Loc} {ft : Nat → Int32} (hx : p.tables.exec = Jvm.exec) (hb : c.code = b_sd_quot) (hml : c.maxLocals = 9) (hRR : 1 ≤ R.frames ∧ 36 ≤ R.locals ∧ cells + 0 ≤ R.cells ∧ slots + 0 ≤ R.slots) (hg : ∀ w ∈ gws, w.before args s = true) (hown : s.vm.findClass "ShareDesk" = some m.cls) (hK : va_K D cls2 [(cI, .int)] s) (hd : d = 1 ∨ d = 2) (hn1 : 1 ≤ n) (hn8 : n ≤ 8) (hm : mm ≤ 10000) (hw : ∀ q, w q ≤ 100000) (hW : 0 < pu_sum w n) (hfw : ∀ q, q < 8 → fw q = nI (w q)) (hsj : ∀ q, q < n → sj q ≤ 10000) (hft : ∀ q, q < n → ft q = nI (sj q)) (hP : va_P D cls2 [oD x qw qs qo (nI n) (nI (pu_sum w n)), aI qw cI fw, aI qt cI ft] H)
    (kk : ∀ (ls : Array Slot), lv_has ls 9 [(6, .int (nI (pu_qc w sj d (n - 1)))), (5, .int (nI k)), (3, .ref qt), (2, .int (nI mm)), (1, .int (nI d)), (0, .ref x)] → W p l e R s m args below meth c H locs cells slots Q (F0 m 180 ls [])) :
    ∀ (j i : Nat) (ls : Array Slot), i + 1 + j = n → lv_has ls 9 [(7, .int (nI (i + 1))), (6, .int (nI (pu_qc w sj d i))), (5, .int (nI k)), (3, .ref qt), (2, .int (nI mm)), (1, .int (nI d)), (0, .ref x)] → W p l e R s m args below meth c H locs cells slots Q (F0 m 121 ls []) := by
  intro j
  induction j with
  | zero =>
    intro i ls hi hl
    refine lv_iload hx hb d_sd_quot_121 (lv_at hl 0 rfl) ?_
    refine lv_aload_n hx hb d_sd_quot_123 rfl (lv_at hl 6 rfl) ?_
    refine sd_get hx hb hg hown hK hP 0 rfl 3 (by decide) k_20 rfl d_sd_quot_124 ?_
    refine xc_ge (tgt := 180) hx hb d_sd_quot_127 (by decide) (by omega) (by omega) (fun hc => ?_) (fun hc => ?_)
    · have : i = n - 1 := by omega
      subst this
      exact kk ls (lv_sub hl [1, 2, 3, 4, 5, 6] rfl)
    · exact absurd hc (by omega)
  | succ j ih =>
    intro i ls hi hl
    refine lv_iload hx hb d_sd_quot_121 (lv_at hl 0 rfl) ?_
    refine lv_aload_n hx hb d_sd_quot_123 rfl (lv_at hl 6 rfl) ?_
    refine sd_get hx hb hg hown hK hP 0 rfl 3 (by decide) k_20 rfl d_sd_quot_124 ?_
    refine xc_ge (tgt := 180) hx hb d_sd_quot_127 (by decide) (by omega) (by omega) (fun hc => ?_) (fun hc => ?_)
    · exact absurd hc (by omega)
    · have hbl := pu_qc_le w sj d i
      generalize hbe : pu_qc w sj d i = b at hl hbl
      have hwi := hw (i + 1)
      have hwb := hw b
      have hsi := hsj (i + 1) (by omega)
      have hsb := hsj b (by omega)
      have d1 := ds_bd hd hsi
      have d2 := ds_bd hd hsb
      have b1 := wds_bd hwi d2
      have b2 := wds_bd hwb d1
      refine lv_aload_n hx hb d_sd_quot_130 rfl (lv_at hl 6 rfl) ?_
      refine sd_get hx hb hg hown hK hP 0 rfl 0 (by decide) k_17 rfl d_sd_quot_131 ?_
      refine lv_iload hx hb d_sd_quot_134 (lv_at hl 0 rfl) ?_
      refine xa_iald hx hb hK hP 1 0 rfl rfl (by omega) d_sd_quot_136 (v := nI (w (i + 1))) (hfw (i + 1) (by omega)) ?_
      refine lv_i2l (v := lN (w (i + 1))) hx hb d_sd_quot_137 (nI_l (by omega)) ?_
      refine lv_iload_n hx hb d_sd_quot_138 rfl (lv_at hl 5 rfl) ?_
      refine lv_aload_n hx hb d_sd_quot_139 rfl (lv_at hl 3 rfl) ?_
      refine lv_iload hx hb d_sd_quot_140 (lv_at hl 1 rfl) ?_
      refine xa_iald hx hb hK hP 2 0 rfl rfl (by omega) d_sd_quot_142 (v := nI (sj b)) (hft b (by omega)) ?_
      refine ps_i hx hb hml hown hg (c_sd_by l d (sj b) hd) ⟨k_163, k_164, k_1, k_165⟩ n_sd_by ⟨rfl, rfl, by show 0 + 1 ≤ _; omega, by show 8 + (2 + 11) + 0 ≤ _; omega⟩ hl.1 rfl (Nat.le_of_ble_eq_true rfl) d_sd_quot_143 ⟨hRR.2.2.1, hRR.2.2.2⟩ (fun r hr1 => ?_)
      subst hr1
      refine lv_i2l (v := lN (d * sj b + 1)) hx hb d_sd_quot_146 (nI_l (by omega)) ?_
      refine lv_lmul hx hb d_sd_quot_147 ?_
      refine xr_l (lN_mul _ _) ?_
      refine lv_aload_n hx hb d_sd_quot_148 rfl (lv_at hl 6 rfl) ?_
      refine sd_get hx hb hg hown hK hP 0 rfl 0 (by decide) k_17 rfl d_sd_quot_149 ?_
      refine lv_iload hx hb d_sd_quot_152 (lv_at hl 1 rfl) ?_
      refine xa_iald hx hb hK hP 1 0 rfl rfl (by omega) d_sd_quot_154 (v := nI (w b)) (hfw b (by omega)) ?_
      refine lv_i2l (v := lN (w b)) hx hb d_sd_quot_155 (nI_l (by omega)) ?_
      refine lv_iload_n hx hb d_sd_quot_156 rfl (lv_at hl 5 rfl) ?_
      refine lv_aload_n hx hb d_sd_quot_157 rfl (lv_at hl 3 rfl) ?_
      refine lv_iload hx hb d_sd_quot_158 (lv_at hl 0 rfl) ?_
      refine xa_iald hx hb hK hP 2 0 rfl rfl (by omega) d_sd_quot_160 (v := nI (sj (i + 1))) (hft (i + 1) (by omega)) ?_
      refine ps_i hx hb hml hown hg (c_sd_by l d (sj (i + 1)) hd) ⟨k_163, k_164, k_1, k_165⟩ n_sd_by ⟨rfl, rfl, by show 0 + 1 ≤ _; omega, by show 8 + (2 + 11) + 0 ≤ _; omega⟩ hl.1 rfl (Nat.le_of_ble_eq_true rfl) d_sd_quot_161 ⟨hRR.2.2.1, hRR.2.2.2⟩ (fun r hr1 => ?_)
      subst hr1
      refine lv_i2l (v := lN (d * sj (i + 1) + 1)) hx hb d_sd_quot_164 (nI_l (by omega)) ?_
      refine lv_lmul hx hb d_sd_quot_165 ?_
      refine xr_l (lN_mul _ _) ?_
      refine xl_le (tgt := 174) hx hb d_sd_quot_166 d_sd_quot_167 (by decide) (by omega) (by omega) (fun h1 => ?_) (fun h1 => ?_)
      · refine lv_iinc (k := 0) (v := nI (i + 1 + 1)) (lv' := [(7, .int (nI (i + 1 + 1))), (6, .int (nI b)), (5, .int (nI k)), (3, .ref qt), (2, .int (nI mm)), (1, .int (nI d)), (0, .ref x)]) hx hb d_sd_quot_174 hl rfl (xinc _) (by decide) rfl (fun ls hl => ?_)
        refine lv_goto (tgt := 121) hx hb d_sd_quot_177 (by decide) ?_
        have hq : pu_qc w sj d (i + 1) = b := by rw [pu_qc, hbe, if_neg (by omega)]
        exact ih (i + 1) ls (by omega) (by rw [hq]; exact lv_sub hl [0, 1, 2, 3, 4, 5, 6] rfl)
      · refine lv_iload hx hb d_sd_quot_170 (lv_at hl 0 rfl) ?_
        refine lv_istore (lv' := [(6, .int (nI (i + 1))), (7, .int (nI (i + 1))), (5, .int (nI k)), (3, .ref qt), (2, .int (nI mm)), (1, .int (nI d)), (0, .ref x)]) hx hb d_sd_quot_172 hl (by decide) rfl (fun ls hl => ?_)
        refine lv_iinc (k := 1) (v := nI (i + 1 + 1)) (lv' := [(7, .int (nI (i + 1 + 1))), (6, .int (nI (i + 1))), (5, .int (nI k)), (3, .ref qt), (2, .int (nI mm)), (1, .int (nI d)), (0, .ref x)]) hx hb d_sd_quot_174 hl rfl (xinc _) (by decide) rfl (fun ls hl => ?_)
        refine lv_goto (tgt := 121) hx hb d_sd_quot_177 (by decide) ?_
        have hq : pu_qc w sj d (i + 1) = i + 1 := by rw [pu_qc, hbe, if_pos (by omega)]
        exact ih (i + 1) ls (by omega) (by rw [hq]; exact lv_sub hl [0, 1, 2, 3, 4, 5, 6] rfl)
set_option maxRecDepth 10000 in
set_option maxHeartbeats 4000000 in
theorem lp_quot2 (hx : p.tables.exec = Jvm.exec) (hb : c.code = b_sd_quot) (hml : c.maxLocals = 9) (hRR : 1 ≤ R.frames ∧ 36 ≤ R.locals ∧ cells + 0 ≤ R.cells ∧ slots + 0 ≤ R.slots) (hg : ∀ w ∈ gws, w.before args s = true) (hown : s.vm.findClass "ShareDesk" = some m.cls) (hK : va_K D cls2 [(cI, .int)] s) (hd : d = 1 ∨ d = 2) (hn1 : 1 ≤ n) (hn8 : n ≤ 8) (hm : mm ≤ 10000) (hw : ∀ q, w q ≤ 100000) (hW : 0 < pu_sum w n) (hfw : ∀ q, q < 8 → fw q = nI (w q))
    (kk : ∀ (H : Heap) (locs : List Loc) (ls : Array Slot) (ft : Nat → Int32), (∀ q, q < n → ft q = nI (pu_G n w d mm q)) → va_P D cls2 [oD x qw qs qo (nI n) (nI (pu_sum w n)), aI qw cI fw, aI qt cI ft] H → va_D A [oD x qw qs qo (nI n) (nI (pu_sum w n)), aI qw cI fw, aI qt cI ft] → va_S A s.heap H locs → W p l e R s m args below meth c H locs cells slots Q (F0 m 194 ls [])) :
    ∀ (k j : Nat) (H : Heap) (locs : List Loc) (ls : Array Slot) (ft : Nat → Int32), j + k = mm - pu_sum (pu_t n w d mm) n → (∀ q, q < n → ft q = nI ((pu_gs n w d (pu_t n w d mm) j) q)) → va_P D cls2 [oD x qw qs qo (nI n) (nI (pu_sum w n)), aI qw cI fw, aI qt cI ft] H → va_D A [oD x qw qs qo (nI n) (nI (pu_sum w n)), aI qw cI fw, aI qt cI ft] → va_S A s.heap H locs → lv_has ls 9 [(5, .int (nI k)), (3, .ref qt), (2, .int (nI mm)), (1, .int (nI d)), (0, .ref x)] → W p l e R s m args below meth c H locs cells slots Q (F0 m 110 ls []) := by
  obtain ⟨hq1, hq2⟩ := pu_quot (m := mm) hd hW
  intro k
  induction k with
  | zero =>
    intro j H locs ls ft hj hft hP hD hS hl
    refine lv_iload hx hb d_sd_quot_110 (lv_at hl 0 rfl) ?_
    refine xz_le (tgt := 194) hx hb d_sd_quot_112 (by decide) (by omega) (fun hc => ?_) (fun hc => ?_)
    · have : j = mm - pu_sum (pu_t n w d mm) n := by omega
      subst this
      exact kk H locs ls ft (fun q hq => by rw [hft q hq, hq2 q hq]) hP hD hS
    · exact absurd hc (by omega)
  | succ k ih =>
    intro j H locs ls ft hj hft hP hD hS hl
    refine lv_iload hx hb d_sd_quot_110 (lv_at hl 0 rfl) ?_
    refine xz_le (tgt := 194) hx hb d_sd_quot_112 (by decide) (by omega) (fun hc => ?_) (fun hc => ?_)
    · exact absurd hc (by omega)
    · have hsj : ∀ q, q < n → (pu_gs n w d (pu_t n w d mm) j) q ≤ 10000 := fun q hq => Nat.le_trans (pu_run hW (pu_t_le hd hW) j (by omega) q hq) (Nat.le_trans (pu_G_le hW hq) hm)
      refine lv_iconst (v := nI 0) hx hb d_sd_quot_115 (by decide) ?_
      refine lv_istore (lv' := [(6, .int (nI 0)), (5, .int (nI (k + 1))), (3, .ref qt), (2, .int (nI mm)), (1, .int (nI d)), (0, .ref x)]) hx hb d_sd_quot_116 hl (by decide) rfl (fun ls hl => ?_)
      refine lv_iconst (v := nI 1) hx hb d_sd_quot_118 (by decide) ?_
      refine lv_istore (lv' := [(7, .int (nI 1)), (6, .int (nI 0)), (5, .int (nI (k + 1))), (3, .ref qt), (2, .int (nI mm)), (1, .int (nI d)), (0, .ref x)]) hx hb d_sd_quot_119 hl (by decide) rfl (fun ls hl => ?_)
      refine lp_quot3 (k := k + 1) (sj := (pu_gs n w d (pu_t n w d mm) j)) hx hb hml hRR hg hown hK hd hn1 hn8 hm hw hW hfw hsj hft hP (fun ls hl => ?_) (n - 1) 0 ls (by omega) (lv_sub hl [0, 1, 2, 3, 4, 5, 6] rfl)
      obtain ⟨b, hb1, hb2⟩ := pu_qm_ex (pu_gs n w d (pu_t n w d mm) j) d hW
      have hqc := (pu_qc_qm (w := w) (s := (pu_gs n w d (pu_t n w d mm) j)) (d := d) (n - 1)).2 b (by rw [Nat.sub_add_cancel hn1]; exact hb1)
      rw [hqc] at hl
      have hbn := hb2.1
      have hsb := hft b hbn
      refine lv_aload_n hx hb d_sd_quot_180 rfl (lv_at hl 2 rfl) ?_
      refine lv_iload hx hb d_sd_quot_181 (lv_at hl 0 rfl) ?_
      refine lv_dup2_11 hx hb d_sd_quot_183 rfl rfl ?_
      refine xa_iald hx hb hK hP 2 0 rfl rfl (by omega) d_sd_quot_184 (v := nI ((pu_gs n w d (pu_t n w d mm) j) b)) hsb ?_
      refine lv_iconst (v := nI 1) hx hb d_sd_quot_185 (by decide) ?_
      refine lv_iadd hx hb d_sd_quot_186 ?_
      refine xr_i (nI_add _ _) ?_
      refine xa_iast hx hb hK hP hD hS 2 0 rfl rfl (by omega) d_sd_quot_187 (fun H locs hP hD hS => ?_)
      have hP : va_P D cls2 [oD x qw qs qo (nI n) (nI (pu_sum w n)), aI qw cI fw, aI qt cI (upd ft b (nI (((pu_gs n w d (pu_t n w d mm) j) b) + 1)))] H := hP
      have hD : va_D A [oD x qw qs qo (nI n) (nI (pu_sum w n)), aI qw cI fw, aI qt cI (upd ft b (nI (((pu_gs n w d (pu_t n w d mm) j) b) + 1)))] := hD
      refine lv_iinc (k := 1) (v := nI (k + 1 - 1)) (lv' := [(5, .int (nI (k + 1 - 1))), (6, .int (nI b)), (3, .ref qt), (2, .int (nI mm)), (1, .int (nI d)), (0, .ref x)]) hx hb d_sd_quot_188 hl rfl (xdec (by omega)) (by decide) rfl (fun ls hl => ?_)
      refine lv_goto (tgt := 110) hx hb d_sd_quot_191 (by decide) ?_
      have hs1 := pu_gs_s hb1
      refine ih (j + 1) H locs ls _ (by omega) (fun q hq => ?_) hP hD hS (lv_sub hl [0, 2, 3, 4, 5] rfl)
      rw [hs1]
      by_cases e9 : q = b
      · subst e9
        rw [pk_us, pu_inc, pu_up_s]
      · rw [pk_un e9, pu_inc, pu_up_n e9]
        exact hft q hq
set_option maxRecDepth 10000 in
set_option maxHeartbeats 4000000 in
theorem qt_19 {H : Heap} {locs : List Loc} {ft : Nat → Int32} {ls : Array Slot} (hfe : fe = if d = 1 then mm else mm - n) (hx : p.tables.exec = Jvm.exec) (hb : c.code = b_sd_quot) (hml : c.maxLocals = 9) (hRR : 1 ≤ R.frames ∧ 36 ≤ R.locals ∧ cells + 0 ≤ R.cells ∧ slots + 0 ≤ R.slots) (hg : ∀ w ∈ gws, w.before args s = true) (hown : s.vm.findClass "ShareDesk" = some m.cls) (hK : va_K D cls2 [(cI, .int)] s) (hd : d = 1 ∨ d = 2) (hn1 : 1 ≤ n) (hn8 : n ≤ 8) (hm : mm ≤ 10000) (hw : ∀ q, w q ≤ 100000) (hW : 0 < pu_sum w n) (hfw : ∀ q, q < 8 → fw q = nI (w q)) (hP : va_P D cls2 [oD x qw qs qo (nI n) (nI (pu_sum w n)), aI qw cI fw, aI qt cI ft] H) (hD : va_D A [oD x qw qs qo (nI n) (nI (pu_sum w n)), aI qw cI fw, aI qt cI ft]) (hS : va_S A s.heap H locs) (hl : lv_has ls 9 [(0, .ref x), (1, .int (nI d)), (2, .int (nI mm)), (3, .ref qt)])
    (kk : ∀ (H : Heap) (locs : List Loc) (ls : Array Slot) (ft : Nat → Int32), (∀ q, q < n → ft q = nI (pu_G n w d mm q)) → va_P D cls2 [oD x qw qs qo (nI n) (nI (pu_sum w n)), aI qw cI fw, aI qt cI ft] H → va_D A [oD x qw qs qo (nI n) (nI (pu_sum w n)), aI qw cI fw, aI qt cI ft] → va_S A s.heap H locs → W p l e R s m args below meth c H locs cells slots Q (F0 m 194 ls [])) : W p l e R s m args below meth c H locs cells slots Q (F0 m 19 ls [.int (nI fe)]) := by
  refine lv_istore (lv' := [(4, .int (nI fe)), (0, .ref x), (1, .int (nI d)), (2, .int (nI mm)), (3, .ref qt)]) hx hb d_sd_quot_19 hl (by decide) rfl (fun ls hl => ?_)
  refine lv_iload_n hx hb d_sd_quot_21 rfl (lv_at hl 3 rfl) ?_
  refine lv_istore (lv' := [(5, .int (nI mm)), (4, .int (nI fe)), (0, .ref x), (1, .int (nI d)), (2, .int (nI mm)), (3, .ref qt)]) hx hb d_sd_quot_22 hl (by decide) rfl (fun ls hl => ?_)
  refine lv_iconst (v := nI 0) hx hb d_sd_quot_24 (by decide) ?_
  refine lv_istore (lv' := [(6, .int (nI 0)), (5, .int (nI mm)), (4, .int (nI fe)), (0, .ref x), (1, .int (nI d)), (2, .int (nI mm)), (3, .ref qt)]) hx hb d_sd_quot_25 hl (by decide) rfl (fun ls hl => ?_)
  refine lp_quot1 hfe hx hb hml hRR hg hown hK hd hn1 hn8 hm hw hW hfw (fun H locs ls ft hft hP hD hS hl => ?_) n 0 _ _ ls ft (by omega) (fun q hq => absurd hq (by omega)) hP hD hS (lv_sub hl [0, 1, 2, 6, 5, 4, 3] rfl)
  exact lp_quot2 hx hb hml hRR hg hown hK hd hn1 hn8 hm hw hW hfw kk _ 0 _ _ ls ft (Nat.zero_add _) hft hP hD hS hl
end QUO
set_option maxRecDepth 10000 in
set_option maxHeartbeats 4000000 in
theorem c_sd_quot (l : Launch) (D : va_G) (cI : ClassId) (x qw qs qo qt sz n mm d : Nat) (fw ft : Nat → Int32) (w : Nat → Nat) (hd : d = 1 ∨ d = 2) (hn1 : 1 ≤ n) (hn8 : n ≤ 8) (hm : mm ≤ 10000) (hw : ∀ q, w q ≤ 100000) (hW : 0 < pu_sum w n) (hfw : ∀ q, q < 8 → fw q = nI (w q)) : Met l y_sd_quot w_sd_quot (rL 1 0 0) (va_Pc [.ref x, .int (nI d), .int (nI mm), .ref qt] (gP D [(cI, .int)] [oD x qw qs qo (nI n) (nI (pu_sum w n)), aI qw cI fw, aI qt cI ft] sz)) (va_Qv (fun u : Nat → Int32 => ∀ q, q < n → u q = nI (pu_G n w d mm q)) (gB D [(cI, .int)] (va_A [oD x qw qs qo (nI n) (nI (pu_sum w n)), aI qw cI fw, aI qt cI ft] sz) (fun u => [oD x qw qs qo (nI n) (nI (pu_sum w n)), aI qw cI fw, aI qt cI u])) (va_A [oD x qw qs qo (nI n) (nI (pu_sum w n)), aI qw cI fw, aI qt cI ft] sz)) 0 0 (va_A [oD x qw qs qo (nI n) (nI (pu_sum w n)), aI qw cI fw, aI qt cI ft] sz) := by
  refine Met.ofW (cc := b_sd_quot) (maxL := 9) (ret := none) (by decide) rfl ?_
  intro p e s m args below meth c s₁ B hml hv
  obtain ⟨rfl, hsz, hP, hK, hD0⟩ := hv
  have hx := B.exec
  have hb := B.bytes
  have hr := B.returns
  have hts := atoms_spec (ws := w_sd_quot) B.pre
  have hg : ∀ w ∈ gws, w.before ([.ref x, .int (nI d), .int (nI mm), .ref qt] : List Value).toArray s = true := fun w hw => hts w (List.mem_cons_of_mem _ hw)
  have hown : s.vm.findClass "ShareDesk" = some m.cls := findClass_of_methodNamed B.named
  have hlk := B.notSynchronized
  subst hsz
  have hD := hD0.self (sz := s.heap.size)
  generalize hAe : va_A [oD x qw qs qo (nI n) (nI (pu_sum w n)), aI qw cI fw, aI qt cI ft] s.heap.size = A at hD ⊢
  have hA : ∀ q : Nat, s.heap.size ≤ q → A q := fun q h => by rw [← hAe]; exact Or.inr h
  have hS : va_S A s.heap s.heap [] := va_S.rf
  have hP : va_P D cls2 [oD x qw qs qo (nI n) (nI (pu_sum w n)), aI qw cI fw, aI qt cI ft] s.heap := hP
  have hl := lv_entry ([.ref x, .int (nI d), .int (nI mm), .ref qt]) (n := 9) (Nat.le_of_ble_eq_true rfl)
  rw [lg_entry_eq]
  generalize (lg_sl ([.ref x, .int (nI d), .int (nI mm), .ref qt]) ++ List.replicate (9 - (lg_sl ([.ref x, .int (nI d), .int (nI mm), .ref qt])).length) Slot.unset).toArray = ls at hl ⊢
  have hl : lv_has ls 9 [(0, .ref x), (1, .int (nI d)), (2, .int (nI mm)), (3, .ref qt)] := hl
  have hRR : 1 ≤ (headSpec w_sd_quot (rL 1 0 0)).room.frames ∧ 36 ≤ (headSpec w_sd_quot (rL 1 0 0)).room.locals ∧ 0 + 0 ≤ (headSpec w_sd_quot (rL 1 0 0)).room.cells ∧ 0 + 0 ≤ (headSpec w_sd_quot (rL 1 0 0)).room.slots := ⟨by decide, by decide, by decide, by decide⟩
  refine lv_iload_n hx hb d_sd_quot_0 rfl (lv_at hl 1 rfl) ?_
  refine lv_iconst (v := nI 1) hx hb d_sd_quot_1 (by decide) ?_
  refine xc_ne (tgt := 9) hx hb d_sd_quot_2 (by decide) (by omega) (by omega) (fun h1 => ?_) (fun h1 => ?_)
  · refine lv_iconst (v := nI 0) hx hb d_sd_quot_9 (by decide) ?_
    refine lv_iload_n hx hb d_sd_quot_10 rfl (lv_at hl 2 rfl) ?_
    refine lv_aload_n hx hb d_sd_quot_11 rfl (lv_at hl 0 rfl) ?_
    refine sd_get hx hb hg hown hK hP 0 rfl 3 (by decide) k_20 rfl d_sd_quot_12 ?_
    refine lv_isub hx hb d_sd_quot_15 ?_
    refine va_mmax hx hb (hml.trans hl.1.symm) hown (hg _ k_159) (hg _ k_160) (hg _ k_8) (hg _ k_161) (by decide) (by decide) (by decide) (by decide) d_sd_quot_16 ?_
    rw [mx0 hm hn8]
    exact qt_19 (by rw [if_neg h1]) hx hb hml hRR hg hown hK hd hn1 hn8 hm hw hW hfw hP hD hS hl (fun H locs ls ft hft hP hD hS => en_gv ft hx hb hr hlk hft hP hK hD hS d_sd_quot_194)
  · refine lv_iload_n hx hb d_sd_quot_5 rfl (lv_at hl 2 rfl) ?_
    refine lv_goto (tgt := 19) hx hb d_sd_quot_6 (by decide) ?_
    exact qt_19 (by rw [if_pos h1]) hx hb hml hRR hg hown hK hd hn1 hn8 hm hw hW hfw hP hD hS hl (fun H locs ls ft hft hP hD hS => en_gv ft hx hb hr hlk hft hP hK hD hS d_sd_quot_194)
end
section
/-! ShareDesk: give, ready, share, over, begin, weight, count, where all is well -/
set_option maxRecDepth 10000 in
set_option maxHeartbeats 4000000 in
theorem c_sd_give (l : Launch) (D : va_G) (cI : ClassId) (x qw qs qo qt sz n mm d : Nat) (fw ft : Nat → Int32) (w : Nat → Nat) (hd : d < 3) (hm : mm ≤ 10000) (hn1 : 1 ≤ n) (hn8 : n ≤ 8) (hw : ∀ q, w q ≤ 100000) (hfw : ∀ q, q < 8 → fw q = nI (w q)) (hW : 0 < pu_sum w n) : Met l y_sd_give w_sd_give (rL 2 0 0) (va_Pc [.ref x, .int (nI d), .int (nI mm), .ref qt] (gP D [(cI, .int)] [oD x qw qs qo (nI n) (nI (pu_sum w n)), aI qw cI fw, aI qt cI ft] sz)) (va_Qv (fun u : Nat → Int32 => ∀ q, q < n → u q = nI (pu_sh n w d mm q)) (gB D [(cI, .int)] (va_A [oD x qw qs qo (nI n) (nI (pu_sum w n)), aI qw cI fw, aI qt cI ft] sz) (fun u => [oD x qw qs qo (nI n) (nI (pu_sum w n)), aI qw cI fw, aI qt cI u])) (va_A [oD x qw qs qo (nI n) (nI (pu_sum w n)), aI qw cI fw, aI qt cI ft] sz)) 0 0 (va_A [oD x qw qs qo (nI n) (nI (pu_sum w n)), aI qw cI fw, aI qt cI ft] sz) := by
  refine Met.ofW (cc := b_sd_give) (maxL := 4) (ret := none) (by decide) rfl ?_
  intro p e s m args below meth c s₁ B hml hv
  obtain ⟨rfl, hsz, hP, hK, hD0⟩ := hv
  have hx := B.exec
  have hb := B.bytes
  have hr := B.returns
  have hts := atoms_spec (ws := w_sd_give) B.pre
  have hg : ∀ w ∈ gws, w.before ([.ref x, .int (nI d), .int (nI mm), .ref qt] : List Value).toArray s = true := fun w hw => hts w (List.mem_cons_of_mem _ hw)
  have hown : s.vm.findClass "ShareDesk" = some m.cls := findClass_of_methodNamed B.named
  have hlk := B.notSynchronized
  subst hsz
  have hD := hD0.self (sz := s.heap.size)
  generalize hAe : va_A [oD x qw qs qo (nI n) (nI (pu_sum w n)), aI qw cI fw, aI qt cI ft] s.heap.size = A at hD ⊢
  have hA : ∀ q : Nat, s.heap.size ≤ q → A q := fun q h => by rw [← hAe]; exact Or.inr h
  have hS : va_S A s.heap s.heap [] := va_S.rf
  have hP : va_P D cls2 [oD x qw qs qo (nI n) (nI (pu_sum w n)), aI qw cI fw, aI qt cI ft] s.heap := hP
  have hl := lv_entry ([.ref x, .int (nI d), .int (nI mm), .ref qt]) (n := 4) (Nat.le_of_ble_eq_true rfl)
  rw [lg_entry_eq]
  generalize (lg_sl ([.ref x, .int (nI d), .int (nI mm), .ref qt]) ++ List.replicate (4 - (lg_sl ([.ref x, .int (nI d), .int (nI mm), .ref qt])).length) Slot.unset).toArray = ls at hl ⊢
  have hl : lv_has ls 4 [(0, .ref x), (1, .int (nI d)), (2, .int (nI mm)), (3, .ref qt)] := hl
  refine lv_iload_n hx hb d_sd_give_0 rfl (lv_at hl 1 rfl) ?_
  refine xz_ne (tgt := 13) hx hb d_sd_give_1 (by decide) (by omega) (fun h1 => ?_) (fun h1 => ?_)
  · refine lv_aload_n hx hb d_sd_give_13 rfl (lv_at hl 0 rfl) ?_
    refine lv_iload_n hx hb d_sd_give_14 rfl (lv_at hl 1 rfl) ?_
    refine lv_iload_n hx hb d_sd_give_15 rfl (lv_at hl 2 rfl) ?_
    refine lv_aload_n hx hb d_sd_give_16 rfl (lv_at hl 3 rfl) ?_
    refine ev_v (C := "ShareDesk") hx hb hml hown hg (c_sd_quot l D cI x qw qs qo qt s.heap.size n mm d fw ft w (by omega) hn1 hn8 hm hw hW hfw) ⟨k_155, k_157, ks_5, k_1, k_158⟩ n_sd_quot ⟨rfl, rfl, by decide, by decide⟩ hK hP hD hS hA [0, 1, 2] [] rfl rfl (wr := []) rfl rfl (by decide) (va_recv (q0 := 0) (ci := 0) hK hP rfl rfl) hl.1 rfl (Nat.le_of_ble_eq_true rfl) d_sd_give_17 ⟨by decide, by decide⟩ (fun u H locs hp hP hD hS => ?_)
    have hP : va_P D cls2 [oD x qw qs qo (nI n) (nI (pu_sum w n)), aI qw cI fw, aI qt cI u] H := hP.sub [0, 1, 2] rfl
    have hD : va_D A [oD x qw qs qo (nI n) (nI (pu_sum w n)), aI qw cI fw, aI qt cI u] := hD.sub [0, 1, 2] rfl rfl
    exact en_gv u hx hb hr hlk (fun q hq => by rw [hp q hq, pu_sh, if_neg (by omega)]) hP hK hD hS d_sd_give_20
  · refine lv_aload_n hx hb d_sd_give_4 rfl (lv_at hl 0 rfl) ?_
    refine lv_iload_n hx hb d_sd_give_5 rfl (lv_at hl 2 rfl) ?_
    refine lv_aload_n hx hb d_sd_give_6 rfl (lv_at hl 3 rfl) ?_
    refine ev_v (C := "ShareDesk") hx hb hml hown hg (c_sd_rests l D cI x qw qs qo qt s.heap.size n mm fw ft w hn8 hm hw hW hfw) ⟨k_150, k_152, ks_4, k_1, k_153⟩ n_sd_rests ⟨rfl, rfl, by decide, by decide⟩ hK hP hD hS hA [0, 1, 2] [] rfl rfl (wr := []) rfl rfl (by decide) (va_recv (q0 := 0) (ci := 0) hK hP rfl rfl) hl.1 rfl (Nat.le_of_ble_eq_true rfl) d_sd_give_7 ⟨by decide, by decide⟩ (fun u H locs hp hP hD hS => ?_)
    have hP : va_P D cls2 [oD x qw qs qo (nI n) (nI (pu_sum w n)), aI qw cI fw, aI qt cI u] H := hP.sub [0, 1, 2] rfl
    have hD : va_D A [oD x qw qs qo (nI n) (nI (pu_sum w n)), aI qw cI fw, aI qt cI u] := hD.sub [0, 1, 2] rfl rfl
    refine lv_goto (tgt := 20) hx hb d_sd_give_10 (by decide) ?_
    exact en_gv u hx hb hr hlk (fun q hq => by rw [hp q hq, pu_sh, if_pos h1]) hP hK hD hS d_sd_give_20
set_option maxRecDepth 10000 in
set_option maxHeartbeats 4000000 in
theorem c_sd_ready (l : Launch) (D : va_G) (tys : List (ClassId × FieldType)) (x qw qs qo sz n W mm d : Nat) (hd : d < 3) (hm : mm ≤ 10000) (hW : 0 < W) (hWb : W ≤ 800000) : Met l y_sd_ready w_sd_ready (rL 1 0 0) (va_Pc [.ref x, .int (nI d), .int (nI mm)] (gP D tys [oD x qw qs qo (nI n) (nI W)] sz)) (va_Sv (fun _ => True)) 0 0 (fun _ => False) := by
  refine Met.ofW (cc := b_sd_ready) (maxL := 3) (ret := none) (by decide) rfl ?_
  intro p e s m args below meth c s₁ B hml hv
  obtain ⟨rfl, hsz, hP, hK, hD0⟩ := hv
  have hx := B.exec
  have hb := B.bytes
  have hr := B.returns
  have hts := atoms_spec (ws := w_sd_ready) B.pre
  have hg : ∀ w ∈ gws, w.before ([.ref x, .int (nI d), .int (nI mm)] : List Value).toArray s = true := fun w hw => hts w (List.mem_cons_of_mem _ hw)
  have hown : s.vm.findClass "ShareDesk" = some m.cls := findClass_of_methodNamed B.named
  have hlk := B.notSynchronized
  subst hsz
  have hD := hD0
  have hP : va_P D cls2 [oD x qw qs qo (nI n) (nI W)] s.heap := hP
  have hl := lv_entry ([.ref x, .int (nI d), .int (nI mm)]) (n := 3) (Nat.le_of_ble_eq_true rfl)
  rw [lg_entry_eq]
  generalize (lg_sl ([.ref x, .int (nI d), .int (nI mm)]) ++ List.replicate (3 - (lg_sl ([.ref x, .int (nI d), .int (nI mm)])).length) Slot.unset).toArray = ls at hl ⊢
  have hl : lv_has ls 3 [(0, .ref x), (1, .int (nI d)), (2, .int (nI mm))] := hl
  refine lv_iload_n hx hb d_sd_ready_0 rfl (lv_at hl 1 rfl) ?_
  refine xz_lt (tgt := 24) hx hb d_sd_ready_1 (by decide) (by omega) ?_
  refine lv_iload_n hx hb d_sd_ready_4 rfl (lv_at hl 1 rfl) ?_
  refine lv_iconst (v := nI 3) hx hb d_sd_ready_5 (by decide) ?_
  refine xc_ge (tgt := 24) hx hb d_sd_ready_6 (by decide) (by omega) (by omega) (fun hc => ?_) (fun hc => ?_)
  · exact absurd hc (by omega)
  · refine lv_iload_n hx hb d_sd_ready_9 rfl (lv_at hl 2 rfl) ?_
    refine xz_lt (tgt := 24) hx hb d_sd_ready_10 (by decide) (by omega) ?_
    refine lv_iload_n hx hb d_sd_ready_13 rfl (lv_at hl 2 rfl) ?_
    refine lv_sipush (v := nI 10000) hx hb d_sd_ready_14 (by decide) ?_
    refine xc_gt (tgt := 24) hx hb d_sd_ready_17 (by decide) (by omega) (by omega) (fun hc => ?_) (fun hc => ?_)
    · exact absurd hc (by omega)
    · refine lv_iconst (v := nI 1) hx hb d_sd_ready_20 (by decide) ?_
      refine lv_goto (tgt := 25) hx hb d_sd_ready_21 (by decide) ?_
      refine ps_v hx hb hml hown hg (c_sd_good l) ⟨k_42, k_43, k_1, k_44⟩ n_sd_good ⟨rfl, rfl, by decide, by decide⟩ hl.1 rfl (Nat.le_of_ble_eq_true rfl) d_sd_ready_25 ⟨by decide, by decide⟩ (fun _ => ?_)
      refine lv_aload_n hx hb d_sd_ready_28 rfl (lv_at hl 0 rfl) ?_
      refine sd_get hx hb hg hown hK hP 0 rfl 4 (by decide) k_21 rfl d_sd_ready_29 ?_
      refine xz_ne (tgt := 43) hx hb d_sd_ready_32 (by decide) (by omega) (fun hc => ?_) (fun hc => ?_)
      · exact en_v hx hb hr hlk trivial d_sd_ready_43
      · exact absurd hc (by omega)
set_option maxRecDepth 10000 in
set_option maxHeartbeats 4000000 in
theorem c_sd_share (l : Launch) (D : va_G) (cI : ClassId) (x qw qs qo sz n mm d pp : Nat) (fw fs : Nat → Int32) (w : Nat → Nat) (hd : d < 3) (hm : mm ≤ 10000) (hp : pp < n) (hn1 : 1 ≤ n) (hn8 : n ≤ 8) (hw : ∀ q, w q ≤ 100000) (hfw : ∀ q, q < 8 → fw q = nI (w q)) (hW : 0 < pu_sum w n) : Met l y_sd_share w_sd_share (rL 3 0 0) (va_Pc [.ref x, .int (nI d), .int (nI mm), .int (nI pp)] (gP D [(cI, .int)] [oD x qw qs qo (nI n) (nI (pu_sum w n)), aI qw cI fw, aI qs cI fs] sz)) (va_Qi (fun r _ => r = nI (pu_sh n w d mm pp)) (gB D [(cI, .int)] (va_A [oD x qw qs qo (nI n) (nI (pu_sum w n)), aI qw cI fw, aI qs cI fs] sz) (fun u : Nat → Int32 => [oD x qw qs qo (nI n) (nI (pu_sum w n)), aI qw cI fw, aI qs cI u])) (va_A [oD x qw qs qo (nI n) (nI (pu_sum w n)), aI qw cI fw, aI qs cI fs] sz)) 0 0 (va_A [oD x qw qs qo (nI n) (nI (pu_sum w n)), aI qw cI fw, aI qs cI fs] sz) := by
  refine Met.ofW (cc := b_sd_share) (maxL := 4) (ret := (some .int)) (by decide) rfl ?_
  intro p e s m args below meth c s₁ B hml hv
  obtain ⟨rfl, hsz, hP, hK, hD0⟩ := hv
  have hx := B.exec
  have hb := B.bytes
  have hr := B.returns
  have hts := atoms_spec (ws := w_sd_share) B.pre
  have hg : ∀ w ∈ gws, w.before ([.ref x, .int (nI d), .int (nI mm), .int (nI pp)] : List Value).toArray s = true := fun w hw => hts w (List.mem_cons_of_mem _ hw)
  have hown : s.vm.findClass "ShareDesk" = some m.cls := findClass_of_methodNamed B.named
  have hlk := B.notSynchronized
  subst hsz
  have hD := hD0.self (sz := s.heap.size)
  generalize hAe : va_A [oD x qw qs qo (nI n) (nI (pu_sum w n)), aI qw cI fw, aI qs cI fs] s.heap.size = A at hD ⊢
  have hA : ∀ q : Nat, s.heap.size ≤ q → A q := fun q h => by rw [← hAe]; exact Or.inr h
  have hS : va_S A s.heap s.heap [] := va_S.rf
  have hP : va_P D cls2 [oD x qw qs qo (nI n) (nI (pu_sum w n)), aI qw cI fw, aI qs cI fs] s.heap := hP
  have hl := lv_entry ([.ref x, .int (nI d), .int (nI mm), .int (nI pp)]) (n := 4) (Nat.le_of_ble_eq_true rfl)
  rw [lg_entry_eq]
  generalize (lg_sl ([.ref x, .int (nI d), .int (nI mm), .int (nI pp)]) ++ List.replicate (4 - (lg_sl ([.ref x, .int (nI d), .int (nI mm), .int (nI pp)])).length) Slot.unset).toArray = ls at hl ⊢
  have hl : lv_has ls 4 [(0, .ref x), (1, .int (nI d)), (2, .int (nI mm)), (3, .int (nI pp))] := hl
  have hWb := pu_sum_bd hn8 hw
  refine lv_aload_n hx hb d_sd_share_0 rfl (lv_at hl 0 rfl) ?_
  refine lv_iload_n hx hb d_sd_share_1 rfl (lv_at hl 3 rfl) ?_
  refine pv_i (C := "ShareDesk") hx hb hml hown hg (c_sd_is l D [(cI, .int)] x qw qs qo s.heap.size n (nI (pu_sum w n)) (nI pp)) ⟨k_114, k_116, ks_1, k_1, k_117⟩ n_sd_is ⟨rfl, rfl, by decide, by decide⟩ hK (hP.sub [0] rfl) (hD.sub [0] rfl rfl) (va_recv (q0 := 0) (ci := 0) hK hP rfl rfl) hl.1 rfl (Nat.le_of_ble_eq_true rfl) d_sd_share_2 ⟨by decide, by decide⟩ (fun ri hi => ?_)
  obtain rfl : ri = nI 1 := hi.1 ⟨nI_pos (by omega), fun z => absurd ((nI_leI (by omega) (by omega)).mp z) (by omega)⟩
  refine ps_v hx hb hml hown hg (c_sd_good l) ⟨k_42, k_43, k_1, k_44⟩ n_sd_good ⟨rfl, rfl, by decide, by decide⟩ hl.1 rfl (Nat.le_of_ble_eq_true rfl) d_sd_share_5 ⟨by decide, by decide⟩ (fun _ => ?_)
  refine lv_aload_n hx hb d_sd_share_8 rfl (lv_at hl 0 rfl) ?_
  refine lv_iload_n hx hb d_sd_share_9 rfl (lv_at hl 1 rfl) ?_
  refine lv_iload_n hx hb d_sd_share_10 rfl (lv_at hl 2 rfl) ?_
  refine pv_v (C := "ShareDesk") hx hb hml hown hg (c_sd_ready l D [(cI, .int)] x qw qs qo s.heap.size n (pu_sum w n) mm d hd hm hW hWb) ⟨k_127, k_129, ks_2, k_1, k_130⟩ n_sd_ready ⟨rfl, rfl, by decide, by decide⟩ hK (hP.sub [0] rfl) (hD.sub [0] rfl rfl) (va_recv (q0 := 0) (ci := 0) hK hP rfl rfl) hl.1 rfl (Nat.le_of_ble_eq_true rfl) d_sd_share_11 ⟨by decide, by decide⟩ (fun _ => ?_)
  refine lv_aload_n hx hb d_sd_share_14 rfl (lv_at hl 0 rfl) ?_
  refine lv_iload_n hx hb d_sd_share_15 rfl (lv_at hl 1 rfl) ?_
  refine lv_iload_n hx hb d_sd_share_16 rfl (lv_at hl 2 rfl) ?_
  refine lv_aload_n hx hb d_sd_share_17 rfl (lv_at hl 0 rfl) ?_
  refine sd_get hx hb hg hown hK hP 0 rfl 1 (by decide) k_18 rfl d_sd_share_18 ?_
  refine ev_v (C := "ShareDesk") hx hb hml hown hg (c_sd_give l D cI x qw qs qo qs s.heap.size n mm d fw fs w hd hm hn1 hn8 hw hfw hW) ⟨k_146, k_148, ks_3, k_1, k_149⟩ n_sd_give ⟨rfl, rfl, by decide, by decide⟩ hK hP hD hS hA [0, 1, 2] [] rfl rfl (wr := []) rfl rfl (by decide) (va_recv (q0 := 0) (ci := 0) hK hP rfl rfl) hl.1 rfl (Nat.le_of_ble_eq_true rfl) d_sd_share_21 ⟨by decide, by decide⟩ (fun u H locs hu hP hD hS => ?_)
  have hP : va_P D cls2 [oD x qw qs qo (nI n) (nI (pu_sum w n)), aI qw cI fw, aI qs cI u] H := hP.sub [0, 1, 2] rfl
  have hD : va_D A [oD x qw qs qo (nI n) (nI (pu_sum w n)), aI qw cI fw, aI qs cI u] := hD.sub [0, 1, 2] rfl rfl
  refine lv_aload_n hx hb d_sd_share_24 rfl (lv_at hl 0 rfl) ?_
  refine sd_get hx hb hg hown hK hP 0 rfl 1 (by decide) k_18 rfl d_sd_share_25 ?_
  refine lv_iload_n hx hb d_sd_share_28 rfl (lv_at hl 3 rfl) ?_
  refine xa_iald hx hb hK hP 2 0 rfl rfl (by omega) d_sd_share_29 (v := nI (pu_sh n w d mm pp)) (hu pp hp) ?_
  exact en_gi u hx hb hr hlk rfl hP hK hD hS d_sd_share_30
set_option maxRecDepth 10000 in
set_option maxHeartbeats 4000000 in
theorem c_sd_over (l : Launch) (D : va_G) (cI : ClassId) (x qw qs qo sz n mm d pp : Nat) (fw fs : Nat → Int32) (w : Nat → Nat) (hd : d < 3) (hm : mm ≤ 10000) (hp : pp < n) (hn1 : 1 ≤ n) (hn8 : n ≤ 8) (hw : ∀ q, w q ≤ 100000) (hfw : ∀ q, q < 8 → fw q = nI (w q)) (hW : 0 < pu_sum w n) : Met l y_sd_over w_sd_over (rL 4 0 0) (va_Pc [.ref x, .int (nI d), .int (nI mm), .int (nI pp)] (gP D [(cI, .int)] [oD x qw qs qo (nI n) (nI (pu_sum w n)), aI qw cI fw, aI qs cI fs] sz)) (va_Ql (fun r _ => r = lN (pu_sh n w d mm pp * pu_sum w n) - lN (mm * w pp)) (gB D [(cI, .int)] (va_A [oD x qw qs qo (nI n) (nI (pu_sum w n)), aI qw cI fw, aI qs cI fs] sz) (fun u : Nat → Int32 => [oD x qw qs qo (nI n) (nI (pu_sum w n)), aI qw cI fw, aI qs cI u])) (va_A [oD x qw qs qo (nI n) (nI (pu_sum w n)), aI qw cI fw, aI qs cI fs] sz)) 0 0 (va_A [oD x qw qs qo (nI n) (nI (pu_sum w n)), aI qw cI fw, aI qs cI fs] sz) := by
  refine Met.ofW (cc := b_sd_over) (maxL := 4) (ret := (some .long)) (by decide) rfl ?_
  intro p e s m args below meth c s₁ B hml hv
  obtain ⟨rfl, hsz, hP, hK, hD0⟩ := hv
  have hx := B.exec
  have hb := B.bytes
  have hr := B.returns
  have hts := atoms_spec (ws := w_sd_over) B.pre
  have hg : ∀ w ∈ gws, w.before ([.ref x, .int (nI d), .int (nI mm), .int (nI pp)] : List Value).toArray s = true := fun w hw => hts w (List.mem_cons_of_mem _ hw)
  have hown : s.vm.findClass "ShareDesk" = some m.cls := findClass_of_methodNamed B.named
  have hlk := B.notSynchronized
  subst hsz
  have hD := hD0.self (sz := s.heap.size)
  generalize hAe : va_A [oD x qw qs qo (nI n) (nI (pu_sum w n)), aI qw cI fw, aI qs cI fs] s.heap.size = A at hD ⊢
  have hA : ∀ q : Nat, s.heap.size ≤ q → A q := fun q h => by rw [← hAe]; exact Or.inr h
  have hS : va_S A s.heap s.heap [] := va_S.rf
  have hP : va_P D cls2 [oD x qw qs qo (nI n) (nI (pu_sum w n)), aI qw cI fw, aI qs cI fs] s.heap := hP
  have hl := lv_entry ([.ref x, .int (nI d), .int (nI mm), .int (nI pp)]) (n := 4) (Nat.le_of_ble_eq_true rfl)
  rw [lg_entry_eq]
  generalize (lg_sl ([.ref x, .int (nI d), .int (nI mm), .int (nI pp)]) ++ List.replicate (4 - (lg_sl ([.ref x, .int (nI d), .int (nI mm), .int (nI pp)])).length) Slot.unset).toArray = ls at hl ⊢
  have hl : lv_has ls 4 [(0, .ref x), (1, .int (nI d)), (2, .int (nI mm)), (3, .int (nI pp))] := hl
  have hWb := pu_sum_bd hn8 hw
  have hwp := hw pp
  have hsh := Nat.le_trans (pu_sh_le (d := d) (m := mm) hW hp) hm
  refine lv_aload_n hx hb d_sd_over_0 rfl (lv_at hl 0 rfl) ?_
  refine lv_iload_n hx hb d_sd_over_1 rfl (lv_at hl 1 rfl) ?_
  refine lv_iload_n hx hb d_sd_over_2 rfl (lv_at hl 2 rfl) ?_
  refine lv_iload_n hx hb d_sd_over_3 rfl (lv_at hl 3 rfl) ?_
  refine ev_i (C := "ShareDesk") hx hb hml hown hg (c_sd_share l D cI x qw qs qo s.heap.size n mm d pp fw fs w hd hm hp hn1 hn8 hw hfw hW) ⟨k_173, k_124, k_125, k_1, k_126⟩ n_sd_share ⟨rfl, rfl, by decide, by decide⟩ hK hP hD hS hA [0, 1, 2] [] rfl rfl (wr := []) rfl rfl (by decide) (va_recv (q0 := 0) (ci := 0) hK hP rfl rfl) hl.1 rfl (Nat.le_of_ble_eq_true rfl) d_sd_over_4 ⟨by decide, by decide⟩ (fun r u H locs hu hP hD hS => ?_)
  have hP : va_P D cls2 [oD x qw qs qo (nI n) (nI (pu_sum w n)), aI qw cI fw, aI qs cI u] H := hP.sub [0, 1, 2] rfl
  have hD : va_D A [oD x qw qs qo (nI n) (nI (pu_sum w n)), aI qw cI fw, aI qs cI u] := hD.sub [0, 1, 2] rfl rfl
  subst hu
  refine lv_i2l (v := lN (pu_sh n w d mm pp)) hx hb d_sd_over_7 (nI_l (by omega)) ?_
  refine lv_aload_n hx hb d_sd_over_8 rfl (lv_at hl 0 rfl) ?_
  refine sd_get hx hb hg hown hK hP 0 rfl 4 (by decide) k_21 rfl d_sd_over_9 ?_
  refine lv_i2l (v := lN (pu_sum w n)) hx hb d_sd_over_12 (nI_l (by omega)) ?_
  refine lv_lmul hx hb d_sd_over_13 ?_
  refine xr_l (lN_mul _ _) ?_
  refine lv_iload_n hx hb d_sd_over_14 rfl (lv_at hl 2 rfl) ?_
  refine lv_i2l (v := lN mm) hx hb d_sd_over_15 (nI_l (by omega)) ?_
  refine lv_aload_n hx hb d_sd_over_16 rfl (lv_at hl 0 rfl) ?_
  refine sd_get hx hb hg hown hK hP 0 rfl 0 (by decide) k_17 rfl d_sd_over_17 ?_
  refine lv_iload_n hx hb d_sd_over_20 rfl (lv_at hl 3 rfl) ?_
  refine xa_iald hx hb hK hP 1 0 rfl rfl (by omega) d_sd_over_21 (v := nI (w pp)) (hfw pp (by omega)) ?_
  refine lv_i2l (v := lN (w pp)) hx hb d_sd_over_22 (nI_l (by omega)) ?_
  refine lv_lmul hx hb d_sd_over_23 ?_
  refine xr_l (lN_mul _ _) ?_
  refine lv_lsub hx hb d_sd_over_24 ?_
  refine xr_l (y := lN (pu_sh n w d mm pp * pu_sum w n) - lN (mm * w pp)) rfl ?_
  exact en_gl u hx hb hr hlk rfl hP hK hD hS d_sd_over_25
section BGN
variable {p : Program} {l : Launch} {e : Env} {R : Room} {s : State} {m : MethodId} {args : Array Value} {below : List Frame} {meth : Method} {c : Code} {cells slots : Nat} {Q : State → Prop}
variable {D : va_G} {A : Nat → Prop}
variable {x qw qs qo k : Nat} {cI : ClassId}
set_option maxRecDepth 10000 in
set_option maxHeartbeats 4000000 in
theorem lp_begin (hx : p.tables.exec = Jvm.exec) (hb : c.code = b_sd_begin) (hg : ∀ w ∈ gws, w.before args s = true) (hown : s.vm.findClass "ShareDesk" = some m.cls) (hK : va_K D cls2 [(cI, .int)] s)
    (kk : ∀ (H : Heap) (locs : List Loc) (ls : Array Slot) (ft : Nat → Int32), (∀ q, q < 8 → ft q = nI 0) → va_P D cls2 [oD x qw qs qo (nI k) (nI 0), aI qw cI ft] H → va_D A [oD x qw qs qo (nI k) (nI 0), aI qw cI ft] → va_S A s.heap H locs → W p l e R s m args below meth c H locs cells slots Q (F0 m 49 ls [])) :
    ∀ (j i : Nat) (H : Heap) (locs : List Loc) (ls : Array Slot) (ft : Nat → Int32), i + j = 8 → (∀ q, q < i → ft q = nI 0) → va_P D cls2 [oD x qw qs qo (nI k) (nI 0), aI qw cI ft] H → va_D A [oD x qw qs qo (nI k) (nI 0), aI qw cI ft] → va_S A s.heap H locs → lv_has ls 3 [(2, .int (nI i)), (0, .ref x)] → W p l e R s m args below meth c H locs cells slots Q (F0 m 30 ls []) := by
  intro j
  induction j with
  | zero =>
    intro i H locs ls ft hi hft hP hD hS hl
    refine lv_iload_n hx hb d_sd_begin_30 rfl (lv_at hl 0 rfl) ?_
    refine lv_bipush (v := nI 8) hx hb d_sd_begin_31 (by decide) ?_
    refine xc_ge (tgt := 49) hx hb d_sd_begin_33 (by decide) (by omega) (by omega) (fun hc => ?_) (fun hc => ?_)
    · have : i = 8 := by omega
      subst this
      exact kk H locs ls ft hft hP hD hS
    · exact absurd hc (by omega)
  | succ j ih =>
    intro i H locs ls ft hi hft hP hD hS hl
    refine lv_iload_n hx hb d_sd_begin_30 rfl (lv_at hl 0 rfl) ?_
    refine lv_bipush (v := nI 8) hx hb d_sd_begin_31 (by decide) ?_
    refine xc_ge (tgt := 49) hx hb d_sd_begin_33 (by decide) (by omega) (by omega) (fun hc => ?_) (fun hc => ?_)
    · exact absurd hc (by omega)
    · refine lv_aload_n hx hb d_sd_begin_36 rfl (lv_at hl 1 rfl) ?_
      refine sd_get hx hb hg hown hK hP 0 rfl 0 (by decide) k_17 rfl d_sd_begin_37 ?_
      refine lv_iload_n hx hb d_sd_begin_40 rfl (lv_at hl 0 rfl) ?_
      refine lv_iconst (v := nI 0) hx hb d_sd_begin_41 (by decide) ?_
      refine xa_iast hx hb hK hP hD hS 1 0 rfl rfl (by omega) d_sd_begin_42 (fun H locs hP hD hS => ?_)
      have hP : va_P D cls2 [oD x qw qs qo (nI k) (nI 0), aI qw cI (upd ft i (nI 0))] H := hP
      have hD : va_D A [oD x qw qs qo (nI k) (nI 0), aI qw cI (upd ft i (nI 0))] := hD
      refine lv_iinc (k := 0) (v := nI (i + 1)) (lv' := [(2, .int (nI (i + 1))), (0, .ref x)]) hx hb d_sd_begin_43 hl rfl (xinc _) (by decide) rfl (fun ls hl => ?_)
      refine lv_goto (tgt := 30) hx hb d_sd_begin_46 (by decide) ?_
      refine ih (i + 1) H locs ls _ (by omega) (fun q hq2 => ?_) hP hD hS (lv_sub hl [0, 1] rfl)
      by_cases e9 : q = i
      · subst e9; exact pk_us
      · rw [pk_un e9]; exact hft q (by omega)
end BGN
set_option maxRecDepth 10000 in
set_option maxHeartbeats 4000000 in
theorem c_sd_begin (l : Launch) (D : va_G) (cI : ClassId) (x qw qs qo sz k : Nat) (P Wh : Int32) (fw : Nat → Int32) (hk1 : 1 ≤ k) (hk8 : k ≤ 8) : Met l y_sd_begin w_sd_begin (rL 1 0 0) (va_Pc [.ref x, .int (nI k)] (gP D [(cI, .int)] [oD x qw qs qo P Wh, aI qw cI fw] sz)) (va_Qv (fun u => ∀ q, q < 8 → u q = nI 0) (gB D [(cI, .int)] (va_A [oD x qw qs qo P Wh, aI qw cI fw] sz) (fun u : Nat → Int32 => [oD x qw qs qo (nI k) (nI 0), aI qw cI u])) (va_A [oD x qw qs qo P Wh, aI qw cI fw] sz)) 0 0 (va_A [oD x qw qs qo P Wh, aI qw cI fw] sz) := by
  refine Met.ofW (cc := b_sd_begin) (maxL := 3) (ret := none) (by decide) rfl ?_
  intro p e s m args below meth c s₁ B hml hv
  obtain ⟨rfl, hsz, hP, hK, hD0⟩ := hv
  have hx := B.exec
  have hb := B.bytes
  have hr := B.returns
  have hts := atoms_spec (ws := w_sd_begin) B.pre
  have hg : ∀ w ∈ gws, w.before ([.ref x, .int (nI k)] : List Value).toArray s = true := fun w hw => hts w (List.mem_cons_of_mem _ hw)
  have hown : s.vm.findClass "ShareDesk" = some m.cls := findClass_of_methodNamed B.named
  have hlk := B.notSynchronized
  subst hsz
  have hD := hD0.self (sz := s.heap.size)
  generalize hAe : va_A [oD x qw qs qo P Wh, aI qw cI fw] s.heap.size = A at hD ⊢
  have hA : ∀ q : Nat, s.heap.size ≤ q → A q := fun q h => by rw [← hAe]; exact Or.inr h
  have hS : va_S A s.heap s.heap [] := va_S.rf
  have hP : va_P D cls2 [oD x qw qs qo P Wh, aI qw cI fw] s.heap := hP
  have hl := lv_entry ([.ref x, .int (nI k)]) (n := 3) (Nat.le_of_ble_eq_true rfl)
  rw [lg_entry_eq]
  generalize (lg_sl ([.ref x, .int (nI k)]) ++ List.replicate (3 - (lg_sl ([.ref x, .int (nI k)])).length) Slot.unset).toArray = ls at hl ⊢
  have hl : lv_has ls 3 [(0, .ref x), (1, .int (nI k))] := hl
  refine lv_iload_n hx hb d_sd_begin_0 rfl (lv_at hl 1 rfl) ?_
  refine xz_le (tgt := 14) hx hb d_sd_begin_1 (by decide) (by omega) (fun hc => ?_) (fun hc => ?_)
  · exact absurd hc (by omega)
  · refine lv_iload_n hx hb d_sd_begin_4 rfl (lv_at hl 1 rfl) ?_
    refine lv_bipush (v := nI 8) hx hb d_sd_begin_5 (by decide) ?_
    refine xc_gt (tgt := 14) hx hb d_sd_begin_7 (by decide) (by omega) (by omega) (fun hc => ?_) (fun hc => ?_)
    · exact absurd hc (by omega)
    · refine lv_iconst (v := nI 1) hx hb d_sd_begin_10 (by decide) ?_
      refine lv_goto (tgt := 15) hx hb d_sd_begin_11 (by decide) ?_
      refine ps_v hx hb hml hown hg (c_sd_good l) ⟨k_42, k_43, k_1, k_44⟩ n_sd_good ⟨rfl, rfl, by decide, by decide⟩ hl.1 rfl (Nat.le_of_ble_eq_true rfl) d_sd_begin_15 ⟨by decide, by decide⟩ (fun _ => ?_)
      refine lv_aload_n hx hb d_sd_begin_18 rfl (lv_at hl 0 rfl) ?_
      refine lv_iload_n hx hb d_sd_begin_19 rfl (lv_at hl 1 rfl) ?_
      refine sd_put hx hb hg hown hK hP hD hS 0 rfl 3 (by decide) k_20 rfl (by decide +kernel) (Nat.le_of_ble_eq_true rfl) d_sd_begin_20 (fun H locs hP hD hS => ?_)
      have hP : va_P D cls2 [oD x qw qs qo (nI k) Wh, aI qw cI fw] H := hP
      have hD : va_D A [oD x qw qs qo (nI k) Wh, aI qw cI fw] := hD
      refine lv_aload_n hx hb d_sd_begin_23 rfl (lv_at hl 0 rfl) ?_
      refine lv_iconst (v := nI 0) hx hb d_sd_begin_24 (by decide) ?_
      refine sd_put hx hb hg hown hK hP hD hS 0 rfl 4 (by decide) k_21 rfl (by decide +kernel) (Nat.le_of_ble_eq_true rfl) d_sd_begin_25 (fun H locs hP hD hS => ?_)
      have hP : va_P D cls2 [oD x qw qs qo (nI k) (nI 0), aI qw cI fw] H := hP
      have hD : va_D A [oD x qw qs qo (nI k) (nI 0), aI qw cI fw] := hD
      refine lv_iconst (v := nI 0) hx hb d_sd_begin_28 (by decide) ?_
      refine lv_istore_n (lv' := [(2, .int (nI 0)), (0, .ref x), (1, .int (nI k))]) hx hb d_sd_begin_29 rfl hl (by decide) rfl (fun ls hl => ?_)
      refine lp_begin hx hb hg hown hK (fun H locs ls ft hft hP hD hS => ?_) 8 0 _ _ ls fw (by omega) (fun q hq => absurd hq (by omega)) hP hD hS (lv_sub hl [0, 1] rfl)
      exact en_gv ft hx hb hr hlk hft hP hK hD hS d_sd_begin_49
theorem pu_sum_up {w : Nat → Nat} {p v : Nat} : ∀ {n : Nat}, p < n → pu_sum (pu_up w p v) n + w p = pu_sum w n + v
  | 0, h => by omega
  | n + 1, h => by
    simp only [pu_sum]
    rcases Nat.lt_or_ge p n with z | z
    · have := pu_sum_up (w := w) (v := v) z
      rw [pu_up_n (show n ≠ p by omega)]
      omega
    · have : p = n := by omega
      subst this
      have : pu_sum (pu_up w p v) p = pu_sum w p := pu_sum_congr (fun q hq => pu_up_n (show q ≠ p by omega))
      rw [pu_up_s]
      omega
theorem whole_up {w : Nat → Nat} {p v n : Nat} (h : p < n) : nI (pu_sum w n) + (nI v - nI (w p)) = nI (pu_sum (pu_up w p v) n) := by
  have h1 : nI (pu_sum (pu_up w p v) n) + nI (w p) = nI (pu_sum w n) + nI v := by rw [nI_add, nI_add, pu_sum_up h]
  have h2 : nI (pu_sum w n) + (nI v - nI (w p)) = nI (pu_sum w n) + nI v - nI (w p) := by rw [Int32.sub_eq_add_neg, Int32.sub_eq_add_neg, Int32.add_assoc]
  rw [h2, ← h1, Int32.add_sub_cancel]
set_option maxRecDepth 10000 in
set_option maxHeartbeats 4000000 in
theorem c_sd_weight (l : Launch) (D : va_G) (cI : ClassId) (x qw qs qo sz n pp v : Nat) (fw : Nat → Int32) (w : Nat → Nat) (hp : pp < n) (hv : v ≤ 100000) (hn1 : 1 ≤ n) (hn8 : n ≤ 8) (hw : ∀ q, w q ≤ 100000) (hfw : ∀ q, q < 8 → fw q = nI (w q)) : Met l y_sd_weight w_sd_weight (rL 1 0 0) (va_Pc [.ref x, .int (nI pp), .int (nI v)] (gP D [(cI, .int)] [oD x qw qs qo (nI n) (nI (pu_sum w n)), aI qw cI fw] sz)) (va_Qi (fun r _ => r = nI (w pp)) (gB D [(cI, .int)] (va_A [oD x qw qs qo (nI n) (nI (pu_sum w n)), aI qw cI fw] sz) (fun u : Unit => [oD x qw qs qo (nI n) (nI (pu_sum (pu_up w pp v) n)), aI qw cI (upd fw pp (nI v))])) (va_A [oD x qw qs qo (nI n) (nI (pu_sum w n)), aI qw cI fw] sz)) 0 0 (va_A [oD x qw qs qo (nI n) (nI (pu_sum w n)), aI qw cI fw] sz) := by
  refine Met.ofW (cc := b_sd_weight) (maxL := 4) (ret := (some .int)) (by decide) rfl ?_
  intro p e s m args below meth c s₁ B hml hv
  obtain ⟨rfl, hsz, hP, hK, hD0⟩ := hv
  have hx := B.exec
  have hb := B.bytes
  have hr := B.returns
  have hts := atoms_spec (ws := w_sd_weight) B.pre
  have hg : ∀ w ∈ gws, w.before ([.ref x, .int (nI pp), .int (nI v)] : List Value).toArray s = true := fun w hw => hts w (List.mem_cons_of_mem _ hw)
  have hown : s.vm.findClass "ShareDesk" = some m.cls := findClass_of_methodNamed B.named
  have hlk := B.notSynchronized
  subst hsz
  have hD := hD0.self (sz := s.heap.size)
  generalize hAe : va_A [oD x qw qs qo (nI n) (nI (pu_sum w n)), aI qw cI fw] s.heap.size = A at hD ⊢
  have hA : ∀ q : Nat, s.heap.size ≤ q → A q := fun q h => by rw [← hAe]; exact Or.inr h
  have hS : va_S A s.heap s.heap [] := va_S.rf
  have hP : va_P D cls2 [oD x qw qs qo (nI n) (nI (pu_sum w n)), aI qw cI fw] s.heap := hP
  have hl := lv_entry ([.ref x, .int (nI pp), .int (nI v)]) (n := 4) (Nat.le_of_ble_eq_true rfl)
  rw [lg_entry_eq]
  generalize (lg_sl ([.ref x, .int (nI pp), .int (nI v)]) ++ List.replicate (4 - (lg_sl ([.ref x, .int (nI pp), .int (nI v)])).length) Slot.unset).toArray = ls at hl ⊢
  have hl : lv_has ls 4 [(0, .ref x), (1, .int (nI pp)), (2, .int (nI v))] := hl
  have hWb := pu_sum_bd hn8 hw
  refine lv_aload_n hx hb d_sd_weight_0 rfl (lv_at hl 0 rfl) ?_
  refine lv_iload_n hx hb d_sd_weight_1 rfl (lv_at hl 1 rfl) ?_
  refine pv_i (C := "ShareDesk") hx hb hml hown hg (c_sd_is l D [(cI, .int)] x qw qs qo s.heap.size n (nI (pu_sum w n)) (nI pp)) ⟨k_114, k_116, ks_1, k_1, k_117⟩ n_sd_is ⟨rfl, rfl, by decide, by decide⟩ hK (hP.sub [0] rfl) (hD.sub [0] rfl rfl) (va_recv (q0 := 0) (ci := 0) hK hP rfl rfl) hl.1 rfl (Nat.le_of_ble_eq_true rfl) d_sd_weight_2 ⟨by decide, by decide⟩ (fun ri hi => ?_)
  obtain rfl : ri = nI 1 := hi.1 ⟨nI_pos (by omega), fun z => absurd ((nI_leI (by omega) (by omega)).mp z) (by omega)⟩
  refine xz_eq (tgt := 22) hx hb d_sd_weight_5 (by decide) (by omega) (fun hc => ?_) (fun hc => ?_)
  · exact absurd hc (by decide)
  · refine lv_iload_n hx hb d_sd_weight_8 rfl (lv_at hl 2 rfl) ?_
    refine xz_lt (tgt := 22) hx hb d_sd_weight_9 (by decide) (by omega) ?_
    refine lv_iload_n hx hb d_sd_weight_12 rfl (lv_at hl 2 rfl) ?_
    refine lv_ldc hx hb hown (hg _ k_118) d_sd_weight_13 ?_
    refine xr_i (show (100000 : Int32) = nI 100000 by decide) ?_
    refine xc_gt (tgt := 22) hx hb d_sd_weight_15 (by decide) (by omega) (by omega) (fun hc => ?_) (fun hc => ?_)
    · exact absurd hc (by omega)
    · refine lv_iconst (v := nI 1) hx hb d_sd_weight_18 (by decide) ?_
      refine lv_goto (tgt := 23) hx hb d_sd_weight_19 (by decide) ?_
      refine ps_v hx hb hml hown hg (c_sd_good l) ⟨k_42, k_43, k_1, k_44⟩ n_sd_good ⟨rfl, rfl, by decide, by decide⟩ hl.1 rfl (Nat.le_of_ble_eq_true rfl) d_sd_weight_23 ⟨by decide, by decide⟩ (fun _ => ?_)
      refine lv_aload_n hx hb d_sd_weight_26 rfl (lv_at hl 0 rfl) ?_
      refine sd_get hx hb hg hown hK hP 0 rfl 0 (by decide) k_17 rfl d_sd_weight_27 ?_
      refine lv_iload_n hx hb d_sd_weight_30 rfl (lv_at hl 1 rfl) ?_
      refine xa_iald hx hb hK hP 1 0 rfl rfl (by omega) d_sd_weight_31 (v := nI (w pp)) (hfw pp (by omega)) ?_
      refine lv_istore_n (lv' := [(3, .int (nI (w pp))), (0, .ref x), (1, .int (nI pp)), (2, .int (nI v))]) hx hb d_sd_weight_32 rfl hl (by decide) rfl (fun ls hl => ?_)
      refine lv_aload_n hx hb d_sd_weight_33 rfl (lv_at hl 1 rfl) ?_
      refine sd_get hx hb hg hown hK hP 0 rfl 0 (by decide) k_17 rfl d_sd_weight_34 ?_
      refine lv_iload_n hx hb d_sd_weight_37 rfl (lv_at hl 2 rfl) ?_
      refine lv_iload_n hx hb d_sd_weight_38 rfl (lv_at hl 3 rfl) ?_
      refine xa_iast hx hb hK hP hD hS 1 0 rfl rfl (by omega) d_sd_weight_39 (fun H locs hP hD hS => ?_)
      have hP : va_P D cls2 [oD x qw qs qo (nI n) (nI (pu_sum w n)), aI qw cI (upd fw pp (nI v))] H := hP
      have hD : va_D A [oD x qw qs qo (nI n) (nI (pu_sum w n)), aI qw cI (upd fw pp (nI v))] := hD
      refine lv_aload_n hx hb d_sd_weight_40 rfl (lv_at hl 1 rfl) ?_
      refine lv_dup hx hb d_sd_weight_41 rfl ?_
      refine sd_get hx hb hg hown hK hP 0 rfl 4 (by decide) k_21 rfl d_sd_weight_42 ?_
      refine lv_iload_n hx hb d_sd_weight_45 rfl (lv_at hl 3 rfl) ?_
      refine lv_iload_n hx hb d_sd_weight_46 rfl (lv_at hl 0 rfl) ?_
      refine lv_isub hx hb d_sd_weight_47 ?_
      refine lv_iadd hx hb d_sd_weight_48 ?_
      refine xr_i (y := nI (pu_sum (pu_up w pp v) n)) (whole_up hp) ?_
      refine sd_put hx hb hg hown hK hP hD hS 0 rfl 4 (by decide) k_21 rfl (by decide +kernel) (Nat.le_of_ble_eq_true rfl) d_sd_weight_49 (fun H locs hP hD hS => ?_)
      have hP : va_P D cls2 [oD x qw qs qo (nI n) (nI (pu_sum (pu_up w pp v) n)), aI qw cI (upd fw pp (nI v))] H := hP
      have hD : va_D A [oD x qw qs qo (nI n) (nI (pu_sum (pu_up w pp v) n)), aI qw cI (upd fw pp (nI v))] := hD
      refine lv_iload_n hx hb d_sd_weight_52 rfl (lv_at hl 0 rfl) ?_
      exact en_gi () hx hb hr hlk rfl hP hK hD hS d_sd_weight_53
section CNT
variable {p : Program} {l : Launch} {e : Env} {R : Room} {s : State} {m : MethodId} {args : Array Value} {below : List Frame} {meth : Method} {c : Code} {cells slots : Nat} {Q : State → Prop}
variable {D : va_G} {A : Nat → Prop}
variable {x qw qs qo n t : Nat} {cI : ClassId} {fw : Nat → Int32} {w : Nat → Nat} {H : Heap} {locs : List Loc}
set_option maxRecDepth 10000 in
set_option maxHeartbeats 4000000 in
theorem lp_count (hx : p.tables.exec = Jvm.exec) (hb : c.code = b_sd_count) (hg : ∀ w ∈ gws, w.before args s = true) (hown : s.vm.findClass "ShareDesk" = some m.cls) (hK : va_K D cls2 [(cI, .int)] s) (hn1 : 1 ≤ n) (hn8 : n ≤ 8) (hw : ∀ q, w q ≤ 100000) (hfw : ∀ q, q < 8 → fw q = nI (w q)) (hP : va_P D cls2 [oD x qw qs qo (nI n) (nI (pu_sum w n)), aI qw cI fw] H)
    (kk : ∀ (ls : Array Slot), lv_has ls 4 [(2, .int (nI (pu_cnt w n))), (1, .int (nI t)), (0, .ref x)] → W p l e R s m args below meth c H locs cells slots Q (F0 m 47 ls [])) : ∀ (j i : Nat) (ls : Array Slot), i + j = n → lv_has ls 4 [(3, .int (nI i)), (2, .int (nI (pu_cnt w i))), (1, .int (nI t)), (0, .ref x)] → W p l e R s m args below meth c H locs cells slots Q (F0 m 21 ls []) := by
  intro j
  induction j with
  | zero =>
    intro i ls hi hl
    refine lv_iload_n hx hb d_sd_count_21 rfl (lv_at hl 0 rfl) ?_
    refine lv_aload_n hx hb d_sd_count_22 rfl (lv_at hl 3 rfl) ?_
    refine sd_get hx hb hg hown hK hP 0 rfl 3 (by decide) k_20 rfl d_sd_count_23 ?_
    refine xc_ge (tgt := 47) hx hb d_sd_count_26 (by decide) (by omega) (by omega) (fun hc => ?_) (fun hc => ?_)
    · have : i = n := by omega
      subst this
      exact kk ls (lv_sub hl [1, 2, 3] rfl)
    · exact absurd hc (by omega)
  | succ j ih =>
    intro i ls hi hl
    refine lv_iload_n hx hb d_sd_count_21 rfl (lv_at hl 0 rfl) ?_
    refine lv_aload_n hx hb d_sd_count_22 rfl (lv_at hl 3 rfl) ?_
    refine sd_get hx hb hg hown hK hP 0 rfl 3 (by decide) k_20 rfl d_sd_count_23 ?_
    refine xc_ge (tgt := 47) hx hb d_sd_count_26 (by decide) (by omega) (by omega) (fun hc => ?_) (fun hc => ?_)
    · exact absurd hc (by omega)
    · have hwi := hw i
      refine lv_aload_n hx hb d_sd_count_29 rfl (lv_at hl 3 rfl) ?_
      refine sd_get hx hb hg hown hK hP 0 rfl 0 (by decide) k_17 rfl d_sd_count_30 ?_
      refine lv_iload_n hx hb d_sd_count_33 rfl (lv_at hl 0 rfl) ?_
      refine xa_iald hx hb hK hP 1 0 rfl rfl (by omega) d_sd_count_34 (v := nI (w i)) (hfw i (by omega)) ?_
      refine xz_le (tgt := 41) hx hb d_sd_count_35 (by decide) (by omega) (fun h1 => ?_) (fun h1 => ?_)
      · refine lv_iinc (k := 0) (v := nI (i + 1)) (lv' := [(3, .int (nI (i + 1))), (2, .int (nI (pu_cnt w i))), (1, .int (nI t)), (0, .ref x)]) hx hb d_sd_count_41 hl rfl (xinc _) (by decide) rfl (fun ls hl => ?_)
        refine lv_goto (tgt := 21) hx hb d_sd_count_44 (by decide) ?_
        have hq : pu_cnt w (i + 1) = pu_cnt w i := by rw [pu_cnt, if_neg (by omega)]
        exact ih (i + 1) ls (by omega) (by rw [hq]; exact lv_sub hl [0, 1, 2, 3] rfl)
      · refine lv_iinc (k := 1) (v := nI (pu_cnt w i + 1)) (lv' := [(2, .int (nI (pu_cnt w i + 1))), (3, .int (nI i)), (1, .int (nI t)), (0, .ref x)]) hx hb d_sd_count_38 hl rfl (xinc _) (by decide) rfl (fun ls hl => ?_)
        refine lv_iinc (k := 1) (v := nI (i + 1)) (lv' := [(3, .int (nI (i + 1))), (2, .int (nI (pu_cnt w i + 1))), (1, .int (nI t)), (0, .ref x)]) hx hb d_sd_count_41 hl rfl (xinc _) (by decide) rfl (fun ls hl => ?_)
        refine lv_goto (tgt := 21) hx hb d_sd_count_44 (by decide) ?_
        have hq : pu_cnt w (i + 1) = pu_cnt w i + 1 := by rw [pu_cnt, if_pos h1]
        exact ih (i + 1) ls (by omega) (by rw [hq]; exact lv_sub hl [0, 1, 2, 3] rfl)
end CNT
set_option maxRecDepth 10000 in
set_option maxHeartbeats 4000000 in
theorem c_sd_count (l : Launch) (D : va_G) (cI : ClassId) (x qw qs qo sz n t : Nat) (fw : Nat → Int32) (w : Nat → Nat) (ht : t < 3) (hn1 : 1 ≤ n) (hn8 : n ≤ 8) (hw : ∀ q, w q ≤ 100000) (hfw : ∀ q, q < 8 → fw q = nI (w q)) : Met l y_sd_count w_sd_count (rL 1 0 0) (va_Pc [.ref x, .int (nI t)] (gP D [(cI, .int)] [oD x qw qs qo (nI n) (nI (pu_sum w n)), aI qw cI fw] sz)) (vp_Si (fun r => r = nI (if t = 0 then n else if t = 1 then pu_sum w n else pu_cnt w n))) 0 0 (fun _ => False) := by
  refine Met.ofW (cc := b_sd_count) (maxL := 4) (ret := (some .int)) (by decide) rfl ?_
  intro p e s m args below meth c s₁ B hml hv
  obtain ⟨rfl, hsz, hP, hK, hD0⟩ := hv
  have hx := B.exec
  have hb := B.bytes
  have hr := B.returns
  have hts := atoms_spec (ws := w_sd_count) B.pre
  have hg : ∀ w ∈ gws, w.before ([.ref x, .int (nI t)] : List Value).toArray s = true := fun w hw => hts w (List.mem_cons_of_mem _ hw)
  have hown : s.vm.findClass "ShareDesk" = some m.cls := findClass_of_methodNamed B.named
  have hlk := B.notSynchronized
  subst hsz
  have hD := hD0
  have hP : va_P D cls2 [oD x qw qs qo (nI n) (nI (pu_sum w n)), aI qw cI fw] s.heap := hP
  have hl := lv_entry ([.ref x, .int (nI t)]) (n := 4) (Nat.le_of_ble_eq_true rfl)
  rw [lg_entry_eq]
  generalize (lg_sl ([.ref x, .int (nI t)]) ++ List.replicate (4 - (lg_sl ([.ref x, .int (nI t)])).length) Slot.unset).toArray = ls at hl ⊢
  have hl : lv_has ls 4 [(0, .ref x), (1, .int (nI t))] := hl
  refine lv_iload_n hx hb d_sd_count_0 rfl (lv_at hl 1 rfl) ?_
  refine xz_lt (tgt := 13) hx hb d_sd_count_1 (by decide) (by omega) ?_
  refine lv_iload_n hx hb d_sd_count_4 rfl (lv_at hl 1 rfl) ?_
  refine lv_iconst (v := nI 3) hx hb d_sd_count_5 (by decide) ?_
  refine xc_ge (tgt := 13) hx hb d_sd_count_6 (by decide) (by omega) (by omega) (fun hc => ?_) (fun hc => ?_)
  · exact absurd hc (by omega)
  · refine lv_iconst (v := nI 1) hx hb d_sd_count_9 (by decide) ?_
    refine lv_goto (tgt := 14) hx hb d_sd_count_10 (by decide) ?_
    refine ps_v hx hb hml hown hg (c_sd_good l) ⟨k_42, k_43, k_1, k_44⟩ n_sd_good ⟨rfl, rfl, by decide, by decide⟩ hl.1 rfl (Nat.le_of_ble_eq_true rfl) d_sd_count_14 ⟨by decide, by decide⟩ (fun _ => ?_)
    refine lv_iconst (v := nI 0) hx hb d_sd_count_17 (by decide) ?_
    refine lv_istore_n (lv' := [(2, .int (nI 0)), (0, .ref x), (1, .int (nI t))]) hx hb d_sd_count_18 rfl hl (by decide) rfl (fun ls hl => ?_)
    refine lv_iconst (v := nI 0) hx hb d_sd_count_19 (by decide) ?_
    refine lv_istore_n (lv' := [(3, .int (nI 0)), (2, .int (nI 0)), (0, .ref x), (1, .int (nI t))]) hx hb d_sd_count_20 rfl hl (by decide) rfl (fun ls hl => ?_)
    refine lp_count hx hb hg hown hK hn1 hn8 hw hfw hP (fun ls hl => ?_) n 0 ls (by omega) (lv_sub hl [0, 1, 3, 2] rfl)
    refine lv_iload_n hx hb d_sd_count_47 rfl (lv_at hl 1 rfl) ?_
    refine xz_ne (tgt := 58) hx hb d_sd_count_48 (by decide) (by omega) (fun h1 => ?_) (fun h1 => ?_)
    · refine lv_iload_n hx hb d_sd_count_58 rfl (lv_at hl 1 rfl) ?_
      refine lv_iconst (v := nI 1) hx hb d_sd_count_59 (by decide) ?_
      refine xc_ne (tgt := 70) hx hb d_sd_count_60 (by decide) (by omega) (by omega) (fun h2 => ?_) (fun h2 => ?_)
      · refine lv_iload_n hx hb d_sd_count_70 rfl (lv_at hl 0 rfl) ?_
        exact en_i hx hb hr hlk (by rw [if_neg (by omega), if_neg h2]) d_sd_count_71
      · refine lv_aload_n hx hb d_sd_count_63 rfl (lv_at hl 2 rfl) ?_
        refine sd_get hx hb hg hown hK hP 0 rfl 4 (by decide) k_21 rfl d_sd_count_64 ?_
        refine lv_goto (tgt := 71) hx hb d_sd_count_67 (by decide) ?_
        exact en_i hx hb hr hlk (by rw [if_neg (by omega), if_pos h2]) d_sd_count_71
    · refine lv_aload_n hx hb d_sd_count_51 rfl (lv_at hl 2 rfl) ?_
      refine sd_get hx hb hg hown hK hP 0 rfl 3 (by decide) k_20 rfl d_sd_count_52 ?_
      refine lv_goto (tgt := 71) hx hb d_sd_count_55 (by decide) ?_
      exact en_i hx hb hr hlk (by rw [if_pos h1]) d_sd_count_71
end
section
/-! ShareDesk: next, least, where all is well -/
def oneR (o : Option Nat) : Int32 := match o with
  | none => -1
  | some p => nI p
theorem nI_nm1 {p : Nat} (h : p < 2 ^ 31) : ¬ nI p = -1 := fun q => by
  have := nI_toInt h
  rw [q] at this
  have h2 : (-1 : Int32).toInt = -1 := by decide
  omega
theorem oneR_none {o : Option Nat} (ho : ∀ p, o = some p → p < 8) (h : oneR o = -1) : o = none := by
  cases o with
  | none => rfl
  | some p => exact absurd h (nI_nm1 (by have := ho p rfl; omega))
theorem oneR_some {o : Option Nat} (h : ¬ oneR o = -1) : o.isSome = true := by
  cases o with
  | none => exact absurd rfl h
  | some p => rfl
theorem pu_nx_eq {a b : Nat → Nat} {i : Nat} {o : Option Nat} (h : pu_nx a b i = some o) (e : b i = a i) : pu_nx a b (i + 1) = some o := by
  rw [pu_nx, h]; simp only [if_pos e]
theorem pu_nx_bad {a b : Nat → Nat} {i n : Nat} {o : Option Nat} (h : pu_nx a b i = some o) (e : b i ≠ a i) (h2 : o.isSome = true ∨ b i ≠ a i + 1) (hn : i + 1 ≤ n) : pu_nxR (pu_nx a b n) = -1 := by
  have : pu_nx a b (i + 1) = none := by rw [pu_nx, h]; simp only [if_neg e, if_pos h2]
  rw [pu_nx_abs this hn]; rfl
theorem pu_nx_one {a b : Nat → Nat} {i : Nat} (h : pu_nx a b i = some none) (e : b i ≠ a i) (h2 : b i = a i + 1) : pu_nx a b (i + 1) = some (some i) := by
  rw [pu_nx, h]
  show (if b i = a i then _ else _) = _
  rw [if_neg e, if_neg (fun q => q.elim (fun z => by cases z) (fun z => z h2))]
section NXT
variable {p : Program} {l : Launch} {e : Env} {R : Room} {s : State} {m : MethodId} {args : Array Value} {below : List Frame} {meth : Method} {c : Code} {cells slots : Nat} {Q : State → Prop}
variable {D : va_G} {A : Nat → Prop} {x qw qs qo n mm d pp : Nat} {cI : ClassId} {fw : Nat → Int32} {w : Nat → Nat}
set_option maxRecDepth 10000 in
set_option maxHeartbeats 4000000 in
theorem lp_next {H : Heap} {locs : List Loc} {us vs : Nat → Int32} (hx : p.tables.exec = Jvm.exec) (hb : c.code = b_sd_next) (hg : ∀ w ∈ gws, w.before args s = true) (hown : s.vm.findClass "ShareDesk" = some m.cls) (hK : va_K D cls2 [(cI, .int)] s) (hn1 : 1 ≤ n) (hn8 : n ≤ 8) (hw : ∀ q, w q ≤ 100000) (hfw : ∀ q, q < 8 → fw q = nI (w q)) (hW : 0 < pu_sum w n) (hm : mm < 10000) (hus : ∀ q, q < n → us q = nI (pu_sh n w d mm q)) (hvs : ∀ q, q < n → vs q = nI (pu_sh n w d (mm + 1) q)) (hP : va_P D cls2 [oD x qw qs qo (nI n) (nI (pu_sum w n)), aI qw cI fw, aI qs cI us, aI qo cI vs] H)
    (k1 : ∀ ls : Array Slot, pu_nxR (pu_nx (pu_sh n w d mm) (pu_sh n w d (mm + 1)) n) = -1 → W p l e R s m args below meth c H locs cells slots Q (F0 m 102 ls [.int (-1)])) (k2 : ∀ (ls : Array Slot) (o : Option Nat), (pu_nx (pu_sh n w d mm) (pu_sh n w d (mm + 1)) n) = some o → W p l e R s m args below meth c H locs cells slots Q (F0 m 113 ls [.int (oneR o)])) :
    ∀ (j i : Nat) (ls : Array Slot) (o : Option Nat), i + j = n → (pu_nx (pu_sh n w d mm) (pu_sh n w d (mm + 1)) i) = some o → (∀ p, o = some p → p < 8) → lv_has ls 5 [(4, .int (nI i)), (3, .int (oneR o)), (0, .ref x)] → W p l e R s m args below meth c H locs cells slots Q (F0 m 48 ls []) := by
  intro j
  induction j with
  | zero =>
    intro i ls o hi hnx ho hl
    refine lv_iload hx hb d_sd_next_48 (lv_at hl 0 rfl) ?_
    refine lv_aload_n hx hb d_sd_next_50 rfl (lv_at hl 2 rfl) ?_
    refine sd_get hx hb hg hown hK hP 0 rfl 3 (by decide) k_20 rfl d_sd_next_51 ?_
    refine xc_ge (tgt := 112) hx hb d_sd_next_54 (by decide) (by omega) (by omega) (fun hc => ?_) (fun hc => ?_)
    · have : i = n := by omega
      subst this
      refine lv_iload_n hx hb d_sd_next_112 rfl (lv_at hl 1 rfl) ?_
      exact k2 ls o hnx
    · exact absurd hc (by omega)
  | succ j ih =>
    intro i ls o hi hnx ho hl
    refine lv_iload hx hb d_sd_next_48 (lv_at hl 0 rfl) ?_
    refine lv_aload_n hx hb d_sd_next_50 rfl (lv_at hl 2 rfl) ?_
    refine sd_get hx hb hg hown hK hP 0 rfl 3 (by decide) k_20 rfl d_sd_next_51 ?_
    refine xc_ge (tgt := 112) hx hb d_sd_next_54 (by decide) (by omega) (by omega) (fun hc => ?_) (fun hc => ?_)
    · exact absurd hc (by omega)
    · have ha := pu_sh_le (d := d) (m := mm) hW (show i < n by omega)
      have hb9 := pu_sh_le (d := d) (m := mm + 1) hW (show i < n by omega)
      have hui := hus i (by omega)
      have hvi := hvs i (by omega)
      refine lv_aload_n hx hb d_sd_next_57 rfl (lv_at hl 2 rfl) ?_
      refine sd_get hx hb hg hown hK hP 0 rfl 2 (by decide) k_19 rfl d_sd_next_58 ?_
      refine lv_iload hx hb d_sd_next_61 (lv_at hl 0 rfl) ?_
      refine xa_iald hx hb hK hP 3 0 rfl rfl (by omega) d_sd_next_63 (v := nI (pu_sh n w d (mm + 1) i)) hvi ?_
      refine lv_aload_n hx hb d_sd_next_64 rfl (lv_at hl 2 rfl) ?_
      refine sd_get hx hb hg hown hK hP 0 rfl 1 (by decide) k_18 rfl d_sd_next_65 ?_
      refine lv_iload hx hb d_sd_next_68 (lv_at hl 0 rfl) ?_
      refine xa_iald hx hb hK hP 2 0 rfl rfl (by omega) d_sd_next_70 (v := nI (pu_sh n w d mm i)) hui ?_
      refine xc_ne (tgt := 77) hx hb d_sd_next_71 (by decide) (by omega) (by omega) (fun h1 => ?_) (fun h1 => ?_)
      · refine lv_iload_n hx hb d_sd_next_77 rfl (lv_at hl 1 rfl) ?_
        refine lv_iconst (v := -1) hx hb d_sd_next_78 (by decide) ?_
        refine lv_icmp_ne (tgt := 101) hx hb d_sd_next_79 (by decide) (fun h2 => ?_) (fun h2 => ?_)
        · refine lv_iconst (v := -1) hx hb d_sd_next_101 (by decide) ?_
          exact k1 ls (pu_nx_bad hnx h1 (Or.inl (oneR_some h2)) (by omega))
        · have h2 := oneR_none ho h2
          subst h2
          refine lv_aload_n hx hb d_sd_next_82 rfl (lv_at hl 2 rfl) ?_
          refine sd_get hx hb hg hown hK hP 0 rfl 2 (by decide) k_19 rfl d_sd_next_83 ?_
          refine lv_iload hx hb d_sd_next_86 (lv_at hl 0 rfl) ?_
          refine xa_iald hx hb hK hP 3 0 rfl rfl (by omega) d_sd_next_88 (v := nI (pu_sh n w d (mm + 1) i)) hvi ?_
          refine lv_aload_n hx hb d_sd_next_89 rfl (lv_at hl 2 rfl) ?_
          refine sd_get hx hb hg hown hK hP 0 rfl 1 (by decide) k_18 rfl d_sd_next_90 ?_
          refine lv_iload hx hb d_sd_next_93 (lv_at hl 0 rfl) ?_
          refine xa_iald hx hb hK hP 2 0 rfl rfl (by omega) d_sd_next_95 (v := nI (pu_sh n w d mm i)) hui ?_
          refine lv_iconst (v := nI 1) hx hb d_sd_next_96 (by decide) ?_
          refine lv_iadd hx hb d_sd_next_97 ?_
          refine xr_i (nI_add _ _) ?_
          refine xc_eq (tgt := 103) hx hb d_sd_next_98 (by decide) (by omega) (by omega) (fun h3 => ?_) (fun h3 => ?_)
          · refine lv_iload hx hb d_sd_next_103 (lv_at hl 0 rfl) ?_
            refine lv_istore_n (lv' := [(3, .int (nI i)), (4, .int (nI i)), (0, .ref x)]) hx hb d_sd_next_105 rfl hl (by decide) rfl (fun ls hl => ?_)
            refine lv_iinc (k := 1) (v := nI (i + 1)) (lv' := [(4, .int (nI (i + 1))), (3, .int (nI i)), (0, .ref x)]) hx hb d_sd_next_106 hl rfl (xinc _) (by decide) rfl (fun ls hl => ?_)
            refine lv_goto (tgt := 48) hx hb d_sd_next_109 (by decide) ?_
            exact ih (i + 1) ls (some i) (by omega) (pu_nx_one hnx h1 h3) (fun p hp => by cases hp; omega) (lv_sub hl [0, 1, 2] rfl)
          · refine lv_iconst (v := -1) hx hb d_sd_next_101 (by decide) ?_
            exact k1 ls (pu_nx_bad hnx h1 (Or.inr h3) (by omega))
      · refine lv_goto (tgt := 106) hx hb d_sd_next_74 (by decide) ?_
        refine lv_iinc (k := 0) (v := nI (i + 1)) (lv' := [(4, .int (nI (i + 1))), (3, .int (oneR o)), (0, .ref x)]) hx hb d_sd_next_106 hl rfl (xinc _) (by decide) rfl (fun ls hl => ?_)
        refine lv_goto (tgt := 48) hx hb d_sd_next_109 (by decide) ?_
        exact ih (i + 1) ls o (by omega) (pu_nx_eq hnx h1) ho (lv_sub hl [0, 1, 2] rfl)
end NXT
set_option maxRecDepth 10000 in
set_option maxHeartbeats 4000000 in
theorem c_sd_next (l : Launch) (D : va_G) (cI : ClassId) (x qw qs qo sz n mm d : Nat) (fw fs fo : Nat → Int32) (w : Nat → Nat) (hd : d < 3) (hm : mm < 10000) (hn1 : 1 ≤ n) (hn8 : n ≤ 8) (hw : ∀ q, w q ≤ 100000) (hfw : ∀ q, q < 8 → fw q = nI (w q)) (hW : 0 < pu_sum w n) : Met l y_sd_next w_sd_next (rL 3 0 0) (va_Pc [.ref x, .int (nI d), .int (nI mm)] (gP D [(cI, .int)] [oD x qw qs qo (nI n) (nI (pu_sum w n)), aI qw cI fw, aI qs cI fs, aI qo cI fo] sz)) (va_Qi (fun r _ => r = pu_nxR (pu_nx (pu_sh n w d mm) (pu_sh n w d (mm + 1)) n)) (gB D [(cI, .int)] (va_A [oD x qw qs qo (nI n) (nI (pu_sum w n)), aI qw cI fw, aI qs cI fs, aI qo cI fo] sz) (fun u : (Nat → Int32) × (Nat → Int32) => [oD x qw qs qo (nI n) (nI (pu_sum w n)), aI qw cI fw, aI qs cI u.1, aI qo cI u.2])) (va_A [oD x qw qs qo (nI n) (nI (pu_sum w n)), aI qw cI fw, aI qs cI fs, aI qo cI fo] sz)) 0 0 (va_A [oD x qw qs qo (nI n) (nI (pu_sum w n)), aI qw cI fw, aI qs cI fs, aI qo cI fo] sz) := by
  refine Met.ofW (cc := b_sd_next) (maxL := 5) (ret := (some .int)) (by decide) rfl ?_
  intro p e s m args below meth c s₁ B hml hv
  obtain ⟨rfl, hsz, hP, hK, hD0⟩ := hv
  have hx := B.exec
  have hb := B.bytes
  have hr := B.returns
  have hts := atoms_spec (ws := w_sd_next) B.pre
  have hg : ∀ w ∈ gws, w.before ([.ref x, .int (nI d), .int (nI mm)] : List Value).toArray s = true := fun w hw => hts w (List.mem_cons_of_mem _ hw)
  have hown : s.vm.findClass "ShareDesk" = some m.cls := findClass_of_methodNamed B.named
  have hlk := B.notSynchronized
  subst hsz
  have hD := hD0.self (sz := s.heap.size)
  generalize hAe : va_A [oD x qw qs qo (nI n) (nI (pu_sum w n)), aI qw cI fw, aI qs cI fs, aI qo cI fo] s.heap.size = A at hD ⊢
  have hA : ∀ q : Nat, s.heap.size ≤ q → A q := fun q h => by rw [← hAe]; exact Or.inr h
  have hS : va_S A s.heap s.heap [] := va_S.rf
  have hP : va_P D cls2 [oD x qw qs qo (nI n) (nI (pu_sum w n)), aI qw cI fw, aI qs cI fs, aI qo cI fo] s.heap := hP
  have hl := lv_entry ([.ref x, .int (nI d), .int (nI mm)]) (n := 5) (Nat.le_of_ble_eq_true rfl)
  rw [lg_entry_eq]
  generalize (lg_sl ([.ref x, .int (nI d), .int (nI mm)]) ++ List.replicate (5 - (lg_sl ([.ref x, .int (nI d), .int (nI mm)])).length) Slot.unset).toArray = ls at hl ⊢
  have hl : lv_has ls 5 [(0, .ref x), (1, .int (nI d)), (2, .int (nI mm))] := hl
  have hWb := pu_sum_bd hn8 hw
  refine lv_iload_n hx hb d_sd_next_0 rfl (lv_at hl 2 rfl) ?_
  refine lv_sipush (v := nI 10000) hx hb d_sd_next_1 (by decide) ?_
  refine xc_ge (tgt := 11) hx hb d_sd_next_4 (by decide) (by omega) (by omega) (fun hc => ?_) (fun hc => ?_)
  · exact absurd hc (by omega)
  · refine lv_iconst (v := nI 1) hx hb d_sd_next_7 (by decide) ?_
    refine lv_goto (tgt := 12) hx hb d_sd_next_8 (by decide) ?_
    refine ps_v hx hb hml hown hg (c_sd_good l) ⟨k_42, k_43, k_1, k_44⟩ n_sd_good ⟨rfl, rfl, by decide, by decide⟩ hl.1 rfl (Nat.le_of_ble_eq_true rfl) d_sd_next_12 ⟨by decide, by decide⟩ (fun _ => ?_)
    refine lv_aload_n hx hb d_sd_next_15 rfl (lv_at hl 0 rfl) ?_
    refine lv_iload_n hx hb d_sd_next_16 rfl (lv_at hl 1 rfl) ?_
    refine lv_iload_n hx hb d_sd_next_17 rfl (lv_at hl 2 rfl) ?_
    refine pv_v (C := "ShareDesk") hx hb hml hown hg (c_sd_ready l D [(cI, .int)] x qw qs qo s.heap.size n (pu_sum w n) mm d hd (by omega) hW hWb) ⟨k_127, k_129, ks_2, k_1, k_130⟩ n_sd_ready ⟨rfl, rfl, by decide, by decide⟩ hK (hP.sub [0] rfl) (hD.sub [0] rfl rfl) (va_recv (q0 := 0) (ci := 0) hK hP rfl rfl) hl.1 rfl (Nat.le_of_ble_eq_true rfl) d_sd_next_18 ⟨by decide, by decide⟩ (fun _ => ?_)
    refine lv_aload_n hx hb d_sd_next_21 rfl (lv_at hl 0 rfl) ?_
    refine lv_iload_n hx hb d_sd_next_22 rfl (lv_at hl 1 rfl) ?_
    refine lv_iload_n hx hb d_sd_next_23 rfl (lv_at hl 2 rfl) ?_
    refine lv_aload_n hx hb d_sd_next_24 rfl (lv_at hl 0 rfl) ?_
    refine sd_get hx hb hg hown hK hP 0 rfl 1 (by decide) k_18 rfl d_sd_next_25 ?_
    refine ev_v (C := "ShareDesk") hx hb hml hown hg (c_sd_give l D cI x qw qs qo qs s.heap.size n mm d fw fs w hd (by omega) hn1 hn8 hw hfw hW) ⟨k_146, k_148, ks_3, k_1, k_149⟩ n_sd_give ⟨rfl, rfl, by decide, by decide⟩ hK hP hD hS hA [0, 1, 2] [3] rfl rfl (wr := [aI qo cI fo]) rfl rfl (by decide) (va_recv (q0 := 0) (ci := 0) hK hP rfl rfl) hl.1 rfl (Nat.le_of_ble_eq_true rfl) d_sd_next_28 ⟨by decide, by decide⟩ (fun us H locs hus hP hD hS => ?_)
    have hP : va_P D cls2 [oD x qw qs qo (nI n) (nI (pu_sum w n)), aI qw cI fw, aI qs cI us, aI qo cI fo] H := hP.sub [1, 2, 3, 0] rfl
    have hD : va_D A [oD x qw qs qo (nI n) (nI (pu_sum w n)), aI qw cI fw, aI qs cI us, aI qo cI fo] := hD.sub [1, 2, 3, 0] rfl rfl
    refine lv_aload_n hx hb d_sd_next_31 rfl (lv_at hl 0 rfl) ?_
    refine lv_iload_n hx hb d_sd_next_32 rfl (lv_at hl 1 rfl) ?_
    refine lv_iload_n hx hb d_sd_next_33 rfl (lv_at hl 2 rfl) ?_
    refine lv_iconst (v := nI 1) hx hb d_sd_next_34 (by decide) ?_
    refine lv_iadd hx hb d_sd_next_35 ?_
    refine xr_i (nI_add _ _) ?_
    refine lv_aload_n hx hb d_sd_next_36 rfl (lv_at hl 0 rfl) ?_
    refine sd_get hx hb hg hown hK hP 0 rfl 2 (by decide) k_19 rfl d_sd_next_37 ?_
    refine ev_v (C := "ShareDesk") hx hb hml hown hg (c_sd_give l D cI x qw qs qo qo H.size n (mm + 1) d fw fo w hd (by omega) hn1 hn8 hw hfw hW) ⟨k_146, k_148, ks_3, k_1, k_149⟩ n_sd_give ⟨rfl, rfl, by decide, by decide⟩ hK hP hD hS hA [0, 1, 3] [2] rfl rfl (wr := [aI qs cI us]) rfl rfl (by decide) (va_recv (q0 := 0) (ci := 0) hK hP rfl rfl) hl.1 rfl (Nat.le_of_ble_eq_true rfl) d_sd_next_40 ⟨by decide, by decide⟩ (fun vs H locs hvs hP hD hS => ?_)
    have hP : va_P D cls2 [oD x qw qs qo (nI n) (nI (pu_sum w n)), aI qw cI fw, aI qs cI us, aI qo cI vs] H := hP.sub [1, 2, 0, 3] rfl
    have hD : va_D A [oD x qw qs qo (nI n) (nI (pu_sum w n)), aI qw cI fw, aI qs cI us, aI qo cI vs] := hD.sub [1, 2, 0, 3] rfl rfl
    refine lv_iconst (v := -1) hx hb d_sd_next_43 (by decide) ?_
    refine lv_istore_n (lv' := [(3, .int (-1)), (0, .ref x), (1, .int (nI d)), (2, .int (nI mm))]) hx hb d_sd_next_44 rfl hl (by decide) rfl (fun ls hl => ?_)
    refine lv_iconst (v := nI 0) hx hb d_sd_next_45 (by decide) ?_
    refine lv_istore (lv' := [(4, .int (nI 0)), (3, .int (-1)), (0, .ref x), (1, .int (nI d)), (2, .int (nI mm))]) hx hb d_sd_next_46 hl (by decide) rfl (fun ls hl => ?_)
    refine lp_next hx hb hg hown hK hn1 hn8 hw hfw hW hm hus hvs hP (fun ls h9 => ?_) (fun ls o h9 => ?_) n 0 ls none (by omega) rfl (fun p hp => by cases hp) (lv_sub hl [0, 1, 2] rfl)
    · exact en_gi (us, vs) hx hb hr hlk h9.symm hP hK hD hS d_sd_next_102
    · exact en_gi (us, vs) hx hb hr hlk (by rw [h9]; cases o <;> rfl) hP hK hD hS d_sd_next_113
theorem pu_isL_zero (f : Nat → Nat) : pu_isL f 0 (nI 0) := Or.inl ⟨0, by omega, Nat.zero_le _, fun j hj => by omega, rfl⟩
theorem pu_sh_mono {n : Nat} {w : Nat → Nat} {d p : Nat} (hd : 0 < d) {i j : Nat} (h : i ≤ j) : pu_sh n w d i p ≤ pu_sh n w d j p := by
  rw [pu_sh, pu_sh, if_neg (by omega), if_neg (by omega)]
  exact pu_gs_mono p h
theorem kW_bd {k W : Nat} (hk : k ≤ 10000) (hW : W ≤ 800000) : k * W ≤ 8000000000 := Nat.mul_le_mul hk hW
theorem pu_sh0 (n : Nat) (w : Nat → Nat) (m p : Nat) : pu_sh n w 0 m p = pu_ham n w m p := by rw [pu_sh, if_pos rfl]
section LST
variable {p : Program} {l : Launch} {e : Env} {R : Room} {s : State} {m : MethodId} {args : Array Value} {below : List Frame} {meth : Method} {c : Code} {cells slots : Nat} {Q : State → Prop}
variable {D : va_G} {A : Nat → Prop} {x qw qs qo n mm d pp : Nat} {cI : ClassId} {fw : Nat → Int32} {w : Nat → Nat}
variable {k lo hi : Nat}
set_option maxRecDepth 10000 in
set_option maxHeartbeats 4000000 in
theorem lp_least2 (hx : p.tables.exec = Jvm.exec) (hb : c.code = b_sd_least) (hml : c.maxLocals = 10) (hg : ∀ w ∈ gws, w.before args s = true) (hown : s.vm.findClass "ShareDesk" = some m.cls) (hK : va_K D cls2 [(cI, .int)] s) (hA : ∀ q, s.heap.size ≤ q → A q) (hn1 : 1 ≤ n) (hn8 : n ≤ 8) (hw : ∀ q, w q ≤ 100000) (hfw : ∀ q, q < 8 → fw q = nI (w q)) (hW : 0 < pu_sum w n) (hp : pp < n) (hd : d < 3) (hd0 : 0 < d) (hk : k ≤ 10000)
    (kk : ∀ (H : Heap) (locs : List Loc) (ls : Array Slot) (fs : Nat → Int32) (r : Int32), pu_isL (fun m => pu_sh n w d m pp) k r → va_P D cls2 [oD x qw qs qo (nI n) (nI (pu_sum w n)), aI qw cI fw, aI qs cI fs] H → va_D A [oD x qw qs qo (nI n) (nI (pu_sum w n)), aI qw cI fw, aI qs cI fs] → va_S A s.heap H locs → W p l e (rL 4 0 0) s m args below meth c H locs 0 0 Q (F0 m 211 ls [.int r])) :
    ∀ (j lo hi : Nat) (H : Heap) (locs : List Loc) (ls : Array Slot) (fs : Nat → Int32), hi ≤ lo + j → lo ≤ hi → hi ≤ 10000 → k ≤ pu_sh n w d hi pp → (∀ i, i < lo → pu_sh n w d i pp < k) → va_P D cls2 [oD x qw qs qo (nI n) (nI (pu_sum w n)), aI qw cI fw, aI qs cI fs] H → va_D A [oD x qw qs qo (nI n) (nI (pu_sum w n)), aI qw cI fw, aI qs cI fs] → va_S A s.heap H locs → lv_has ls 10 [(5, .int (nI hi)), (4, .int (nI lo)), (3, .int (nI pp)), (2, .int (nI k)), (1, .int (nI d)), (0, .ref x)] → W p l e (rL 4 0 0) s m args below meth c H locs 0 0 Q (F0 m 165 ls []) := by
  intro j
  induction j with
  | zero =>
    intro lo hi H locs ls fs hj hlh hh hkf hlo hP hD hS hl
    refine lv_iload hx hb d_sd_least_165 (lv_at hl 1 rfl) ?_
    refine lv_iload hx hb d_sd_least_167 (lv_at hl 0 rfl) ?_
    refine xc_ge (tgt := 209) hx hb d_sd_least_169 (by decide) (by omega) (by omega) (fun hc => ?_) (fun hc => ?_)
    · have : lo = hi := by omega
      subst this
      refine lv_iload hx hb d_sd_least_209 (lv_at hl 1 rfl) ?_
      exact kk H locs ls fs _ (Or.inl ⟨lo, hh, hkf, hlo, rfl⟩) hP hD hS
    · exact absurd hc (by omega)
  | succ j ih =>
    intro lo hi H locs ls fs hj hlh hh hkf hlo hP hD hS hl
    refine lv_iload hx hb d_sd_least_165 (lv_at hl 1 rfl) ?_
    refine lv_iload hx hb d_sd_least_167 (lv_at hl 0 rfl) ?_
    refine xc_ge (tgt := 209) hx hb d_sd_least_169 (by decide) (by omega) (by omega) (fun hc => ?_) (fun hc => ?_)
    · have : lo = hi := by omega
      subst this
      refine lv_iload hx hb d_sd_least_209 (lv_at hl 1 rfl) ?_
      exact kk H locs ls fs _ (Or.inl ⟨lo, hh, hkf, hlo, rfl⟩) hP hD hS
    · have hmid : lo ≤ (lo + hi) / 2 ∧ (lo + hi) / 2 < hi := by omega
      refine lv_iload hx hb d_sd_least_172 (lv_at hl 1 rfl) ?_
      refine lv_iload hx hb d_sd_least_174 (lv_at hl 0 rfl) ?_
      refine lv_iadd hx hb d_sd_least_176 ?_
      refine xr_i (nI_add _ _) ?_
      refine lv_iconst (v := nI 1) hx hb d_sd_least_177 (by decide) ?_
      refine lv_ishr hx hb d_sd_least_178 ?_
      refine xr_i (y := nI ((lo + hi) / 2)) (pk_shrN (by omega) _ 1 (by decide)) ?_
      refine lv_istore (lv' := [(6, .int (nI ((lo + hi) / 2))), (5, .int (nI hi)), (4, .int (nI lo)), (3, .int (nI pp)), (2, .int (nI k)), (1, .int (nI d)), (0, .ref x)]) hx hb d_sd_least_179 hl (by decide) rfl (fun ls hl => ?_)
      refine lv_aload_n hx hb d_sd_least_181 rfl (lv_at hl 6 rfl) ?_
      refine lv_iload_n hx hb d_sd_least_182 rfl (lv_at hl 5 rfl) ?_
      refine lv_iload hx hb d_sd_least_183 (lv_at hl 0 rfl) ?_
      refine lv_iload_n hx hb d_sd_least_185 rfl (lv_at hl 3 rfl) ?_
      generalize (lo + hi) / 2 = mid at hl hmid ⊢
      refine ev_i (C := "ShareDesk") hx hb hml hown hg (c_sd_share l D cI x qw qs qo H.size n mid d pp fw fs w hd (by omega) hp hn1 hn8 hw hfw hW) ⟨k_173, k_124, k_125, k_1, k_126⟩ n_sd_share ⟨rfl, rfl, by decide, by decide⟩ hK hP hD hS hA [0, 1, 2] [] rfl rfl (wr := []) rfl rfl (by decide) (va_recv (q0 := 0) (ci := 0) hK hP rfl rfl) hl.1 rfl (Nat.le_of_ble_eq_true rfl) d_sd_least_186 ⟨by decide, by decide⟩ (fun r fs H locs hu hP hD hS => ?_)
      have hP : va_P D cls2 [oD x qw qs qo (nI n) (nI (pu_sum w n)), aI qw cI fw, aI qs cI fs] H := hP.sub [0, 1, 2] rfl
      have hD : va_D A [oD x qw qs qo (nI n) (nI (pu_sum w n)), aI qw cI fw, aI qs cI fs] := hD.sub [0, 1, 2] rfl rfl
      subst hu
      have hsm := pu_sh_le (d := d) (m := mid) hW hp
      refine lv_iload_n hx hb d_sd_least_189 rfl (lv_at hl 4 rfl) ?_
      refine xc_lt (tgt := 200) hx hb d_sd_least_190 (by decide) (by omega) (by omega) (fun h1 => ?_) (fun h1 => ?_)
      · refine lv_iload hx hb d_sd_least_200 (lv_at hl 0 rfl) ?_
        refine lv_iconst (v := nI 1) hx hb d_sd_least_202 (by decide) ?_
        refine lv_iadd hx hb d_sd_least_203 ?_
        refine xr_i (nI_add _ _) ?_
        refine lv_istore (lv' := [(4, .int (nI (mid + 1))), (6, .int (nI mid)), (5, .int (nI hi)), (3, .int (nI pp)), (2, .int (nI k)), (1, .int (nI d)), (0, .ref x)]) hx hb d_sd_least_204 hl (by decide) rfl (fun ls hl => ?_)
        refine lv_goto (tgt := 165) hx hb d_sd_least_206 (by decide) ?_
        exact ih (mid + 1) hi H locs ls fs (by omega) (by omega) hh hkf (fun i hi2 => Nat.lt_of_le_of_lt (pu_sh_mono hd0 (by omega)) h1) hP hD hS (lv_sub hl [2, 0, 3, 4, 5, 6] rfl)
      · refine lv_iload hx hb d_sd_least_193 (lv_at hl 0 rfl) ?_
        refine lv_istore (lv' := [(5, .int (nI mid)), (6, .int (nI mid)), (4, .int (nI lo)), (3, .int (nI pp)), (2, .int (nI k)), (1, .int (nI d)), (0, .ref x)]) hx hb d_sd_least_195 hl (by decide) rfl (fun ls hl => ?_)
        refine lv_goto (tgt := 206) hx hb d_sd_least_197 (by decide) ?_
        refine lv_goto (tgt := 165) hx hb d_sd_least_206 (by decide) ?_
        exact ih lo mid H locs ls fs (by omega) (by omega) (by omega) h1 hlo hP hD hS (lv_sub hl [0, 2, 3, 4, 5, 6] rfl)
set_option maxRecDepth 10000 in
set_option maxHeartbeats 4000000 in
theorem lp_least1 (hx : p.tables.exec = Jvm.exec) (hb : c.code = b_sd_least) (hml : c.maxLocals = 10) (hg : ∀ w ∈ gws, w.before args s = true) (hown : s.vm.findClass "ShareDesk" = some m.cls) (hK : va_K D cls2 [(cI, .int)] s) (hA : ∀ q, s.heap.size ≤ q → A q) (hn1 : 1 ≤ n) (hn8 : n ≤ 8) (hw : ∀ q, w q ≤ 100000) (hfw : ∀ q, q < 8 → fw q = nI (w q)) (hW : 0 < pu_sum w n) (hp : pp < n) (hk : k ≤ 10000) (hwp : 0 < w pp)
    (k1 : ∀ (H : Heap) (locs : List Loc) (ls : Array Slot) (fs : Nat → Int32), (∀ i, i ≤ 10000 → pu_sh n w 0 i pp < k) → va_P D cls2 [oD x qw qs qo (nI n) (nI (pu_sum w n)), aI qw cI fw, aI qs cI fs] H → va_D A [oD x qw qs qo (nI n) (nI (pu_sum w n)), aI qw cI fw, aI qs cI fs] → va_S A s.heap H locs → W p l e (rL 4 0 0) s m args below meth c H locs 0 0 Q (F0 m 142 ls [.int (-1)]))
    (k2 : ∀ (H : Heap) (locs : List Loc) (ls : Array Slot) (fs : Nat → Int32) (r : Int32), pu_isL (fun m => pu_sh n w 0 m pp) k r → va_P D cls2 [oD x qw qs qo (nI n) (nI (pu_sum w n)), aI qw cI fw, aI qs cI fs] H → va_D A [oD x qw qs qo (nI n) (nI (pu_sum w n)), aI qw cI fw, aI qs cI fs] → va_S A s.heap H locs → W p l e (rL 4 0 0) s m args below meth c H locs 0 0 Q (F0 m 131 ls [.int r])) :
    ∀ (j cu : Nat) (H : Heap) (locs : List Loc) (ls : Array Slot) (fs : Nat → Int32), 10001 ≤ cu + j → cu ≤ 8000000001 → (∀ i, i < cu → pu_sh n w 0 i pp < k) → va_P D cls2 [oD x qw qs qo (nI n) (nI (pu_sum w n)), aI qw cI fw, aI qs cI fs] H → va_D A [oD x qw qs qo (nI n) (nI (pu_sum w n)), aI qw cI fw, aI qs cI fs] → va_S A s.heap H locs → lv_has ls 10 [(8, .long (lN cu)), (6, .long (lN (k * pu_sum w n / w pp + 1))), (3, .int (nI pp)), (2, .int (nI k)), (0, .ref x)] → W p l e (rL 4 0 0) s m args below meth c H locs 0 0 Q (F0 m 98 ls []) := by
  have hWb := pu_sum_bd hn8 hw
  have hkW := kW_bd hk hWb
  have hdv : k * pu_sum w n / w pp ≤ k * pu_sum w n := Nat.div_le_self _ _
  have hto : k ≤ pu_sh n w 0 (k * pu_sum w n / w pp + 1) pp := by rw [pu_sh0]; exact pu_ham_hi hW hwp (Nat.le_refl _)
  intro j
  induction j with
  | zero =>
    intro cu H locs ls fs hj hcb hcu hP hD hS hl
    refine lv_lload hx hb d_sd_least_98 (lv_at hl 0 rfl) ?_
    refine lv_lload hx hb d_sd_least_100 (lv_at hl 1 rfl) ?_
    refine xl_gt (tgt := 141) hx hb d_sd_least_102 d_sd_least_103 (by decide) (by omega) (by omega) (fun hc => ?_) (fun hc => ?_)
    · exact absurd (hcu _ hc) (by omega)
    · refine lv_lload hx hb d_sd_least_106 (lv_at hl 0 rfl) ?_
      refine lv_ldc2 hx hb hown (hg _ k_188) d_sd_least_108 ?_
      refine xr_l (show (10000 : Int64) = lN 10000 by decide) ?_
      refine xl_gt (tgt := 141) hx hb d_sd_least_111 d_sd_least_112 (by decide) (by omega) (by omega) (fun h1 => ?_) (fun h1 => ?_)
      · refine lv_iconst (v := -1) hx hb d_sd_least_141 (by decide) ?_
        exact k1 H locs ls fs (fun i hi => hcu i (by omega)) hP hD hS
      · exact absurd h1 (by omega)
  | succ j ih =>
    intro cu H locs ls fs hj hcb hcu hP hD hS hl
    refine lv_lload hx hb d_sd_least_98 (lv_at hl 0 rfl) ?_
    refine lv_lload hx hb d_sd_least_100 (lv_at hl 1 rfl) ?_
    refine xl_gt (tgt := 141) hx hb d_sd_least_102 d_sd_least_103 (by decide) (by omega) (by omega) (fun hc => ?_) (fun hc => ?_)
    · exact absurd (hcu _ hc) (by omega)
    · refine lv_lload hx hb d_sd_least_106 (lv_at hl 0 rfl) ?_
      refine lv_ldc2 hx hb hown (hg _ k_188) d_sd_least_108 ?_
      refine xr_l (show (10000 : Int64) = lN 10000 by decide) ?_
      refine xl_gt (tgt := 141) hx hb d_sd_least_111 d_sd_least_112 (by decide) (by omega) (by omega) (fun h1 => ?_) (fun h1 => ?_)
      · refine lv_iconst (v := -1) hx hb d_sd_least_141 (by decide) ?_
        exact k1 H locs ls fs (fun i hi => hcu i (by omega)) hP hD hS
      · refine lv_aload_n hx hb d_sd_least_115 rfl (lv_at hl 4 rfl) ?_
        refine lv_iconst (v := nI 0) hx hb d_sd_least_116 (by decide) ?_
        refine lv_lload hx hb d_sd_least_117 (lv_at hl 0 rfl) ?_
        refine lv_l2i (v := nI cu) hx hb d_sd_least_119 (lN_i _) ?_
        refine lv_iload_n hx hb d_sd_least_120 rfl (lv_at hl 2 rfl) ?_
        refine ev_i (C := "ShareDesk") hx hb hml hown hg (c_sd_share l D cI x qw qs qo H.size n cu 0 pp fw fs w (by decide) (by omega) hp hn1 hn8 hw hfw hW) ⟨k_173, k_124, k_125, k_1, k_126⟩ n_sd_share ⟨rfl, rfl, by decide, by decide⟩ hK hP hD hS hA [0, 1, 2] [] rfl rfl (wr := []) rfl rfl (by decide) (va_recv (q0 := 0) (ci := 0) hK hP rfl rfl) hl.1 rfl (Nat.le_of_ble_eq_true rfl) d_sd_least_121 ⟨by decide, by decide⟩ (fun r fs H locs hu hP hD hS => ?_)
        have hP : va_P D cls2 [oD x qw qs qo (nI n) (nI (pu_sum w n)), aI qw cI fw, aI qs cI fs] H := hP.sub [0, 1, 2] rfl
        have hD : va_D A [oD x qw qs qo (nI n) (nI (pu_sum w n)), aI qw cI fw, aI qs cI fs] := hD.sub [0, 1, 2] rfl rfl
        subst hu
        have hsm := pu_sh_le (d := 0) (m := cu) hW hp
        refine lv_iload_n hx hb d_sd_least_124 rfl (lv_at hl 3 rfl) ?_
        refine xc_lt (tgt := 132) hx hb d_sd_least_125 (by decide) (by omega) (by omega) (fun h2 => ?_) (fun h2 => ?_)
        · refine lv_lload hx hb d_sd_least_132 (lv_at hl 0 rfl) ?_
          refine lv_lconst (v := lN 1) hx hb d_sd_least_134 (by decide) ?_
          refine lv_ladd hx hb d_sd_least_135 ?_
          refine xr_l (lN_add _ _) ?_
          refine lv_lstore (lv' := [(8, .long (lN (cu + 1))), (6, .long (lN (k * pu_sum w n / w pp + 1))), (3, .int (nI pp)), (2, .int (nI k)), (0, .ref x)]) hx hb d_sd_least_136 hl (by decide) rfl (fun ls hl => ?_)
          refine lv_goto (tgt := 98) hx hb d_sd_least_138 (by decide) ?_
          refine ih (cu + 1) H locs ls fs (by omega) (by omega) (fun i hi => ?_) hP hD hS (lv_sub hl [0, 1, 2, 3, 4] rfl)
          rcases Nat.lt_or_ge i cu with z | z
          · exact hcu i z
          · have : i = cu := by omega
            subst this; exact h2
        · refine lv_lload hx hb d_sd_least_128 (lv_at hl 0 rfl) ?_
          refine lv_l2i (v := nI cu) hx hb d_sd_least_130 (lN_i _) ?_
          exact k2 H locs ls fs _ (Or.inl ⟨cu, h1, h2, hcu, rfl⟩) hP hD hS
end LST
set_option maxRecDepth 10000 in
set_option maxHeartbeats 4000000 in
theorem c_sd_least (l : Launch) (D : va_G) (cI : ClassId) (x qw qs qo sz n k d pp : Nat) (fw fs : Nat → Int32) (w : Nat → Nat) (hd : d < 3) (hk : k < 2 ^ 31) (hp : pp < n) (hn1 : 1 ≤ n) (hn8 : n ≤ 8) (hw : ∀ q, w q ≤ 100000) (hfw : ∀ q, q < 8 → fw q = nI (w q)) (hW : 0 < pu_sum w n) : Met l y_sd_least w_sd_least (rL 4 0 0) (va_Pc [.ref x, .int (nI d), .int (nI k), .int (nI pp)] (gP D [(cI, .int)] [oD x qw qs qo (nI n) (nI (pu_sum w n)), aI qw cI fw, aI qs cI fs] sz)) (va_Qi (fun r _ => pu_isL (fun m => pu_sh n w d m pp) k r) (gB D [(cI, .int)] (va_A [oD x qw qs qo (nI n) (nI (pu_sum w n)), aI qw cI fw, aI qs cI fs] sz) (fun u : Nat → Int32 => [oD x qw qs qo (nI n) (nI (pu_sum w n)), aI qw cI fw, aI qs cI u])) (va_A [oD x qw qs qo (nI n) (nI (pu_sum w n)), aI qw cI fw, aI qs cI fs] sz)) 0 0 (va_A [oD x qw qs qo (nI n) (nI (pu_sum w n)), aI qw cI fw, aI qs cI fs] sz) := by
  refine Met.ofW (cc := b_sd_least) (maxL := 10) (ret := (some .int)) (by decide) rfl ?_
  intro p e s m args below meth c s₁ B hml hv
  obtain ⟨rfl, hsz, hP, hK, hD0⟩ := hv
  have hx := B.exec
  have hb := B.bytes
  have hr := B.returns
  have hts := atoms_spec (ws := w_sd_least) B.pre
  have hg : ∀ w ∈ gws, w.before ([.ref x, .int (nI d), .int (nI k), .int (nI pp)] : List Value).toArray s = true := fun w hw => hts w (List.mem_cons_of_mem _ hw)
  have hown : s.vm.findClass "ShareDesk" = some m.cls := findClass_of_methodNamed B.named
  have hlk := B.notSynchronized
  subst hsz
  have hD := hD0.self (sz := s.heap.size)
  generalize hAe : va_A [oD x qw qs qo (nI n) (nI (pu_sum w n)), aI qw cI fw, aI qs cI fs] s.heap.size = A at hD ⊢
  have hA : ∀ q : Nat, s.heap.size ≤ q → A q := fun q h => by rw [← hAe]; exact Or.inr h
  have hS : va_S A s.heap s.heap [] := va_S.rf
  have hP : va_P D cls2 [oD x qw qs qo (nI n) (nI (pu_sum w n)), aI qw cI fw, aI qs cI fs] s.heap := hP
  have hl := lv_entry ([.ref x, .int (nI d), .int (nI k), .int (nI pp)]) (n := 10) (Nat.le_of_ble_eq_true rfl)
  rw [lg_entry_eq]
  generalize (lg_sl ([.ref x, .int (nI d), .int (nI k), .int (nI pp)]) ++ List.replicate (10 - (lg_sl ([.ref x, .int (nI d), .int (nI k), .int (nI pp)])).length) Slot.unset).toArray = ls at hl ⊢
  have hl : lv_has ls 10 [(0, .ref x), (1, .int (nI d)), (2, .int (nI k)), (3, .int (nI pp))] := hl
  have hWb := pu_sum_bd hn8 hw
  have hwp := hw pp
  refine lv_aload_n hx hb d_sd_least_0 rfl (lv_at hl 0 rfl) ?_
  refine lv_iload_n hx hb d_sd_least_1 rfl (lv_at hl 3 rfl) ?_
  refine pv_i (C := "ShareDesk") hx hb hml hown hg (c_sd_is l D [(cI, .int)] x qw qs qo s.heap.size n (nI (pu_sum w n)) (nI pp)) ⟨k_114, k_116, ks_1, k_1, k_117⟩ n_sd_is ⟨rfl, rfl, by decide, by decide⟩ hK (hP.sub [0] rfl) (hD.sub [0] rfl rfl) (va_recv (q0 := 0) (ci := 0) hK hP rfl rfl) hl.1 rfl (Nat.le_of_ble_eq_true rfl) d_sd_least_2 ⟨by decide, by decide⟩ (fun ri hi => ?_)
  obtain rfl : ri = nI 1 := hi.1 ⟨nI_pos (by omega), fun z => absurd ((nI_leI (by omega) (by omega)).mp z) (by omega)⟩
  refine xz_eq (tgt := 16) hx hb d_sd_least_5 (by decide) (by omega) (fun hc => ?_) (fun hc => ?_)
  · exact absurd hc (by decide)
  · refine lv_iload_n hx hb d_sd_least_8 rfl (lv_at hl 2 rfl) ?_
    refine xz_lt (tgt := 16) hx hb d_sd_least_9 (by decide) (by omega) ?_
    refine lv_iconst (v := nI 1) hx hb d_sd_least_12 (by decide) ?_
    refine lv_goto (tgt := 17) hx hb d_sd_least_13 (by decide) ?_
    refine ps_v hx hb hml hown hg (c_sd_good l) ⟨k_42, k_43, k_1, k_44⟩ n_sd_good ⟨rfl, rfl, by decide, by decide⟩ hl.1 rfl (Nat.le_of_ble_eq_true rfl) d_sd_least_17 ⟨by decide, by decide⟩ (fun _ => ?_)
    refine lv_aload_n hx hb d_sd_least_20 rfl (lv_at hl 0 rfl) ?_
    refine lv_iload_n hx hb d_sd_least_21 rfl (lv_at hl 1 rfl) ?_
    refine lv_iconst (v := nI 0) hx hb d_sd_least_22 (by decide) ?_
    refine pv_v (C := "ShareDesk") hx hb hml hown hg (c_sd_ready l D [(cI, .int)] x qw qs qo s.heap.size n (pu_sum w n) 0 d hd (by decide) hW hWb) ⟨k_127, k_129, ks_2, k_1, k_130⟩ n_sd_ready ⟨rfl, rfl, by decide, by decide⟩ hK (hP.sub [0] rfl) (hD.sub [0] rfl rfl) (va_recv (q0 := 0) (ci := 0) hK hP rfl rfl) hl.1 rfl (Nat.le_of_ble_eq_true rfl) d_sd_least_23 ⟨by decide, by decide⟩ (fun _ => ?_)
    refine lv_iload_n hx hb d_sd_least_26 rfl (lv_at hl 2 rfl) ?_
    refine xz_ne (tgt := 32) hx hb d_sd_least_27 (by decide) (by omega) (fun h1 => ?_) (fun h1 => ?_)
    · refine lv_aload_n hx hb d_sd_least_32 rfl (lv_at hl 0 rfl) ?_
      refine sd_get hx hb hg hown hK hP 0 rfl 0 (by decide) k_17 rfl d_sd_least_33 ?_
      refine lv_iload_n hx hb d_sd_least_36 rfl (lv_at hl 3 rfl) ?_
      refine xa_iald hx hb hK hP 1 0 rfl rfl (by omega) d_sd_least_37 (v := nI (w pp)) (hfw pp (by omega)) ?_
      refine xz_eq (tgt := 48) hx hb d_sd_least_38 (by decide) (by omega) (fun h2 => ?_) (fun h2 => ?_)
      · refine lv_iconst (v := -1) hx hb d_sd_least_48 (by decide) ?_
        exact en_gi fs hx hb hr hlk (Or.inr ⟨fun i _ => by show pu_sh n w d i pp < k; rw [pu_sh_zero hW h2]; exact h1, rfl⟩) hP hK hD hS d_sd_least_49
      · refine lv_iload_n hx hb d_sd_least_41 rfl (lv_at hl 2 rfl) ?_
        refine lv_sipush (v := nI 10000) hx hb d_sd_least_42 (by decide) ?_
        refine xc_le (tgt := 50) hx hb d_sd_least_45 (by decide) (by omega) (by omega) (fun h3 => ?_) (fun h3 => ?_)
        · refine lv_iload_n hx hb d_sd_least_50 rfl (lv_at hl 1 rfl) ?_
          refine xz_ne (tgt := 143) hx hb d_sd_least_51 (by decide) (by omega) (fun h4 => ?_) (fun h4 => ?_)
          · refine lv_iconst (v := nI 0) hx hb d_sd_least_143 (by decide) ?_
            refine lv_istore (lv' := [(4, .int (nI 0)), (0, .ref x), (1, .int (nI d)), (2, .int (nI k)), (3, .int (nI pp))]) hx hb d_sd_least_144 hl (by decide) rfl (fun ls hl => ?_)
            refine lv_sipush (v := nI 10000) hx hb d_sd_least_146 (by decide) ?_
            refine lv_istore (lv' := [(5, .int (nI 10000)), (4, .int (nI 0)), (0, .ref x), (1, .int (nI d)), (2, .int (nI k)), (3, .int (nI pp))]) hx hb d_sd_least_149 hl (by decide) rfl (fun ls hl => ?_)
            refine lv_aload_n hx hb d_sd_least_151 rfl (lv_at hl 2 rfl) ?_
            refine lv_iload_n hx hb d_sd_least_152 rfl (lv_at hl 3 rfl) ?_
            refine lv_iload hx hb d_sd_least_153 (lv_at hl 0 rfl) ?_
            refine lv_iload_n hx hb d_sd_least_155 rfl (lv_at hl 5 rfl) ?_
            refine ev_i (C := "ShareDesk") hx hb hml hown hg (c_sd_share l D cI x qw qs qo s.heap.size n 10000 d pp fw fs w hd (by decide) hp hn1 hn8 hw hfw hW) ⟨k_173, k_124, k_125, k_1, k_126⟩ n_sd_share ⟨rfl, rfl, by decide, by decide⟩ hK hP hD hS hA [0, 1, 2] [] rfl rfl (wr := []) rfl rfl (by decide) (va_recv (q0 := 0) (ci := 0) hK hP rfl rfl) hl.1 rfl (Nat.le_of_ble_eq_true rfl) d_sd_least_156 ⟨by decide, by decide⟩ (fun r us H locs hu hP hD hS => ?_)
            have hP : va_P D cls2 [oD x qw qs qo (nI n) (nI (pu_sum w n)), aI qw cI fw, aI qs cI us] H := hP.sub [0, 1, 2] rfl
            have hD : va_D A [oD x qw qs qo (nI n) (nI (pu_sum w n)), aI qw cI fw, aI qs cI us] := hD.sub [0, 1, 2] rfl rfl
            subst hu
            have hsm := pu_sh_le (d := d) (m := 10000) hW hp
            refine lv_iload_n hx hb d_sd_least_159 rfl (lv_at hl 4 rfl) ?_
            refine xc_ge (tgt := 165) hx hb d_sd_least_160 (by decide) (by omega) (by omega) (fun h5 => ?_) (fun h5 => ?_)
            · exact lp_least2 hx hb hml hg hown hK hA hn1 hn8 hw hfw hW hp hd h4 h3 (fun H locs ls fs r hr9 hP hD hS => en_gi fs hx hb hr hlk hr9 hP hK hD hS d_sd_least_211) 10000 0 10000 _ _ ls us (by omega) (by omega) (by omega) h5 (fun i hi => absurd hi (by omega)) hP hD hS (lv_sub hl [0, 1, 5, 4, 3, 2] rfl)
            · refine lv_iconst (v := -1) hx hb d_sd_least_163 (by decide) ?_
              exact en_gi us hx hb hr hlk (Or.inr ⟨fun i hi => Nat.lt_of_le_of_lt (pu_sh_mono h4 hi) h5, rfl⟩) hP hK hD hS d_sd_least_164
          · subst h4
            have hkW := kW_bd h3 hWb
            have hkW1 : (k - 1) * pu_sum w n ≤ 8000000000 := kW_bd (by omega) hWb
            have hdv : k * pu_sum w n / w pp ≤ k * pu_sum w n := Nat.div_le_self _ _
            have hdv1 : (k - 1) * pu_sum w n / w pp ≤ (k - 1) * pu_sum w n := Nat.div_le_self _ _
            refine lv_iload_n hx hb d_sd_least_54 rfl (lv_at hl 2 rfl) ?_
            refine lv_iconst (v := nI 1) hx hb d_sd_least_55 (by decide) ?_
            refine lv_isub hx hb d_sd_least_56 ?_
            refine xr_i (pk_sub (by omega)) ?_
            refine lv_i2l (v := lN (k - 1)) hx hb d_sd_least_57 (nI_l (by omega)) ?_
            refine lv_aload_n hx hb d_sd_least_58 rfl (lv_at hl 0 rfl) ?_
            refine sd_get hx hb hg hown hK hP 0 rfl 4 (by decide) k_21 rfl d_sd_least_59 ?_
            refine lv_i2l (v := lN (pu_sum w n)) hx hb d_sd_least_62 (nI_l (by omega)) ?_
            refine lv_lmul hx hb d_sd_least_63 ?_
            refine xr_l (lN_mul _ _) ?_
            refine lv_aload_n hx hb d_sd_least_64 rfl (lv_at hl 0 rfl) ?_
            refine sd_get hx hb hg hown hK hP 0 rfl 0 (by decide) k_17 rfl d_sd_least_65 ?_
            refine lv_iload_n hx hb d_sd_least_68 rfl (lv_at hl 3 rfl) ?_
            refine xa_iald hx hb hK hP 1 0 rfl rfl (by omega) d_sd_least_69 (v := nI (w pp)) (hfw pp (by omega)) ?_
            refine lv_i2l (v := lN (w pp)) hx hb d_sd_least_70 (nI_l (by omega)) ?_
            refine lv_ldiv hx hb d_sd_least_71 (lN_ne0 (by omega) (by omega)) ?_
            refine xr_l (pk_lDiv (by omega) (by omega) (by omega)) ?_
            refine lv_lstore (lv' := [(4, .long (lN (((k - 1) * (pu_sum w n)) / (w pp)))), (0, .ref x), (1, .int (nI 0)), (2, .int (nI k)), (3, .int (nI pp))]) hx hb d_sd_least_72 hl (by decide) rfl (fun ls hl => ?_)
            refine lv_iload_n hx hb d_sd_least_74 rfl (lv_at hl 3 rfl) ?_
            refine lv_i2l (v := lN k) hx hb d_sd_least_75 (nI_l (by omega)) ?_
            refine lv_aload_n hx hb d_sd_least_76 rfl (lv_at hl 1 rfl) ?_
            refine sd_get hx hb hg hown hK hP 0 rfl 4 (by decide) k_21 rfl d_sd_least_77 ?_
            refine lv_i2l (v := lN (pu_sum w n)) hx hb d_sd_least_80 (nI_l (by omega)) ?_
            refine lv_lmul hx hb d_sd_least_81 ?_
            refine xr_l (lN_mul _ _) ?_
            refine lv_aload_n hx hb d_sd_least_82 rfl (lv_at hl 1 rfl) ?_
            refine sd_get hx hb hg hown hK hP 0 rfl 0 (by decide) k_17 rfl d_sd_least_83 ?_
            refine lv_iload_n hx hb d_sd_least_86 rfl (lv_at hl 4 rfl) ?_
            refine xa_iald hx hb hK hP 1 0 rfl rfl (by omega) d_sd_least_87 (v := nI (w pp)) (hfw pp (by omega)) ?_
            refine lv_i2l (v := lN (w pp)) hx hb d_sd_least_88 (nI_l (by omega)) ?_
            refine lv_ldiv hx hb d_sd_least_89 (lN_ne0 (by omega) (by omega)) ?_
            refine xr_l (pk_lDiv (by omega) (by omega) (by omega)) ?_
            refine lv_lconst (v := lN 1) hx hb d_sd_least_90 (by decide) ?_
            refine lv_ladd hx hb d_sd_least_91 ?_
            refine xr_l (lN_add _ _) ?_
            refine lv_lstore (lv' := [(6, .long (lN (((k * (pu_sum w n)) / (w pp)) + 1))), (4, .long (lN (((k - 1) * (pu_sum w n)) / (w pp)))), (0, .ref x), (1, .int (nI 0)), (2, .int (nI k)), (3, .int (nI pp))]) hx hb d_sd_least_92 hl (by decide) rfl (fun ls hl => ?_)
            refine lv_lload hx hb d_sd_least_94 (lv_at hl 1 rfl) ?_
            refine lv_lstore (lv' := [(8, .long (lN (((k - 1) * (pu_sum w n)) / (w pp)))), (6, .long (lN (((k * (pu_sum w n)) / (w pp)) + 1))), (4, .long (lN (((k - 1) * (pu_sum w n)) / (w pp)))), (0, .ref x), (1, .int (nI 0)), (2, .int (nI k)), (3, .int (nI pp))]) hx hb d_sd_least_96 hl (by decide) rfl (fun ls hl => ?_)
            refine lp_least1 hx hb hml hg hown hK hA hn1 hn8 hw hfw hW hp h3 h2 (fun H locs ls fs h9 hP hD hS => en_gi fs hx hb hr hlk (Or.inr ⟨h9, rfl⟩) hP hK hD hS d_sd_least_142) (fun H locs ls fs r h9 hP hD hS => en_gi fs hx hb hr hlk h9 hP hK hD hS d_sd_least_131) 10001 _ _ _ ls fs (Nat.le_add_left _ _) (by omega) (fun i hi => ?_) hP hD hS (lv_sub hl [0, 1, 6, 5, 3] rfl)
            refine Nat.lt_of_not_le (fun z => ?_)
            rw [pu_sh0] at z
            have := pu_ham_lo (m := i) (k := k - 1) hW h2 (by omega)
            omega
        · refine lv_iconst (v := -1) hx hb d_sd_least_48 (by decide) ?_
          exact en_gi fs hx hb hr hlk (Or.inr ⟨fun i hi => by show pu_sh n w d i pp < k; have := pu_sh_le (d := d) (m := i) hW hp; omega, rfl⟩) hP hK hD hS d_sd_least_49
    · subst h1
      refine lv_iconst (v := nI 0) hx hb d_sd_least_30 (by decide) ?_
      exact en_gi fs hx hb hr hlk (pu_isL_zero _) hP hK hD hS d_sd_least_31
end
section
/-! ShareDesk, where it throws -/
def gX (D : va_G) (tys : List (ClassId × FieldType)) (ws : va_W) (sz : Nat) : State → Prop := fun U => gP D tys ws sz U ∧ xs noA U U.heap
theorem gX_blind {av : List Value} {D : va_G} {tys : List (ClassId × FieldType)} {ws : va_W} {sz : Nat} : FrameBlind (va_Pc av (gX D tys ws sz)) := fun a U g mk q => by
  obtain ⟨q0, q1, q2⟩ := q
  obtain ⟨-, q3⟩ := gP_blind a U g mk ⟨q0, q1⟩
  exact ⟨q0, q3, xs.moved (u := U) (U := U.calling g mk a) (Vm.Alike.refl U.vm) q2⟩
theorem gX_pre {s : State} {D : va_G} {tys : List (ClassId × FieldType)} {ws : va_W} {A : Nat → Prop} (hK : va_K D cls2 tys s) (hP : va_P D cls2 ws s.heap) (hD : va_D A ws) (hxs : xs noA s s.heap) : ∀ U : State, U.heap = s.heap → s.WarmedH U.vm → gX D tys ws s.heap.size U := fun U hU hW =>
  ⟨(gP_pre (av := []) hK hP hD U hU hW).2, by rw [hU]; exact hxs.moved hW.alike⟩
theorem xsP_blind {av : List Value} : FrameBlind (va_Pc av (fun U => xs noA U U.heap)) := fun a U g mk q => ⟨q.1, xs.moved (u := U) (U := U.calling g mk a) (Vm.Alike.refl U.vm) q.2⟩
theorem xsP_pre {s : State} (hxs : xs noA s s.heap) : ∀ U : State, U.heap = s.heap → s.WarmedH U.vm → xs noA U U.heap := fun U hU hW => by rw [hU]; exact hxs.moved hW.alike
theorem ti_lt2 {v : Int32} {n : Nat} (hn : n < 2 ^ 31) : nI n < v ↔ (n : Int) < v.toInt := by rw [Int32.lt_iff_toInt_lt, nI_toInt hn]
theorem ti_le0 {v : Int32} : v ≤ 0 ↔ v.toInt ≤ 0 := by rw [Int32.le_iff_toInt_le]; rfl
theorem is_bad {v ri : Int32} {n : Nat} (hi : (¬ v < 0 ∧ ¬ nI n ≤ v → ri = nI 1) ∧ (v < 0 ∨ nI n ≤ v → ri = nI 0)) (hn : n ≤ 8) (h : v.toInt < 0 ∨ (n : Int) ≤ v.toInt) : ri = nI 0 := hi.2 (h.imp ti_neg.mpr (ti_le (by omega)).mpr)
theorem is_good {v ri : Int32} {n : Nat} (hi : (¬ v < 0 ∧ ¬ nI n ≤ v → ri = nI 1) ∧ (v < 0 ∨ nI n ≤ v → ri = nI 0)) (hn : n ≤ 8) (h1 : 0 ≤ v.toInt) (h2 : v.toInt < (n : Int)) : ri = nI 1 := hi.1 ⟨fun z => by have := ti_neg.mp z; omega, fun z => by have := (ti_le (by omega)).mp z; omega⟩
set_option maxRecDepth 10000 in
set_option maxHeartbeats 4000000 in
theorem t_sd_begin (l : Launch) (htr : l.stackTraces = false) (D : va_G) (tys : List (ClassId × FieldType)) (x qw qs qo sz : Nat) (P Wh v : Int32) (h : v.toInt < 1 ∨ 8 < v.toInt) : MetT l y_sd_begin w_sd_begin (rL 7 1 6) (va_Pc [.ref x, .int v] (gX D tys [oD x qw qs qo P Wh] sz)) sIAE := by
  refine MetT.ofW (cc := b_sd_begin) (maxL := 3) (ret := none) (by decide) rfl ?_
  intro p e s m args below meth c s₁ B hml hv
  obtain ⟨rfl, ⟨hsz, hP, hK, hD0⟩, hxs⟩ := hv
  have hx := B.exec
  have hb := B.bytes
  have hr := B.returns
  have hts := atoms_spec (ws := w_sd_begin) B.pre
  have hg : ∀ w ∈ gws, w.before ([.ref x, .int v] : List Value).toArray s = true := fun w hw => hts w (List.mem_cons_of_mem _ hw)
  have hown : s.vm.findClass "ShareDesk" = some m.cls := findClass_of_methodNamed B.named
  have hlk := B.notSynchronized
  have hno := B.noHandlers (hts _ List.mem_cons_self)
  subst hsz
  have hD := hD0
  have hP : va_P D cls2 [oD x qw qs qo P Wh] s.heap := hP
  have hl := lv_entry ([.ref x, .int v]) (n := 3) (Nat.le_of_ble_eq_true rfl)
  rw [lg_entry_eq]
  generalize (lg_sl ([.ref x, .int v]) ++ List.replicate (3 - (lg_sl ([.ref x, .int v])).length) Slot.unset).toArray = ls at hl ⊢
  have hl : lv_has ls 3 [(0, .ref x), (1, .int v)] := hl
  refine lv_iload_n hx hb d_sd_begin_0 rfl (lv_at hl 1 rfl) ?_
  refine lv_if_le (tgt := 14) hx hb d_sd_begin_1 (by decide) (fun h1 => ?_) (fun h1 => ?_)
  · refine lv_iconst (v := nI 0) hx hb d_sd_begin_14 (by decide) ?_
    exact ts_leave hx hb hml hown hg (t_sd_good l htr) ⟨k_42, k_43, k_1, k_44⟩ n_sd_good ⟨by decide, by decide, by decide, by decide⟩ xsP_blind (xsP_pre hxs) hl.1 rfl (Nat.le_of_ble_eq_true rfl) d_sd_begin_15 hlk hno
  · refine lv_iload_n hx hb d_sd_begin_4 rfl (lv_at hl 1 rfl) ?_
    refine lv_bipush (v := nI 8) hx hb d_sd_begin_5 (by decide) ?_
    refine lv_icmp_gt (tgt := 14) hx hb d_sd_begin_7 (by decide) (fun h2 => ?_) (fun h2 => ?_)
    · refine lv_iconst (v := nI 0) hx hb d_sd_begin_14 (by decide) ?_
      exact ts_leave hx hb hml hown hg (t_sd_good l htr) ⟨k_42, k_43, k_1, k_44⟩ n_sd_good ⟨by decide, by decide, by decide, by decide⟩ xsP_blind (xsP_pre hxs) hl.1 rfl (Nat.le_of_ble_eq_true rfl) d_sd_begin_15 hlk hno
    · have a1 : ¬ v.toInt ≤ 0 := fun z => h1 (ti_le0.mpr z)
      have a2 : ¬ ((8 : Nat) : Int) < v.toInt := fun z => h2 ((ti_lt2 (by decide)).mpr z)
      omega
set_option maxRecDepth 10000 in
set_option maxHeartbeats 4000000 in
theorem t_sd_count (l : Launch) (htr : l.stackTraces = false) (D : va_G) (tys : List (ClassId × FieldType)) (x qw qs qo sz n W : Nat) (v : Int32) (h : v.toInt < 0 ∨ 3 ≤ v.toInt) : MetT l y_sd_count w_sd_count (rL 7 1 6) (va_Pc [.ref x, .int v] (gX D tys [oD x qw qs qo (nI n) (nI W)] sz)) sIAE := by
  refine MetT.ofW (cc := b_sd_count) (maxL := 4) (ret := (some .int)) (by decide) rfl ?_
  intro p e s m args below meth c s₁ B hml hv
  obtain ⟨rfl, ⟨hsz, hP, hK, hD0⟩, hxs⟩ := hv
  have hx := B.exec
  have hb := B.bytes
  have hr := B.returns
  have hts := atoms_spec (ws := w_sd_count) B.pre
  have hg : ∀ w ∈ gws, w.before ([.ref x, .int v] : List Value).toArray s = true := fun w hw => hts w (List.mem_cons_of_mem _ hw)
  have hown : s.vm.findClass "ShareDesk" = some m.cls := findClass_of_methodNamed B.named
  have hlk := B.notSynchronized
  have hno := B.noHandlers (hts _ List.mem_cons_self)
  subst hsz
  have hD := hD0
  have hP : va_P D cls2 [oD x qw qs qo (nI n) (nI W)] s.heap := hP
  have hl := lv_entry ([.ref x, .int v]) (n := 4) (Nat.le_of_ble_eq_true rfl)
  rw [lg_entry_eq]
  generalize (lg_sl ([.ref x, .int v]) ++ List.replicate (4 - (lg_sl ([.ref x, .int v])).length) Slot.unset).toArray = ls at hl ⊢
  have hl : lv_has ls 4 [(0, .ref x), (1, .int v)] := hl
  refine lv_iload_n hx hb d_sd_count_0 rfl (lv_at hl 1 rfl) ?_
  refine lv_if_lt (tgt := 13) hx hb d_sd_count_1 (by decide) (fun h1 => ?_) (fun h1 => ?_)
  · refine lv_iconst (v := nI 0) hx hb d_sd_count_13 (by decide) ?_
    exact ts_leave hx hb hml hown hg (t_sd_good l htr) ⟨k_42, k_43, k_1, k_44⟩ n_sd_good ⟨by decide, by decide, by decide, by decide⟩ xsP_blind (xsP_pre hxs) hl.1 rfl (Nat.le_of_ble_eq_true rfl) d_sd_count_14 hlk hno
  · refine lv_iload_n hx hb d_sd_count_4 rfl (lv_at hl 1 rfl) ?_
    refine lv_iconst (v := nI 3) hx hb d_sd_count_5 (by decide) ?_
    refine lv_icmp_ge (tgt := 13) hx hb d_sd_count_6 (by decide) (fun h2 => ?_) (fun h2 => ?_)
    · refine lv_iconst (v := nI 0) hx hb d_sd_count_13 (by decide) ?_
      exact ts_leave hx hb hml hown hg (t_sd_good l htr) ⟨k_42, k_43, k_1, k_44⟩ n_sd_good ⟨by decide, by decide, by decide, by decide⟩ xsP_blind (xsP_pre hxs) hl.1 rfl (Nat.le_of_ble_eq_true rfl) d_sd_count_14 hlk hno
    · have a1 : ¬ v.toInt < 0 := fun z => h1 (ti_neg.mpr z)
      have a2 : ¬ ((3 : Nat) : Int) ≤ v.toInt := fun z => h2 ((ti_le (by decide)).mpr z)
      omega
set_option maxRecDepth 10000 in
set_option maxHeartbeats 4000000 in
theorem t_sd_weight (l : Launch) (htr : l.stackTraces = false) (D : va_G) (tys : List (ClassId × FieldType)) (x qw qs qo sz n W : Nat) (v u : Int32) (hn8 : n ≤ 8) (h : ¬ (0 ≤ v.toInt ∧ v.toInt < (n : Int) ∧ 0 ≤ u.toInt ∧ u.toInt ≤ 100000)) : MetT l y_sd_weight w_sd_weight (rL 7 1 6) (va_Pc [.ref x, .int v, .int u] (gX D tys [oD x qw qs qo (nI n) (nI W)] sz)) sIAE := by
  refine MetT.ofW (cc := b_sd_weight) (maxL := 4) (ret := (some .int)) (by decide) rfl ?_
  intro p e s m args below meth c s₁ B hml hv
  obtain ⟨rfl, ⟨hsz, hP, hK, hD0⟩, hxs⟩ := hv
  have hx := B.exec
  have hb := B.bytes
  have hr := B.returns
  have hts := atoms_spec (ws := w_sd_weight) B.pre
  have hg : ∀ w ∈ gws, w.before ([.ref x, .int v, .int u] : List Value).toArray s = true := fun w hw => hts w (List.mem_cons_of_mem _ hw)
  have hown : s.vm.findClass "ShareDesk" = some m.cls := findClass_of_methodNamed B.named
  have hlk := B.notSynchronized
  have hno := B.noHandlers (hts _ List.mem_cons_self)
  subst hsz
  have hD := hD0
  have hP : va_P D cls2 [oD x qw qs qo (nI n) (nI W)] s.heap := hP
  have hl := lv_entry ([.ref x, .int v, .int u]) (n := 4) (Nat.le_of_ble_eq_true rfl)
  rw [lg_entry_eq]
  generalize (lg_sl ([.ref x, .int v, .int u]) ++ List.replicate (4 - (lg_sl ([.ref x, .int v, .int u])).length) Slot.unset).toArray = ls at hl ⊢
  have hl : lv_has ls 4 [(0, .ref x), (1, .int v), (2, .int u)] := hl
  refine lv_aload_n hx hb d_sd_weight_0 rfl (lv_at hl 0 rfl) ?_
  refine lv_iload_n hx hb d_sd_weight_1 rfl (lv_at hl 1 rfl) ?_
  refine pv_i (C := "ShareDesk") hx hb hml hown hg (c_sd_is l D tys x qw qs qo s.heap.size n (nI W) v) ⟨k_114, k_116, ks_1, k_1, k_117⟩ n_sd_is ⟨rfl, rfl, by decide, by decide⟩ hK (hP.sub [0] rfl) (hD.sub [0] rfl rfl) (va_recv (q0 := 0) (ci := 0) hK hP rfl rfl) hl.1 rfl (Nat.le_of_ble_eq_true rfl) d_sd_weight_2 ⟨by decide, by decide⟩ (fun ri hi => ?_)
  refine lv_if_eq (tgt := 22) hx hb d_sd_weight_5 (by decide) (fun h1 => ?_) (fun h1 => ?_)
  · refine lv_iconst (v := nI 0) hx hb d_sd_weight_22 (by decide) ?_
    exact ts_leave hx hb hml hown hg (t_sd_good l htr) ⟨k_42, k_43, k_1, k_44⟩ n_sd_good ⟨by decide, by decide, by decide, by decide⟩ xsP_blind (xsP_pre hxs) hl.1 rfl (Nat.le_of_ble_eq_true rfl) d_sd_weight_23 hlk hno
  · refine lv_iload_n hx hb d_sd_weight_8 rfl (lv_at hl 2 rfl) ?_
    refine lv_if_lt (tgt := 22) hx hb d_sd_weight_9 (by decide) (fun h2 => ?_) (fun h2 => ?_)
    · refine lv_iconst (v := nI 0) hx hb d_sd_weight_22 (by decide) ?_
      exact ts_leave hx hb hml hown hg (t_sd_good l htr) ⟨k_42, k_43, k_1, k_44⟩ n_sd_good ⟨by decide, by decide, by decide, by decide⟩ xsP_blind (xsP_pre hxs) hl.1 rfl (Nat.le_of_ble_eq_true rfl) d_sd_weight_23 hlk hno
    · refine lv_iload_n hx hb d_sd_weight_12 rfl (lv_at hl 2 rfl) ?_
      refine lv_ldc hx hb hown (hg _ k_118) d_sd_weight_13 ?_
      refine xr_i (show (100000 : Int32) = nI 100000 by decide) ?_
      refine lv_icmp_gt (tgt := 22) hx hb d_sd_weight_15 (by decide) (fun h3 => ?_) (fun h3 => ?_)
      · refine lv_iconst (v := nI 0) hx hb d_sd_weight_22 (by decide) ?_
        exact ts_leave hx hb hml hown hg (t_sd_good l htr) ⟨k_42, k_43, k_1, k_44⟩ n_sd_good ⟨by decide, by decide, by decide, by decide⟩ xsP_blind (xsP_pre hxs) hl.1 rfl (Nat.le_of_ble_eq_true rfl) d_sd_weight_23 hlk hno
      · have a0 : ¬ (v.toInt < 0 ∨ (n : Int) ≤ v.toInt) := fun z => h1 (by rw [is_bad hi hn8 z]; exact nI_0)
        have a1 : ¬ u.toInt < 0 := fun z => h2 (ti_neg.mpr z)
        have a2 : ¬ ((100000 : Nat) : Int) < u.toInt := fun z => h3 ((ti_lt2 (by decide)).mpr z)
        omega
set_option maxRecDepth 10000 in
set_option maxHeartbeats 4000000 in
theorem t_sd_ready1 (l : Launch) (htr : l.stackTraces = false) (D : va_G) (tys : List (ClassId × FieldType)) (x qw qs qo sz n W : Nat) (v u : Int32) (h : ¬ (0 ≤ v.toInt ∧ v.toInt < 3 ∧ 0 ≤ u.toInt ∧ u.toInt ≤ 10000)) : MetT l y_sd_ready w_sd_ready (rL 7 1 6) (va_Pc [.ref x, .int v, .int u] (gX D tys [oD x qw qs qo (nI n) (nI W)] sz)) sIAE := by
  refine MetT.ofW (cc := b_sd_ready) (maxL := 3) (ret := none) (by decide) rfl ?_
  intro p e s m args below meth c s₁ B hml hv
  obtain ⟨rfl, ⟨hsz, hP, hK, hD0⟩, hxs⟩ := hv
  have hx := B.exec
  have hb := B.bytes
  have hr := B.returns
  have hts := atoms_spec (ws := w_sd_ready) B.pre
  have hg : ∀ w ∈ gws, w.before ([.ref x, .int v, .int u] : List Value).toArray s = true := fun w hw => hts w (List.mem_cons_of_mem _ hw)
  have hown : s.vm.findClass "ShareDesk" = some m.cls := findClass_of_methodNamed B.named
  have hlk := B.notSynchronized
  have hno := B.noHandlers (hts _ List.mem_cons_self)
  subst hsz
  have hD := hD0
  have hP : va_P D cls2 [oD x qw qs qo (nI n) (nI W)] s.heap := hP
  have hl := lv_entry ([.ref x, .int v, .int u]) (n := 3) (Nat.le_of_ble_eq_true rfl)
  rw [lg_entry_eq]
  generalize (lg_sl ([.ref x, .int v, .int u]) ++ List.replicate (3 - (lg_sl ([.ref x, .int v, .int u])).length) Slot.unset).toArray = ls at hl ⊢
  have hl : lv_has ls 3 [(0, .ref x), (1, .int v), (2, .int u)] := hl
  refine lv_iload_n hx hb d_sd_ready_0 rfl (lv_at hl 1 rfl) ?_
  refine lv_if_lt (tgt := 24) hx hb d_sd_ready_1 (by decide) (fun h1 => ?_) (fun h1 => ?_)
  · refine lv_iconst (v := nI 0) hx hb d_sd_ready_24 (by decide) ?_
    exact ts_leave hx hb hml hown hg (t_sd_good l htr) ⟨k_42, k_43, k_1, k_44⟩ n_sd_good ⟨by decide, by decide, by decide, by decide⟩ xsP_blind (xsP_pre hxs) hl.1 rfl (Nat.le_of_ble_eq_true rfl) d_sd_ready_25 hlk hno
  · refine lv_iload_n hx hb d_sd_ready_4 rfl (lv_at hl 1 rfl) ?_
    refine lv_iconst (v := nI 3) hx hb d_sd_ready_5 (by decide) ?_
    refine lv_icmp_ge (tgt := 24) hx hb d_sd_ready_6 (by decide) (fun h2 => ?_) (fun h2 => ?_)
    · refine lv_iconst (v := nI 0) hx hb d_sd_ready_24 (by decide) ?_
      exact ts_leave hx hb hml hown hg (t_sd_good l htr) ⟨k_42, k_43, k_1, k_44⟩ n_sd_good ⟨by decide, by decide, by decide, by decide⟩ xsP_blind (xsP_pre hxs) hl.1 rfl (Nat.le_of_ble_eq_true rfl) d_sd_ready_25 hlk hno
    · refine lv_iload_n hx hb d_sd_ready_9 rfl (lv_at hl 2 rfl) ?_
      refine lv_if_lt (tgt := 24) hx hb d_sd_ready_10 (by decide) (fun h3 => ?_) (fun h3 => ?_)
      · refine lv_iconst (v := nI 0) hx hb d_sd_ready_24 (by decide) ?_
        exact ts_leave hx hb hml hown hg (t_sd_good l htr) ⟨k_42, k_43, k_1, k_44⟩ n_sd_good ⟨by decide, by decide, by decide, by decide⟩ xsP_blind (xsP_pre hxs) hl.1 rfl (Nat.le_of_ble_eq_true rfl) d_sd_ready_25 hlk hno
      · refine lv_iload_n hx hb d_sd_ready_13 rfl (lv_at hl 2 rfl) ?_
        refine lv_sipush (v := nI 10000) hx hb d_sd_ready_14 (by decide) ?_
        refine lv_icmp_gt (tgt := 24) hx hb d_sd_ready_17 (by decide) (fun h4 => ?_) (fun h4 => ?_)
        · refine lv_iconst (v := nI 0) hx hb d_sd_ready_24 (by decide) ?_
          exact ts_leave hx hb hml hown hg (t_sd_good l htr) ⟨k_42, k_43, k_1, k_44⟩ n_sd_good ⟨by decide, by decide, by decide, by decide⟩ xsP_blind (xsP_pre hxs) hl.1 rfl (Nat.le_of_ble_eq_true rfl) d_sd_ready_25 hlk hno
        · have a1 : ¬ v.toInt < 0 := fun z => h1 (ti_neg.mpr z)
          have a2 : ¬ ((3 : Nat) : Int) ≤ v.toInt := fun z => h2 ((ti_le (by decide)).mpr z)
          have a3 : ¬ u.toInt < 0 := fun z => h3 (ti_neg.mpr z)
          have a4 : ¬ ((10000 : Nat) : Int) < u.toInt := fun z => h4 ((ti_lt2 (by decide)).mpr z)
          omega
set_option maxRecDepth 10000 in
set_option maxHeartbeats 4000000 in
theorem t_sd_ready2 (l : Launch) (htr : l.stackTraces = false) (D : va_G) (tys : List (ClassId × FieldType)) (x qw qs qo sz n d mm : Nat) (hd : d < 3) (hm : mm ≤ 10000) : MetT l y_sd_ready w_sd_ready (rL 7 1 6) (va_Pc [.ref x, .int (nI d), .int (nI mm)] (gX D tys [oD x qw qs qo (nI n) (nI 0)] sz)) sISE := by
  refine MetT.ofW (cc := b_sd_ready) (maxL := 3) (ret := none) (by decide) rfl ?_
  intro p e s m args below meth c s₁ B hml hv
  obtain ⟨rfl, ⟨hsz, hP, hK, hD0⟩, hxs⟩ := hv
  have hx := B.exec
  have hb := B.bytes
  have hr := B.returns
  have hts := atoms_spec (ws := w_sd_ready) B.pre
  have hg : ∀ w ∈ gws, w.before ([.ref x, .int (nI d), .int (nI mm)] : List Value).toArray s = true := fun w hw => hts w (List.mem_cons_of_mem _ hw)
  have hown : s.vm.findClass "ShareDesk" = some m.cls := findClass_of_methodNamed B.named
  have hlk := B.notSynchronized
  have hno := B.noHandlers (hts _ List.mem_cons_self)
  subst hsz
  have hD := hD0
  have hP : va_P D cls2 [oD x qw qs qo (nI n) (nI 0)] s.heap := hP
  have hl := lv_entry ([.ref x, .int (nI d), .int (nI mm)]) (n := 3) (Nat.le_of_ble_eq_true rfl)
  rw [lg_entry_eq]
  generalize (lg_sl ([.ref x, .int (nI d), .int (nI mm)]) ++ List.replicate (3 - (lg_sl ([.ref x, .int (nI d), .int (nI mm)])).length) Slot.unset).toArray = ls at hl ⊢
  have hl : lv_has ls 3 [(0, .ref x), (1, .int (nI d)), (2, .int (nI mm))] := hl
  refine lv_iload_n hx hb d_sd_ready_0 rfl (lv_at hl 1 rfl) ?_
  refine xz_lt (tgt := 24) hx hb d_sd_ready_1 (by decide) (by omega) ?_
  refine lv_iload_n hx hb d_sd_ready_4 rfl (lv_at hl 1 rfl) ?_
  refine lv_iconst (v := nI 3) hx hb d_sd_ready_5 (by decide) ?_
  refine xc_ge (tgt := 24) hx hb d_sd_ready_6 (by decide) (by omega) (by omega) (fun hc => ?_) (fun hc => ?_)
  · exact absurd hc (by omega)
  · refine lv_iload_n hx hb d_sd_ready_9 rfl (lv_at hl 2 rfl) ?_
    refine xz_lt (tgt := 24) hx hb d_sd_ready_10 (by decide) (by omega) ?_
    refine lv_iload_n hx hb d_sd_ready_13 rfl (lv_at hl 2 rfl) ?_
    refine lv_sipush (v := nI 10000) hx hb d_sd_ready_14 (by decide) ?_
    refine xc_gt (tgt := 24) hx hb d_sd_ready_17 (by decide) (by omega) (by omega) (fun hc => ?_) (fun hc => ?_)
    · exact absurd hc (by omega)
    · refine lv_iconst (v := nI 1) hx hb d_sd_ready_20 (by decide) ?_
      refine lv_goto (tgt := 25) hx hb d_sd_ready_21 (by decide) ?_
      refine ps_v hx hb hml hown hg (c_sd_good l) ⟨k_42, k_43, k_1, k_44⟩ n_sd_good ⟨rfl, rfl, by decide, by decide⟩ hl.1 rfl (Nat.le_of_ble_eq_true rfl) d_sd_ready_25 ⟨by decide, by decide⟩ (fun _ => ?_)
      refine lv_aload_n hx hb d_sd_ready_28 rfl (lv_at hl 0 rfl) ?_
      refine sd_get hx hb hg hown hK hP 0 rfl 4 (by decide) k_21 rfl d_sd_ready_29 ?_
      refine xz_ne (tgt := 43) hx hb d_sd_ready_32 (by decide) (by omega) (fun hc => ?_) (fun hc => ?_)
      · exact absurd hc (by decide)
      · exact thr_new hx hb htr hown hlk hno (hg _ k_131) (hg _ k_132) (hg _ k_7) (by decide +kernel) (oa_ise hg hxs) (hl.1.trans hml.symm) ⟨by decide, by decide, by decide, by decide⟩ d_sd_ready_35 d_sd_ready_38 d_sd_ready_39 d_sd_ready_42
set_option maxRecDepth 10000 in
set_option maxHeartbeats 4000000 in
theorem t_sd_share1 (l : Launch) (htr : l.stackTraces = false) (D : va_G) (tys : List (ClassId × FieldType)) (x qw qs qo sz n W : Nat) (v u t : Int32) (hn8 : n ≤ 8) (h : ¬ (0 ≤ v.toInt ∧ v.toInt < 3 ∧ 0 ≤ u.toInt ∧ u.toInt ≤ 10000 ∧ 0 ≤ t.toInt ∧ t.toInt < (n : Int))) : MetT l y_sd_share w_sd_share (rL 8 1 6) (va_Pc [.ref x, .int v, .int u, .int t] (gX D tys [oD x qw qs qo (nI n) (nI W)] sz)) sIAE := by
  refine MetT.ofW (cc := b_sd_share) (maxL := 4) (ret := (some .int)) (by decide) rfl ?_
  intro p e s m args below meth c s₁ B hml hv
  obtain ⟨rfl, ⟨hsz, hP, hK, hD0⟩, hxs⟩ := hv
  have hx := B.exec
  have hb := B.bytes
  have hr := B.returns
  have hts := atoms_spec (ws := w_sd_share) B.pre
  have hg : ∀ w ∈ gws, w.before ([.ref x, .int v, .int u, .int t] : List Value).toArray s = true := fun w hw => hts w (List.mem_cons_of_mem _ hw)
  have hown : s.vm.findClass "ShareDesk" = some m.cls := findClass_of_methodNamed B.named
  have hlk := B.notSynchronized
  have hno := B.noHandlers (hts _ List.mem_cons_self)
  subst hsz
  have hD := hD0
  have hP : va_P D cls2 [oD x qw qs qo (nI n) (nI W)] s.heap := hP
  have hl := lv_entry ([.ref x, .int v, .int u, .int t]) (n := 4) (Nat.le_of_ble_eq_true rfl)
  rw [lg_entry_eq]
  generalize (lg_sl ([.ref x, .int v, .int u, .int t]) ++ List.replicate (4 - (lg_sl ([.ref x, .int v, .int u, .int t])).length) Slot.unset).toArray = ls at hl ⊢
  have hl : lv_has ls 4 [(0, .ref x), (1, .int v), (2, .int u), (3, .int t)] := hl
  refine lv_aload_n hx hb d_sd_share_0 rfl (lv_at hl 0 rfl) ?_
  refine lv_iload_n hx hb d_sd_share_1 rfl (lv_at hl 3 rfl) ?_
  refine pv_i (C := "ShareDesk") hx hb hml hown hg (c_sd_is l D tys x qw qs qo s.heap.size n (nI W) t) ⟨k_114, k_116, ks_1, k_1, k_117⟩ n_sd_is ⟨rfl, rfl, by decide, by decide⟩ hK (hP.sub [0] rfl) (hD.sub [0] rfl rfl) (va_recv (q0 := 0) (ci := 0) hK hP rfl rfl) hl.1 rfl (Nat.le_of_ble_eq_true rfl) d_sd_share_2 ⟨by decide, by decide⟩ (fun ri hi => ?_)
  by_cases hq : t.toInt < 0 ∨ (n : Int) ≤ t.toInt
  · obtain rfl := is_bad hi hn8 hq
    exact ts_leave hx hb hml hown hg (t_sd_good l htr) ⟨k_42, k_43, k_1, k_44⟩ n_sd_good ⟨by decide, by decide, by decide, by decide⟩ xsP_blind (xsP_pre hxs) hl.1 rfl (Nat.le_of_ble_eq_true rfl) d_sd_share_5 hlk hno
  · obtain rfl := is_good hi hn8 (by omega) (by omega)
    refine ps_v hx hb hml hown hg (c_sd_good l) ⟨k_42, k_43, k_1, k_44⟩ n_sd_good ⟨rfl, rfl, by decide, by decide⟩ hl.1 rfl (Nat.le_of_ble_eq_true rfl) d_sd_share_5 ⟨by decide, by decide⟩ (fun _ => ?_)
    refine lv_aload_n hx hb d_sd_share_8 rfl (lv_at hl 0 rfl) ?_
    refine lv_iload_n hx hb d_sd_share_9 rfl (lv_at hl 1 rfl) ?_
    refine lv_iload_n hx hb d_sd_share_10 rfl (lv_at hl 2 rfl) ?_
    exact tv_leave (Cr := "ShareDesk") hx hb hml hown hg (t_sd_ready1 l htr D tys x qw qs qo s.heap.size n W v u (by omega)) ⟨k_127, k_129, ks_2, k_1, k_130⟩ n_sd_ready ⟨by decide, by decide, by decide, by decide⟩ gX_blind (gX_pre hK hP hD hxs) (va_recv (q0 := 0) (ci := 0) hK hP rfl rfl) hl.1 rfl (Nat.le_of_ble_eq_true rfl) d_sd_share_11 hlk hno
set_option maxRecDepth 10000 in
set_option maxHeartbeats 4000000 in
theorem t_sd_share2 (l : Launch) (htr : l.stackTraces = false) (D : va_G) (tys : List (ClassId × FieldType)) (x qw qs qo sz n d mm pp : Nat) (hn8 : n ≤ 8) (hd : d < 3) (hm : mm ≤ 10000) (hp : pp < n) : MetT l y_sd_share w_sd_share (rL 8 1 6) (va_Pc [.ref x, .int (nI d), .int (nI mm), .int (nI pp)] (gX D tys [oD x qw qs qo (nI n) (nI 0)] sz)) sISE := by
  refine MetT.ofW (cc := b_sd_share) (maxL := 4) (ret := (some .int)) (by decide) rfl ?_
  intro p e s m args below meth c s₁ B hml hv
  obtain ⟨rfl, ⟨hsz, hP, hK, hD0⟩, hxs⟩ := hv
  have hx := B.exec
  have hb := B.bytes
  have hr := B.returns
  have hts := atoms_spec (ws := w_sd_share) B.pre
  have hg : ∀ w ∈ gws, w.before ([.ref x, .int (nI d), .int (nI mm), .int (nI pp)] : List Value).toArray s = true := fun w hw => hts w (List.mem_cons_of_mem _ hw)
  have hown : s.vm.findClass "ShareDesk" = some m.cls := findClass_of_methodNamed B.named
  have hlk := B.notSynchronized
  have hno := B.noHandlers (hts _ List.mem_cons_self)
  subst hsz
  have hD := hD0
  have hP : va_P D cls2 [oD x qw qs qo (nI n) (nI 0)] s.heap := hP
  have hl := lv_entry ([.ref x, .int (nI d), .int (nI mm), .int (nI pp)]) (n := 4) (Nat.le_of_ble_eq_true rfl)
  rw [lg_entry_eq]
  generalize (lg_sl ([.ref x, .int (nI d), .int (nI mm), .int (nI pp)]) ++ List.replicate (4 - (lg_sl ([.ref x, .int (nI d), .int (nI mm), .int (nI pp)])).length) Slot.unset).toArray = ls at hl ⊢
  have hl : lv_has ls 4 [(0, .ref x), (1, .int (nI d)), (2, .int (nI mm)), (3, .int (nI pp))] := hl
  refine lv_aload_n hx hb d_sd_share_0 rfl (lv_at hl 0 rfl) ?_
  refine lv_iload_n hx hb d_sd_share_1 rfl (lv_at hl 3 rfl) ?_
  refine pv_i (C := "ShareDesk") hx hb hml hown hg (c_sd_is l D tys x qw qs qo s.heap.size n (nI 0) (nI pp)) ⟨k_114, k_116, ks_1, k_1, k_117⟩ n_sd_is ⟨rfl, rfl, by decide, by decide⟩ hK (hP.sub [0] rfl) (hD.sub [0] rfl rfl) (va_recv (q0 := 0) (ci := 0) hK hP rfl rfl) hl.1 rfl (Nat.le_of_ble_eq_true rfl) d_sd_share_2 ⟨by decide, by decide⟩ (fun ri hi => ?_)
  obtain rfl : ri = nI 1 := hi.1 ⟨nI_pos (by omega), fun z => absurd ((nI_leI (by omega) (by omega)).mp z) (by omega)⟩
  refine ps_v hx hb hml hown hg (c_sd_good l) ⟨k_42, k_43, k_1, k_44⟩ n_sd_good ⟨rfl, rfl, by decide, by decide⟩ hl.1 rfl (Nat.le_of_ble_eq_true rfl) d_sd_share_5 ⟨by decide, by decide⟩ (fun _ => ?_)
  refine lv_aload_n hx hb d_sd_share_8 rfl (lv_at hl 0 rfl) ?_
  refine lv_iload_n hx hb d_sd_share_9 rfl (lv_at hl 1 rfl) ?_
  refine lv_iload_n hx hb d_sd_share_10 rfl (lv_at hl 2 rfl) ?_
  exact tv_leave (Cr := "ShareDesk") hx hb hml hown hg (t_sd_ready2 l htr D tys x qw qs qo s.heap.size n d mm hd hm) ⟨k_127, k_129, ks_2, k_1, k_130⟩ n_sd_ready ⟨by decide, by decide, by decide, by decide⟩ gX_blind (gX_pre hK hP hD hxs) (va_recv (q0 := 0) (ci := 0) hK hP rfl rfl) hl.1 rfl (Nat.le_of_ble_eq_true rfl) d_sd_share_11 hlk hno
set_option maxRecDepth 10000 in
set_option maxHeartbeats 4000000 in
theorem t_sd_over1 (l : Launch) (htr : l.stackTraces = false) (D : va_G) (tys : List (ClassId × FieldType)) (x qw qs qo sz n W : Nat) (v u t : Int32) (hn8 : n ≤ 8) (h : ¬ (0 ≤ v.toInt ∧ v.toInt < 3 ∧ 0 ≤ u.toInt ∧ u.toInt ≤ 10000 ∧ 0 ≤ t.toInt ∧ t.toInt < (n : Int))) : MetT l y_sd_over w_sd_over (rL 9 1 6) (va_Pc [.ref x, .int v, .int u, .int t] (gX D tys [oD x qw qs qo (nI n) (nI W)] sz)) sIAE := by
  refine MetT.ofW (cc := b_sd_over) (maxL := 4) (ret := (some .long)) (by decide) rfl ?_
  intro p e s m args below meth c s₁ B hml hv
  obtain ⟨rfl, ⟨hsz, hP, hK, hD0⟩, hxs⟩ := hv
  have hx := B.exec
  have hb := B.bytes
  have hr := B.returns
  have hts := atoms_spec (ws := w_sd_over) B.pre
  have hg : ∀ w ∈ gws, w.before ([.ref x, .int v, .int u, .int t] : List Value).toArray s = true := fun w hw => hts w (List.mem_cons_of_mem _ hw)
  have hown : s.vm.findClass "ShareDesk" = some m.cls := findClass_of_methodNamed B.named
  have hlk := B.notSynchronized
  have hno := B.noHandlers (hts _ List.mem_cons_self)
  subst hsz
  have hD := hD0
  have hP : va_P D cls2 [oD x qw qs qo (nI n) (nI W)] s.heap := hP
  have hl := lv_entry ([.ref x, .int v, .int u, .int t]) (n := 4) (Nat.le_of_ble_eq_true rfl)
  rw [lg_entry_eq]
  generalize (lg_sl ([.ref x, .int v, .int u, .int t]) ++ List.replicate (4 - (lg_sl ([.ref x, .int v, .int u, .int t])).length) Slot.unset).toArray = ls at hl ⊢
  have hl : lv_has ls 4 [(0, .ref x), (1, .int v), (2, .int u), (3, .int t)] := hl
  refine lv_aload_n hx hb d_sd_over_0 rfl (lv_at hl 0 rfl) ?_
  refine lv_iload_n hx hb d_sd_over_1 rfl (lv_at hl 1 rfl) ?_
  refine lv_iload_n hx hb d_sd_over_2 rfl (lv_at hl 2 rfl) ?_
  refine lv_iload_n hx hb d_sd_over_3 rfl (lv_at hl 3 rfl) ?_
  exact tv_leave (Cr := "ShareDesk") hx hb hml hown hg (t_sd_share1 l htr D tys x qw qs qo s.heap.size n W v u t hn8 h) ⟨k_173, k_124, k_125, k_1, k_126⟩ n_sd_share ⟨by decide, by decide, by decide, by decide⟩ gX_blind (gX_pre hK hP hD hxs) (va_recv (q0 := 0) (ci := 0) hK hP rfl rfl) hl.1 rfl (Nat.le_of_ble_eq_true rfl) d_sd_over_4 hlk hno
set_option maxRecDepth 10000 in
set_option maxHeartbeats 4000000 in
theorem t_sd_over2 (l : Launch) (htr : l.stackTraces = false) (D : va_G) (tys : List (ClassId × FieldType)) (x qw qs qo sz n d mm pp : Nat) (hn8 : n ≤ 8) (hd : d < 3) (hm : mm ≤ 10000) (hp : pp < n) : MetT l y_sd_over w_sd_over (rL 9 1 6) (va_Pc [.ref x, .int (nI d), .int (nI mm), .int (nI pp)] (gX D tys [oD x qw qs qo (nI n) (nI 0)] sz)) sISE := by
  refine MetT.ofW (cc := b_sd_over) (maxL := 4) (ret := (some .long)) (by decide) rfl ?_
  intro p e s m args below meth c s₁ B hml hv
  obtain ⟨rfl, ⟨hsz, hP, hK, hD0⟩, hxs⟩ := hv
  have hx := B.exec
  have hb := B.bytes
  have hr := B.returns
  have hts := atoms_spec (ws := w_sd_over) B.pre
  have hg : ∀ w ∈ gws, w.before ([.ref x, .int (nI d), .int (nI mm), .int (nI pp)] : List Value).toArray s = true := fun w hw => hts w (List.mem_cons_of_mem _ hw)
  have hown : s.vm.findClass "ShareDesk" = some m.cls := findClass_of_methodNamed B.named
  have hlk := B.notSynchronized
  have hno := B.noHandlers (hts _ List.mem_cons_self)
  subst hsz
  have hD := hD0
  have hP : va_P D cls2 [oD x qw qs qo (nI n) (nI 0)] s.heap := hP
  have hl := lv_entry ([.ref x, .int (nI d), .int (nI mm), .int (nI pp)]) (n := 4) (Nat.le_of_ble_eq_true rfl)
  rw [lg_entry_eq]
  generalize (lg_sl ([.ref x, .int (nI d), .int (nI mm), .int (nI pp)]) ++ List.replicate (4 - (lg_sl ([.ref x, .int (nI d), .int (nI mm), .int (nI pp)])).length) Slot.unset).toArray = ls at hl ⊢
  have hl : lv_has ls 4 [(0, .ref x), (1, .int (nI d)), (2, .int (nI mm)), (3, .int (nI pp))] := hl
  refine lv_aload_n hx hb d_sd_over_0 rfl (lv_at hl 0 rfl) ?_
  refine lv_iload_n hx hb d_sd_over_1 rfl (lv_at hl 1 rfl) ?_
  refine lv_iload_n hx hb d_sd_over_2 rfl (lv_at hl 2 rfl) ?_
  refine lv_iload_n hx hb d_sd_over_3 rfl (lv_at hl 3 rfl) ?_
  exact tv_leave (Cr := "ShareDesk") hx hb hml hown hg (t_sd_share2 l htr D tys x qw qs qo s.heap.size n d mm pp hn8 hd hm hp) ⟨k_173, k_124, k_125, k_1, k_126⟩ n_sd_share ⟨by decide, by decide, by decide, by decide⟩ gX_blind (gX_pre hK hP hD hxs) (va_recv (q0 := 0) (ci := 0) hK hP rfl rfl) hl.1 rfl (Nat.le_of_ble_eq_true rfl) d_sd_over_4 hlk hno
set_option maxRecDepth 10000 in
set_option maxHeartbeats 4000000 in
theorem t_sd_next1 (l : Launch) (htr : l.stackTraces = false) (D : va_G) (tys : List (ClassId × FieldType)) (x qw qs qo sz n W : Nat) (v u : Int32) (h : ¬ (0 ≤ v.toInt ∧ v.toInt < 3 ∧ 0 ≤ u.toInt ∧ u.toInt ≤ 9999)) : MetT l y_sd_next w_sd_next (rL 8 1 6) (va_Pc [.ref x, .int v, .int u] (gX D tys [oD x qw qs qo (nI n) (nI W)] sz)) sIAE := by
  refine MetT.ofW (cc := b_sd_next) (maxL := 5) (ret := (some .int)) (by decide) rfl ?_
  intro p e s m args below meth c s₁ B hml hv
  obtain ⟨rfl, ⟨hsz, hP, hK, hD0⟩, hxs⟩ := hv
  have hx := B.exec
  have hb := B.bytes
  have hr := B.returns
  have hts := atoms_spec (ws := w_sd_next) B.pre
  have hg : ∀ w ∈ gws, w.before ([.ref x, .int v, .int u] : List Value).toArray s = true := fun w hw => hts w (List.mem_cons_of_mem _ hw)
  have hown : s.vm.findClass "ShareDesk" = some m.cls := findClass_of_methodNamed B.named
  have hlk := B.notSynchronized
  have hno := B.noHandlers (hts _ List.mem_cons_self)
  subst hsz
  have hD := hD0
  have hP : va_P D cls2 [oD x qw qs qo (nI n) (nI W)] s.heap := hP
  have hl := lv_entry ([.ref x, .int v, .int u]) (n := 5) (Nat.le_of_ble_eq_true rfl)
  rw [lg_entry_eq]
  generalize (lg_sl ([.ref x, .int v, .int u]) ++ List.replicate (5 - (lg_sl ([.ref x, .int v, .int u])).length) Slot.unset).toArray = ls at hl ⊢
  have hl : lv_has ls 5 [(0, .ref x), (1, .int v), (2, .int u)] := hl
  refine lv_iload_n hx hb d_sd_next_0 rfl (lv_at hl 2 rfl) ?_
  refine lv_sipush (v := nI 10000) hx hb d_sd_next_1 (by decide) ?_
  refine lv_icmp_ge (tgt := 11) hx hb d_sd_next_4 (by decide) (fun h1 => ?_) (fun h1 => ?_)
  · refine lv_iconst (v := nI 0) hx hb d_sd_next_11 (by decide) ?_
    exact ts_leave hx hb hml hown hg (t_sd_good l htr) ⟨k_42, k_43, k_1, k_44⟩ n_sd_good ⟨by decide, by decide, by decide, by decide⟩ xsP_blind (xsP_pre hxs) hl.1 rfl (Nat.le_of_ble_eq_true rfl) d_sd_next_12 hlk hno
  · have a1 : ¬ ((10000 : Nat) : Int) ≤ u.toInt := fun z => h1 ((ti_le (by decide)).mpr z)
    refine lv_iconst (v := nI 1) hx hb d_sd_next_7 (by decide) ?_
    refine lv_goto (tgt := 12) hx hb d_sd_next_8 (by decide) ?_
    refine ps_v hx hb hml hown hg (c_sd_good l) ⟨k_42, k_43, k_1, k_44⟩ n_sd_good ⟨rfl, rfl, by decide, by decide⟩ hl.1 rfl (Nat.le_of_ble_eq_true rfl) d_sd_next_12 ⟨by decide, by decide⟩ (fun _ => ?_)
    refine lv_aload_n hx hb d_sd_next_15 rfl (lv_at hl 0 rfl) ?_
    refine lv_iload_n hx hb d_sd_next_16 rfl (lv_at hl 1 rfl) ?_
    refine lv_iload_n hx hb d_sd_next_17 rfl (lv_at hl 2 rfl) ?_
    exact tv_leave (Cr := "ShareDesk") hx hb hml hown hg (t_sd_ready1 l htr D tys x qw qs qo s.heap.size n W v u (by omega)) ⟨k_127, k_129, ks_2, k_1, k_130⟩ n_sd_ready ⟨by decide, by decide, by decide, by decide⟩ gX_blind (gX_pre hK hP hD hxs) (va_recv (q0 := 0) (ci := 0) hK hP rfl rfl) hl.1 rfl (Nat.le_of_ble_eq_true rfl) d_sd_next_18 hlk hno
set_option maxRecDepth 10000 in
set_option maxHeartbeats 4000000 in
theorem t_sd_next2 (l : Launch) (htr : l.stackTraces = false) (D : va_G) (tys : List (ClassId × FieldType)) (x qw qs qo sz n d mm : Nat) (hd : d < 3) (hm : mm < 10000) : MetT l y_sd_next w_sd_next (rL 8 1 6) (va_Pc [.ref x, .int (nI d), .int (nI mm)] (gX D tys [oD x qw qs qo (nI n) (nI 0)] sz)) sISE := by
  refine MetT.ofW (cc := b_sd_next) (maxL := 5) (ret := (some .int)) (by decide) rfl ?_
  intro p e s m args below meth c s₁ B hml hv
  obtain ⟨rfl, ⟨hsz, hP, hK, hD0⟩, hxs⟩ := hv
  have hx := B.exec
  have hb := B.bytes
  have hr := B.returns
  have hts := atoms_spec (ws := w_sd_next) B.pre
  have hg : ∀ w ∈ gws, w.before ([.ref x, .int (nI d), .int (nI mm)] : List Value).toArray s = true := fun w hw => hts w (List.mem_cons_of_mem _ hw)
  have hown : s.vm.findClass "ShareDesk" = some m.cls := findClass_of_methodNamed B.named
  have hlk := B.notSynchronized
  have hno := B.noHandlers (hts _ List.mem_cons_self)
  subst hsz
  have hD := hD0
  have hP : va_P D cls2 [oD x qw qs qo (nI n) (nI 0)] s.heap := hP
  have hl := lv_entry ([.ref x, .int (nI d), .int (nI mm)]) (n := 5) (Nat.le_of_ble_eq_true rfl)
  rw [lg_entry_eq]
  generalize (lg_sl ([.ref x, .int (nI d), .int (nI mm)]) ++ List.replicate (5 - (lg_sl ([.ref x, .int (nI d), .int (nI mm)])).length) Slot.unset).toArray = ls at hl ⊢
  have hl : lv_has ls 5 [(0, .ref x), (1, .int (nI d)), (2, .int (nI mm))] := hl
  refine lv_iload_n hx hb d_sd_next_0 rfl (lv_at hl 2 rfl) ?_
  refine lv_sipush (v := nI 10000) hx hb d_sd_next_1 (by decide) ?_
  refine xc_ge (tgt := 11) hx hb d_sd_next_4 (by decide) (by omega) (by omega) (fun hc => ?_) (fun hc => ?_)
  · exact absurd hc (by omega)
  · refine lv_iconst (v := nI 1) hx hb d_sd_next_7 (by decide) ?_
    refine lv_goto (tgt := 12) hx hb d_sd_next_8 (by decide) ?_
    refine ps_v hx hb hml hown hg (c_sd_good l) ⟨k_42, k_43, k_1, k_44⟩ n_sd_good ⟨rfl, rfl, by decide, by decide⟩ hl.1 rfl (Nat.le_of_ble_eq_true rfl) d_sd_next_12 ⟨by decide, by decide⟩ (fun _ => ?_)
    refine lv_aload_n hx hb d_sd_next_15 rfl (lv_at hl 0 rfl) ?_
    refine lv_iload_n hx hb d_sd_next_16 rfl (lv_at hl 1 rfl) ?_
    refine lv_iload_n hx hb d_sd_next_17 rfl (lv_at hl 2 rfl) ?_
    exact tv_leave (Cr := "ShareDesk") hx hb hml hown hg (t_sd_ready2 l htr D tys x qw qs qo s.heap.size n d mm hd (by omega)) ⟨k_127, k_129, ks_2, k_1, k_130⟩ n_sd_ready ⟨by decide, by decide, by decide, by decide⟩ gX_blind (gX_pre hK hP hD hxs) (va_recv (q0 := 0) (ci := 0) hK hP rfl rfl) hl.1 rfl (Nat.le_of_ble_eq_true rfl) d_sd_next_18 hlk hno
set_option maxRecDepth 10000 in
set_option maxHeartbeats 4000000 in
theorem t_sd_least1 (l : Launch) (htr : l.stackTraces = false) (D : va_G) (tys : List (ClassId × FieldType)) (x qw qs qo sz n W : Nat) (v u t : Int32) (hn8 : n ≤ 8) (h : ¬ (0 ≤ v.toInt ∧ v.toInt < 3 ∧ 0 ≤ u.toInt ∧ 0 ≤ t.toInt ∧ t.toInt < (n : Int))) : MetT l y_sd_least w_sd_least (rL 8 1 6) (va_Pc [.ref x, .int v, .int u, .int t] (gX D tys [oD x qw qs qo (nI n) (nI W)] sz)) sIAE := by
  refine MetT.ofW (cc := b_sd_least) (maxL := 10) (ret := (some .int)) (by decide) rfl ?_
  intro p e s m args below meth c s₁ B hml hv
  obtain ⟨rfl, ⟨hsz, hP, hK, hD0⟩, hxs⟩ := hv
  have hx := B.exec
  have hb := B.bytes
  have hr := B.returns
  have hts := atoms_spec (ws := w_sd_least) B.pre
  have hg : ∀ w ∈ gws, w.before ([.ref x, .int v, .int u, .int t] : List Value).toArray s = true := fun w hw => hts w (List.mem_cons_of_mem _ hw)
  have hown : s.vm.findClass "ShareDesk" = some m.cls := findClass_of_methodNamed B.named
  have hlk := B.notSynchronized
  have hno := B.noHandlers (hts _ List.mem_cons_self)
  subst hsz
  have hD := hD0
  have hP : va_P D cls2 [oD x qw qs qo (nI n) (nI W)] s.heap := hP
  have hl := lv_entry ([.ref x, .int v, .int u, .int t]) (n := 10) (Nat.le_of_ble_eq_true rfl)
  rw [lg_entry_eq]
  generalize (lg_sl ([.ref x, .int v, .int u, .int t]) ++ List.replicate (10 - (lg_sl ([.ref x, .int v, .int u, .int t])).length) Slot.unset).toArray = ls at hl ⊢
  have hl : lv_has ls 10 [(0, .ref x), (1, .int v), (2, .int u), (3, .int t)] := hl
  refine lv_aload_n hx hb d_sd_least_0 rfl (lv_at hl 0 rfl) ?_
  refine lv_iload_n hx hb d_sd_least_1 rfl (lv_at hl 3 rfl) ?_
  refine pv_i (C := "ShareDesk") hx hb hml hown hg (c_sd_is l D tys x qw qs qo s.heap.size n (nI W) t) ⟨k_114, k_116, ks_1, k_1, k_117⟩ n_sd_is ⟨rfl, rfl, by decide, by decide⟩ hK (hP.sub [0] rfl) (hD.sub [0] rfl rfl) (va_recv (q0 := 0) (ci := 0) hK hP rfl rfl) hl.1 rfl (Nat.le_of_ble_eq_true rfl) d_sd_least_2 ⟨by decide, by decide⟩ (fun ri hi => ?_)
  refine lv_if_eq (tgt := 16) hx hb d_sd_least_5 (by decide) (fun h1 => ?_) (fun h1 => ?_)
  · refine lv_iconst (v := nI 0) hx hb d_sd_least_16 (by decide) ?_
    exact ts_leave hx hb hml hown hg (t_sd_good l htr) ⟨k_42, k_43, k_1, k_44⟩ n_sd_good ⟨by decide, by decide, by decide, by decide⟩ xsP_blind (xsP_pre hxs) hl.1 rfl (Nat.le_of_ble_eq_true rfl) d_sd_least_17 hlk hno
  · refine lv_iload_n hx hb d_sd_least_8 rfl (lv_at hl 2 rfl) ?_
    refine lv_if_lt (tgt := 16) hx hb d_sd_least_9 (by decide) (fun h2 => ?_) (fun h2 => ?_)
    · refine lv_iconst (v := nI 0) hx hb d_sd_least_16 (by decide) ?_
      exact ts_leave hx hb hml hown hg (t_sd_good l htr) ⟨k_42, k_43, k_1, k_44⟩ n_sd_good ⟨by decide, by decide, by decide, by decide⟩ xsP_blind (xsP_pre hxs) hl.1 rfl (Nat.le_of_ble_eq_true rfl) d_sd_least_17 hlk hno
    · have a0 : ¬ (t.toInt < 0 ∨ (n : Int) ≤ t.toInt) := fun z => h1 (by rw [is_bad hi hn8 z]; exact nI_0)
      have a1 : ¬ u.toInt < 0 := fun z => h2 (ti_neg.mpr z)
      refine lv_iconst (v := nI 1) hx hb d_sd_least_12 (by decide) ?_
      refine lv_goto (tgt := 17) hx hb d_sd_least_13 (by decide) ?_
      refine ps_v hx hb hml hown hg (c_sd_good l) ⟨k_42, k_43, k_1, k_44⟩ n_sd_good ⟨rfl, rfl, by decide, by decide⟩ hl.1 rfl (Nat.le_of_ble_eq_true rfl) d_sd_least_17 ⟨by decide, by decide⟩ (fun _ => ?_)
      refine lv_aload_n hx hb d_sd_least_20 rfl (lv_at hl 0 rfl) ?_
      refine lv_iload_n hx hb d_sd_least_21 rfl (lv_at hl 1 rfl) ?_
      refine lv_iconst (v := nI 0) hx hb d_sd_least_22 (by decide) ?_
      exact tv_leave (Cr := "ShareDesk") hx hb hml hown hg (t_sd_ready1 l htr D tys x qw qs qo s.heap.size n W v (nI 0) (by omega)) ⟨k_127, k_129, ks_2, k_1, k_130⟩ n_sd_ready ⟨by decide, by decide, by decide, by decide⟩ gX_blind (gX_pre hK hP hD hxs) (va_recv (q0 := 0) (ci := 0) hK hP rfl rfl) hl.1 rfl (Nat.le_of_ble_eq_true rfl) d_sd_least_23 hlk hno
set_option maxRecDepth 10000 in
set_option maxHeartbeats 4000000 in
theorem t_sd_least2 (l : Launch) (htr : l.stackTraces = false) (D : va_G) (tys : List (ClassId × FieldType)) (x qw qs qo sz n d k pp : Nat) (hn8 : n ≤ 8) (hd : d < 3) (hk : k < 2 ^ 31) (hp : pp < n) : MetT l y_sd_least w_sd_least (rL 8 1 6) (va_Pc [.ref x, .int (nI d), .int (nI k), .int (nI pp)] (gX D tys [oD x qw qs qo (nI n) (nI 0)] sz)) sISE := by
  refine MetT.ofW (cc := b_sd_least) (maxL := 10) (ret := (some .int)) (by decide) rfl ?_
  intro p e s m args below meth c s₁ B hml hv
  obtain ⟨rfl, ⟨hsz, hP, hK, hD0⟩, hxs⟩ := hv
  have hx := B.exec
  have hb := B.bytes
  have hr := B.returns
  have hts := atoms_spec (ws := w_sd_least) B.pre
  have hg : ∀ w ∈ gws, w.before ([.ref x, .int (nI d), .int (nI k), .int (nI pp)] : List Value).toArray s = true := fun w hw => hts w (List.mem_cons_of_mem _ hw)
  have hown : s.vm.findClass "ShareDesk" = some m.cls := findClass_of_methodNamed B.named
  have hlk := B.notSynchronized
  have hno := B.noHandlers (hts _ List.mem_cons_self)
  subst hsz
  have hD := hD0
  have hP : va_P D cls2 [oD x qw qs qo (nI n) (nI 0)] s.heap := hP
  have hl := lv_entry ([.ref x, .int (nI d), .int (nI k), .int (nI pp)]) (n := 10) (Nat.le_of_ble_eq_true rfl)
  rw [lg_entry_eq]
  generalize (lg_sl ([.ref x, .int (nI d), .int (nI k), .int (nI pp)]) ++ List.replicate (10 - (lg_sl ([.ref x, .int (nI d), .int (nI k), .int (nI pp)])).length) Slot.unset).toArray = ls at hl ⊢
  have hl : lv_has ls 10 [(0, .ref x), (1, .int (nI d)), (2, .int (nI k)), (3, .int (nI pp))] := hl
  refine lv_aload_n hx hb d_sd_least_0 rfl (lv_at hl 0 rfl) ?_
  refine lv_iload_n hx hb d_sd_least_1 rfl (lv_at hl 3 rfl) ?_
  refine pv_i (C := "ShareDesk") hx hb hml hown hg (c_sd_is l D tys x qw qs qo s.heap.size n (nI 0) (nI pp)) ⟨k_114, k_116, ks_1, k_1, k_117⟩ n_sd_is ⟨rfl, rfl, by decide, by decide⟩ hK (hP.sub [0] rfl) (hD.sub [0] rfl rfl) (va_recv (q0 := 0) (ci := 0) hK hP rfl rfl) hl.1 rfl (Nat.le_of_ble_eq_true rfl) d_sd_least_2 ⟨by decide, by decide⟩ (fun ri hi => ?_)
  obtain rfl : ri = nI 1 := hi.1 ⟨nI_pos (by omega), fun z => absurd ((nI_leI (by omega) (by omega)).mp z) (by omega)⟩
  refine xz_eq (tgt := 16) hx hb d_sd_least_5 (by decide) (by omega) (fun hc => ?_) (fun hc => ?_)
  · exact absurd hc (by decide)
  · refine lv_iload_n hx hb d_sd_least_8 rfl (lv_at hl 2 rfl) ?_
    refine xz_lt (tgt := 16) hx hb d_sd_least_9 (by decide) (by omega) ?_
    refine lv_iconst (v := nI 1) hx hb d_sd_least_12 (by decide) ?_
    refine lv_goto (tgt := 17) hx hb d_sd_least_13 (by decide) ?_
    refine ps_v hx hb hml hown hg (c_sd_good l) ⟨k_42, k_43, k_1, k_44⟩ n_sd_good ⟨rfl, rfl, by decide, by decide⟩ hl.1 rfl (Nat.le_of_ble_eq_true rfl) d_sd_least_17 ⟨by decide, by decide⟩ (fun _ => ?_)
    refine lv_aload_n hx hb d_sd_least_20 rfl (lv_at hl 0 rfl) ?_
    refine lv_iload_n hx hb d_sd_least_21 rfl (lv_at hl 1 rfl) ?_
    refine lv_iconst (v := nI 0) hx hb d_sd_least_22 (by decide) ?_
    exact tv_leave (Cr := "ShareDesk") hx hb hml hown hg (t_sd_ready2 l htr D tys x qw qs qo s.heap.size n d 0 hd (by decide)) ⟨k_127, k_129, ks_2, k_1, k_130⟩ n_sd_ready ⟨by decide, by decide, by decide, by decide⟩ gX_blind (gX_pre hK hP hD hxs) (va_recv (q0 := 0) (ci := 0) hK hP rfl rfl) hl.1 rfl (Nat.le_of_ble_eq_true rfl) d_sd_least_23 hlk hno
end
section
/-! ShareDeskModel: parts, one, give -/
theorem pu_pk_oneT {g : Nat → Bool} {r : Nat → Nat} {i : Nat} (hg : g i = true) : pu_pk g r (i + 1) = pu_pk g r i := by
  rw [pu_pk]
  cases pu_pk g r i with
  | none => simp only [if_pos hg]
  | some b => simp only [hg, Bool.true_eq_false, false_and, if_false]
theorem pu_pk_oneN {g : Nat → Bool} {r : Nat → Nat} {i : Nat} (hg : g i = false) (h : pu_pk g r i = none) : pu_pk g r (i + 1) = some i := by
  rw [pu_pk, h]; simp only [hg, Bool.false_eq_true, if_false]
theorem pu_pk_oneL {g : Nat → Bool} {r : Nat → Nat} {i b : Nat} (h : pu_pk g r i = some b) (hle : r i ≤ r b) : pu_pk g r (i + 1) = some b := by
  rw [pu_pk, h]
  show (if _ then _ else _) = _
  rw [if_neg (fun q => by have := q.2; omega)]
theorem pu_pk_oneS {g : Nat → Bool} {r : Nat → Nat} {i b : Nat} (hg : g i = false) (h : pu_pk g r i = some b) (hlt : r b < r i) : pu_pk g r (i + 1) = some i := by
  rw [pu_pk, h]
  show (if _ then _ else _) = _
  rw [if_pos ⟨hg, hlt⟩]
section MPT
variable {p : Program} {l : Launch} {e : Env} {R : Room} {s : State} {m : MethodId} {args : Array Value} {below : List Frame} {meth : Method} {c : Code} {cells slots : Nat} {Q : State → Prop}
variable {D : va_G} {A : Nat → Prop} {x mw ms mk mg n mm d : Nat} {er : Int32} {cJ cZ : ClassId} {gw : Nat → Int64} {w : Nat → Nat}
set_option maxRecDepth 10000 in
set_option maxHeartbeats 4000000 in
theorem lp_parts1 (hx : p.tables.exec = Jvm.exec) (hb : c.code = b_sm_parts) (hg : ∀ w ∈ gws, w.before args s = true) (hown : s.vm.findClass "ShareDeskModel" = some m.cls) (hK : va_K D cls2 [(cJ, .long), (cZ, .boolean)] s) (hn1 : 1 ≤ n) (hn8 : n ≤ 8) (hw : ∀ q, w q ≤ 100000) (hgw : ∀ q, q < 8 → gw q = lN (w q)) (hW : 0 < pu_sum w n) (hm : mm ≤ 10000)
    (kk : ∀ (H : Heap) (locs : List Loc) (ls : Array Slot) (gs : Nat → Int64) (gg : Nat → Int32), (∀ q, q < n → gs q = lN ((pu_b n w mm) q)) → (∀ q, q < n → gg q = nI 0) → va_P D cls2 [oM x er (nI n) mw ms mk mg, aL mw cJ gw, aL ms cJ gs, aI mg cZ gg] H → va_D A [oM x er (nI n) mw ms mk mg, aL mw cJ gw, aL ms cJ gs, aI mg cZ gg] → va_S A s.heap H locs → lv_has ls 8 [(4, .long (lN (mm - pu_sum (pu_b n w mm) n))), (2, .long (lN (pu_sum w n))), (1, .int (nI mm)), (0, .ref x)] → W p l e R s m args below meth c H locs cells slots Q (F0 m 66 ls [])) :
    ∀ (j i : Nat) (H : Heap) (locs : List Loc) (ls : Array Slot) (gs : Nat → Int64) (gg : Nat → Int32), i + j = n → (∀ q, q < i → gs q = lN ((pu_b n w mm) q)) → (∀ q, q < i → gg q = nI 0) → va_P D cls2 [oM x er (nI n) mw ms mk mg, aL mw cJ gw, aL ms cJ gs, aI mg cZ gg] H → va_D A [oM x er (nI n) mw ms mk mg, aL mw cJ gw, aL ms cJ gs, aI mg cZ gg] → va_S A s.heap H locs → lv_has ls 8 [(6, .int (nI i)), (4, .long (lN (mm - pu_sum (pu_b n w mm) i))), (2, .long (lN (pu_sum w n))), (1, .int (nI mm)), (0, .ref x)] → W p l e R s m args below meth c H locs cells slots Q (F0 m 12 ls []) := by
  have hWb := pu_sum_bd hn8 hw
  intro j
  induction j with
  | zero =>
    intro i H locs ls gs gg hi hgs hgg hP hD hS hl
    refine lv_iload hx hb d_sm_parts_12 (lv_at hl 0 rfl) ?_
    refine lv_aload_n hx hb d_sm_parts_14 rfl (lv_at hl 4 rfl) ?_
    refine sm_get hx hb hg hown hK hP 0 rfl 1 (by decide) k_203 rfl d_sm_parts_15 ?_
    refine xc_ge (tgt := 66) hx hb d_sm_parts_18 (by decide) (by omega) (by omega) (fun hc => ?_) (fun hc => ?_)
    · have : i = n := by omega
      subst this
      exact kk H locs ls gs gg hgs hgg hP hD hS (lv_sub hl [1, 2, 3, 4] rfl)
    · exact absurd hc (by omega)
  | succ j ih =>
    intro i H locs ls gs gg hi hgs hgg hP hD hS hl
    refine lv_iload hx hb d_sm_parts_12 (lv_at hl 0 rfl) ?_
    refine lv_aload_n hx hb d_sm_parts_14 rfl (lv_at hl 4 rfl) ?_
    refine sm_get hx hb hg hown hK hP 0 rfl 1 (by decide) k_203 rfl d_sm_parts_15 ?_
    refine xc_ge (tgt := 66) hx hb d_sm_parts_18 (by decide) (by omega) (by omega) (fun hc => ?_) (fun hc => ?_)
    · exact absurd hc (by omega)
    · have hwi := hw i
      have hmw := mw_bd hm hwi
      have hq : mm * w i / pu_sum w n ≤ mm * w i := Nat.div_le_self _ _
      have hsum : pu_sum (pu_b n w mm) (i + 1) = pu_sum (pu_b n w mm) i + mm * w i / pu_sum w n := rfl
      have hle := pu_sum_mono (pu_b n w mm) (show i + 1 ≤ n by omega)
      have hle2 := (pu_rests mm hW).1
      refine lv_aload_n hx hb d_sm_parts_21 rfl (lv_at hl 4 rfl) ?_
      refine sm_get hx hb hg hown hK hP 0 rfl 3 (by decide) k_205 rfl d_sm_parts_22 ?_
      refine lv_iload hx hb d_sm_parts_25 (lv_at hl 0 rfl) ?_
      refine lv_iload_n hx hb d_sm_parts_27 rfl (lv_at hl 3 rfl) ?_
      refine lv_i2l (v := lN mm) hx hb d_sm_parts_28 (nI_l (by omega)) ?_
      refine lv_aload_n hx hb d_sm_parts_29 rfl (lv_at hl 4 rfl) ?_
      refine sm_get hx hb hg hown hK hP 0 rfl 2 (by decide) k_204 rfl d_sm_parts_30 ?_
      refine lv_iload hx hb d_sm_parts_33 (lv_at hl 0 rfl) ?_
      refine xa_lald hx hb hK hP 1 0 rfl rfl (by omega) d_sm_parts_35 (v := lN (w i)) (hgw i (by omega)) ?_
      refine lv_lmul hx hb d_sm_parts_36 ?_
      refine xr_l (lN_mul _ _) ?_
      refine lv_lload_n hx hb d_sm_parts_37 rfl (lv_at hl 2 rfl) ?_
      refine lv_ldiv hx hb d_sm_parts_38 (lN_ne0 (by omega) (by omega)) ?_
      refine xr_l (pk_lDiv (by omega) (by omega) (by omega)) ?_
      refine xa_last hx hb hK hP hD hS 2 0 rfl rfl (by omega) d_sm_parts_39 (fun H locs hP hD hS => ?_)
      have hP : va_P D cls2 [oM x er (nI n) mw ms mk mg, aL mw cJ gw, aL ms cJ (vp_updL gs i (lN ((mm * (w i)) / (pu_sum w n)))), aI mg cZ gg] H := hP
      have hD : va_D A [oM x er (nI n) mw ms mk mg, aL mw cJ gw, aL ms cJ (vp_updL gs i (lN ((mm * (w i)) / (pu_sum w n)))), aI mg cZ gg] := hD
      refine lv_lload hx hb d_sm_parts_40 (lv_at hl 1 rfl) ?_
      refine lv_aload_n hx hb d_sm_parts_42 rfl (lv_at hl 4 rfl) ?_
      refine sm_get hx hb hg hown hK hP 0 rfl 3 (by decide) k_205 rfl d_sm_parts_43 ?_
      refine lv_iload hx hb d_sm_parts_46 (lv_at hl 0 rfl) ?_
      refine xa_lald hx hb hK hP 2 0 rfl rfl (by omega) d_sm_parts_48 (v := lN (mm * w i / pu_sum w n)) pk_uLs ?_
      refine lv_lsub hx hb d_sm_parts_49 ?_
      refine xr_l (y := lN (mm - pu_sum (pu_b n w mm) (i + 1))) (by rw [lN_sub (by omega), hsum, Nat.sub_sub]) ?_
      refine lv_lstore (lv' := [(4, .long (lN (mm - pu_sum (pu_b n w mm) (i + 1)))), (6, .int (nI i)), (2, .long (lN (pu_sum w n))), (1, .int (nI mm)), (0, .ref x)]) hx hb d_sm_parts_50 hl (by decide) rfl (fun ls hl => ?_)
      refine lv_aload_n hx hb d_sm_parts_52 rfl (lv_at hl 4 rfl) ?_
      refine sm_get hx hb hg hown hK hP 0 rfl 5 (by decide) k_207 rfl d_sm_parts_53 ?_
      refine lv_iload hx hb d_sm_parts_56 (lv_at hl 1 rfl) ?_
      refine lv_iconst (v := nI 0) hx hb d_sm_parts_58 (by decide) ?_
      refine xa_zast hx hb hK hP hD hS 3 1 rfl rfl (by omega) rfl d_sm_parts_59 (fun H locs hP hD hS => ?_)
      have hP : va_P D cls2 [oM x er (nI n) mw ms mk mg, aL mw cJ gw, aL ms cJ (vp_updL gs i (lN ((mm * (w i)) / (pu_sum w n)))), aI mg cZ (upd gg i (nI 0))] H := hP
      have hD : va_D A [oM x er (nI n) mw ms mk mg, aL mw cJ gw, aL ms cJ (vp_updL gs i (lN ((mm * (w i)) / (pu_sum w n)))), aI mg cZ (upd gg i (nI 0))] := hD
      refine lv_iinc (k := 1) (v := nI (i + 1)) (lv' := [(6, .int (nI (i + 1))), (4, .long (lN (mm - pu_sum (pu_b n w mm) (i + 1)))), (2, .long (lN (pu_sum w n))), (1, .int (nI mm)), (0, .ref x)]) hx hb d_sm_parts_60 hl rfl (xinc _) (by decide) rfl (fun ls hl => ?_)
      refine lv_goto (tgt := 12) hx hb d_sm_parts_63 (by decide) ?_
      refine ih (i + 1) H locs ls _ _ (by omega) (fun q hq2 => ?_) (fun q hq2 => ?_) hP hD hS (lv_sub hl [0, 1, 2, 3, 4] rfl)
      · by_cases e9 : q = i
        · subst e9; exact pk_uLs
        · rw [pk_uLn e9]; exact hgs q (by omega)
      · by_cases e9 : q = i
        · subst e9; exact pk_us
        · rw [pk_un e9]; exact hgg q (by omega)
set_option maxRecDepth 10000 in
set_option maxHeartbeats 4000000 in
theorem lp_parts3 {k : Nat} {g : Nat → Bool} {H : Heap} {locs : List Loc} {gs : Nat → Int64} {gg : Nat → Int32} (hx : p.tables.exec = Jvm.exec) (hb : c.code = b_sm_parts) (hg : ∀ w ∈ gws, w.before args s = true) (hown : s.vm.findClass "ShareDeskModel" = some m.cls) (hK : va_K D cls2 [(cJ, .long), (cZ, .boolean)] s) (hn1 : 1 ≤ n) (hn8 : n ≤ 8) (hw : ∀ q, w q ≤ 100000) (hgw : ∀ q, q < 8 → gw q = lN (w q)) (hW : 0 < pu_sum w n) (hm : mm ≤ 10000) (hgg : ∀ q, q < n → gg q = nI (g q).toNat) (hP : va_P D cls2 [oM x er (nI n) mw ms mk mg, aL mw cJ gw, aL ms cJ gs, aI mg cZ gg] H)
    (kk : ∀ ls : Array Slot, lv_has ls 8 [(6, .int (oneR (pu_pk g (pu_r n w mm) n))), (4, .long (lN k)), (2, .long (lN (pu_sum w n))), (1, .int (nI mm)), (0, .ref x)] → W p l e R s m args below meth c H locs cells slots Q (F0 m 141 ls [])) : ∀ (j i : Nat) (ls : Array Slot), i + j = n → lv_has ls 8 [(7, .int (nI i)), (6, .int (oneR (pu_pk g (pu_r n w mm) i))), (4, .long (lN k)), (2, .long (lN (pu_sum w n))), (1, .int (nI mm)), (0, .ref x)] → W p l e R s m args below meth c H locs cells slots Q (F0 m 79 ls []) := by
  have hWb := pu_sum_bd hn8 hw
  intro j
  induction j with
  | zero =>
    intro i ls hi hl
    refine lv_iload hx hb d_sm_parts_79 (lv_at hl 0 rfl) ?_
    refine lv_aload_n hx hb d_sm_parts_81 rfl (lv_at hl 5 rfl) ?_
    refine sm_get hx hb hg hown hK hP 0 rfl 1 (by decide) k_203 rfl d_sm_parts_82 ?_
    refine xc_ge (tgt := 141) hx hb d_sm_parts_85 (by decide) (by omega) (by omega) (fun hc => ?_) (fun hc => ?_)
    · have : i = n := by omega
      subst this
      exact kk ls (lv_sub hl [1, 2, 3, 4, 5] rfl)
    · exact absurd hc (by omega)
  | succ j ih =>
    intro i ls hi hl
    refine lv_iload hx hb d_sm_parts_79 (lv_at hl 0 rfl) ?_
    refine lv_aload_n hx hb d_sm_parts_81 rfl (lv_at hl 5 rfl) ?_
    refine sm_get hx hb hg hown hK hP 0 rfl 1 (by decide) k_203 rfl d_sm_parts_82 ?_
    refine xc_ge (tgt := 141) hx hb d_sm_parts_85 (by decide) (by omega) (by omega) (fun hc => ?_) (fun hc => ?_)
    · exact absurd hc (by omega)
    · have hwi := hw i
      have hmw := mw_bd hm hwi
      have hgi : (g i).toNat ≤ 1 := Bool.toNat_le _
      refine lv_aload_n hx hb d_sm_parts_88 rfl (lv_at hl 5 rfl) ?_
      refine sm_get hx hb hg hown hK hP 0 rfl 5 (by decide) k_207 rfl d_sm_parts_89 ?_
      refine lv_iload hx hb d_sm_parts_92 (lv_at hl 0 rfl) ?_
      refine xa_zald hx hb hK hP 3 1 rfl rfl (by omega) d_sm_parts_94 (v := nI ((g i).toNat)) (hgg i (by omega)) ?_
      refine xz_ne (tgt := 135) hx hb d_sm_parts_95 (by decide) (by omega) (fun h1 => ?_) (fun h1 => ?_)
      · have hgt : g i = true := by
          cases h9 : g i with
          | true => rfl
          | false => rw [h9] at h1; exact absurd h1 (by decide)
        refine lv_iinc (k := 0) (v := nI (i + 1)) (lv' := [(7, .int (nI (i + 1))), (6, .int (oneR (pu_pk g (pu_r n w mm) i))), (4, .long (lN k)), (2, .long (lN (pu_sum w n))), (1, .int (nI mm)), (0, .ref x)]) hx hb d_sm_parts_135 hl rfl (xinc _) (by decide) rfl (fun ls hl => ?_)
        refine lv_goto (tgt := 79) hx hb d_sm_parts_138 (by decide) ?_
        have hq := pu_pk_oneT (r := (pu_r n w mm)) hgt
        exact ih (i + 1) ls (by omega) (by rw [hq]; exact lv_sub hl [0, 1, 2, 3, 4, 5] rfl)
      · have hgf : g i = false := by
          cases h9 : g i with
          | false => rfl
          | true => rw [h9] at h1; exact absurd h1 (by decide)
        cases hpk : pu_pk g (pu_r n w mm) i with
        | none =>
          rw [hpk] at hl
          refine lv_iload hx hb d_sm_parts_98 (lv_at hl 1 rfl) ?_
          refine lv_if_lt (tgt := 131) hx hb d_sm_parts_100 (by decide) (fun h2 => ?_) (fun h2 => ?_)
          · refine lv_iload hx hb d_sm_parts_131 (lv_at hl 0 rfl) ?_
            refine lv_istore (lv' := [(6, .int (nI i)), (7, .int (nI i)), (4, .long (lN k)), (2, .long (lN (pu_sum w n))), (1, .int (nI mm)), (0, .ref x)]) hx hb d_sm_parts_133 hl (by decide) rfl (fun ls hl => ?_)
            refine lv_iinc (k := 1) (v := nI (i + 1)) (lv' := [(7, .int (nI (i + 1))), (6, .int (nI i)), (4, .long (lN k)), (2, .long (lN (pu_sum w n))), (1, .int (nI mm)), (0, .ref x)]) hx hb d_sm_parts_135 hl rfl (xinc _) (by decide) rfl (fun ls hl => ?_)
            refine lv_goto (tgt := 79) hx hb d_sm_parts_138 (by decide) ?_
            have hq := pu_pk_oneN (r := (pu_r n w mm)) hgf hpk
            exact ih (i + 1) ls (by omega) (by rw [hq]; exact lv_sub hl [0, 1, 2, 3, 4, 5] rfl)
          · exact absurd (show (-1 : Int32) < 0 by decide) h2
        | some b =>
          have hbl := (pu_pk_some hpk).1
          have hwb := hw b
          have hmb := mw_bd hm hwb
          rw [hpk] at hl
          have hl : lv_has ls 8 [(7, .int (nI i)), (6, .int (nI b)), (4, .long (lN k)), (2, .long (lN (pu_sum w n))), (1, .int (nI mm)), (0, .ref x)] := hl
          refine lv_iload hx hb d_sm_parts_98 (lv_at hl 1 rfl) ?_
          refine xz_lt (tgt := 131) hx hb d_sm_parts_100 (by decide) (by omega) ?_
          refine lv_iload_n hx hb d_sm_parts_103 rfl (lv_at hl 4 rfl) ?_
          refine lv_i2l (v := lN mm) hx hb d_sm_parts_104 (nI_l (by omega)) ?_
          refine lv_aload_n hx hb d_sm_parts_105 rfl (lv_at hl 5 rfl) ?_
          refine sm_get hx hb hg hown hK hP 0 rfl 2 (by decide) k_204 rfl d_sm_parts_106 ?_
          refine lv_iload hx hb d_sm_parts_109 (lv_at hl 0 rfl) ?_
          refine xa_lald hx hb hK hP 1 0 rfl rfl (by omega) d_sm_parts_111 (v := lN (w i)) (hgw i (by omega)) ?_
          refine lv_lmul hx hb d_sm_parts_112 ?_
          refine xr_l (lN_mul _ _) ?_
          refine lv_lload_n hx hb d_sm_parts_113 rfl (lv_at hl 3 rfl) ?_
          refine lv_lrem hx hb d_sm_parts_114 (lN_ne0 (by omega) (by omega)) ?_
          refine xr_l (pk_lRem (by omega) (by omega) (by omega)) ?_
          refine lv_iload_n hx hb d_sm_parts_115 rfl (lv_at hl 4 rfl) ?_
          refine lv_i2l (v := lN mm) hx hb d_sm_parts_116 (nI_l (by omega)) ?_
          refine lv_aload_n hx hb d_sm_parts_117 rfl (lv_at hl 5 rfl) ?_
          refine sm_get hx hb hg hown hK hP 0 rfl 2 (by decide) k_204 rfl d_sm_parts_118 ?_
          refine lv_iload hx hb d_sm_parts_121 (lv_at hl 1 rfl) ?_
          refine xa_lald hx hb hK hP 1 0 rfl rfl (by omega) d_sm_parts_123 (v := lN (w b)) (hgw b (by omega)) ?_
          refine lv_lmul hx hb d_sm_parts_124 ?_
          refine xr_l (lN_mul _ _) ?_
          refine lv_lload_n hx hb d_sm_parts_125 rfl (lv_at hl 3 rfl) ?_
          refine lv_lrem hx hb d_sm_parts_126 (lN_ne0 (by omega) (by omega)) ?_
          refine xr_l (pk_lRem (by omega) (by omega) (by omega)) ?_
          have m1 := Nat.mod_lt (mm * w i) hW
          have m2 := Nat.mod_lt (mm * w b) hW
          refine xl_le (tgt := 135) hx hb d_sm_parts_127 d_sm_parts_128 (by decide) (by omega) (by omega) (fun h3 => ?_) (fun h3 => ?_)
          · refine lv_iinc (k := 0) (v := nI (i + 1)) (lv' := [(7, .int (nI (i + 1))), (6, .int (nI b)), (4, .long (lN k)), (2, .long (lN (pu_sum w n))), (1, .int (nI mm)), (0, .ref x)]) hx hb d_sm_parts_135 hl rfl (xinc _) (by decide) rfl (fun ls hl => ?_)
            refine lv_goto (tgt := 79) hx hb d_sm_parts_138 (by decide) ?_
            have hq := pu_pk_oneL (r := (pu_r n w mm)) hpk h3
            exact ih (i + 1) ls (by omega) (by rw [hq]; exact lv_sub hl [0, 1, 2, 3, 4, 5] rfl)
          · refine lv_iload hx hb d_sm_parts_131 (lv_at hl 0 rfl) ?_
            refine lv_istore (lv' := [(6, .int (nI i)), (7, .int (nI i)), (4, .long (lN k)), (2, .long (lN (pu_sum w n))), (1, .int (nI mm)), (0, .ref x)]) hx hb d_sm_parts_133 hl (by decide) rfl (fun ls hl => ?_)
            refine lv_iinc (k := 1) (v := nI (i + 1)) (lv' := [(7, .int (nI (i + 1))), (6, .int (nI i)), (4, .long (lN k)), (2, .long (lN (pu_sum w n))), (1, .int (nI mm)), (0, .ref x)]) hx hb d_sm_parts_135 hl rfl (xinc _) (by decide) rfl (fun ls hl => ?_)
            refine lv_goto (tgt := 79) hx hb d_sm_parts_138 (by decide) ?_
            have hq := pu_pk_oneS (r := (pu_r n w mm)) hgf hpk h3
            exact ih (i + 1) ls (by omega) (by rw [hq]; exact lv_sub hl [0, 1, 2, 3, 4, 5] rfl)
set_option maxRecDepth 10000 in
set_option maxHeartbeats 4000000 in
theorem lp_parts2 (hx : p.tables.exec = Jvm.exec) (hb : c.code = b_sm_parts) (hg : ∀ w ∈ gws, w.before args s = true) (hown : s.vm.findClass "ShareDeskModel" = some m.cls) (hK : va_K D cls2 [(cJ, .long), (cZ, .boolean)] s) (hn1 : 1 ≤ n) (hn8 : n ≤ 8) (hw : ∀ q, w q ≤ 100000) (hgw : ∀ q, q < 8 → gw q = lN (w q)) (hW : 0 < pu_sum w n) (hm : mm ≤ 10000)
    (kk : ∀ (H : Heap) (locs : List Loc) (ls : Array Slot) (gs : Nat → Int64) (gg : Nat → Int32), (∀ q, q < n → gs q = lN (pu_ham n w mm q)) → va_P D cls2 [oM x er (nI n) mw ms mk mg, aL mw cJ gw, aL ms cJ gs, aI mg cZ gg] H → va_D A [oM x er (nI n) mw ms mk mg, aL mw cJ gw, aL ms cJ gs, aI mg cZ gg] → va_S A s.heap H locs → W p l e R s m args below meth c H locs cells slots Q (F0 m 169 ls [])) :
    ∀ (k j : Nat) (H : Heap) (locs : List Loc) (ls : Array Slot) (gs : Nat → Int64) (gg : Nat → Int32), j + k = pu_left n w mm → (∀ q, q < n → gs q = lN ((pu_hs n (pu_r n w mm) (pu_b n w mm) j).1 q)) → (∀ q, q < n → gg q = nI ((pu_hs n (pu_r n w mm) (pu_b n w mm) j).2 q).toNat) → va_P D cls2 [oM x er (nI n) mw ms mk mg, aL mw cJ gw, aL ms cJ gs, aI mg cZ gg] H → va_D A [oM x er (nI n) mw ms mk mg, aL mw cJ gw, aL ms cJ gs, aI mg cZ gg] → va_S A s.heap H locs → lv_has ls 8 [(4, .long (lN k)), (2, .long (lN (pu_sum w n))), (1, .int (nI mm)), (0, .ref x)] → W p l e R s m args below meth c H locs cells slots Q (F0 m 66 ls []) := by
  have hLm : pu_left n w mm ≤ mm := Nat.sub_le _ _
  intro k
  induction k with
  | zero =>
    intro j H locs ls gs gg hj hgs hgg hP hD hS hl
    refine lv_lload hx hb d_sm_parts_66 (lv_at hl 0 rfl) ?_
    refine lv_lconst (v := lN 0) hx hb d_sm_parts_68 (by decide) ?_
    refine xl_le (tgt := 169) hx hb d_sm_parts_69 d_sm_parts_70 (by decide) (by omega) (by omega) (fun hc => ?_) (fun hc => ?_)
    · have : j = pu_left n w mm := by omega
      subst this
      exact kk H locs ls gs gg hgs hP hD hS
    · exact absurd hc (by omega)
  | succ k ih =>
    intro j H locs ls gs gg hj hgs hgg hP hD hS hl
    refine lv_lload hx hb d_sm_parts_66 (lv_at hl 0 rfl) ?_
    refine lv_lconst (v := lN 0) hx hb d_sm_parts_68 (by decide) ?_
    refine xl_le (tgt := 169) hx hb d_sm_parts_69 d_sm_parts_70 (by decide) (by omega) (by omega) (fun hc => ?_) (fun hc => ?_)
    · exact absurd hc (by omega)
    · refine lv_iconst (v := -1) hx hb d_sm_parts_73 (by decide) ?_
      refine lv_istore (lv' := [(6, .int (-1)), (4, .long (lN (k + 1))), (2, .long (lN (pu_sum w n))), (1, .int (nI mm)), (0, .ref x)]) hx hb d_sm_parts_74 hl (by decide) rfl (fun ls hl => ?_)
      refine lv_iconst (v := nI 0) hx hb d_sm_parts_76 (by decide) ?_
      refine lv_istore (lv' := [(7, .int (nI 0)), (6, .int (-1)), (4, .long (lN (k + 1))), (2, .long (lN (pu_sum w n))), (1, .int (nI mm)), (0, .ref x)]) hx hb d_sm_parts_77 hl (by decide) rfl (fun ls hl => ?_)
      refine lp_parts3 (k := k + 1) (g := (pu_hs n (pu_r n w mm) (pu_b n w mm) j).2) hx hb hg hown hK hn1 hn8 hw hgw hW hm hgg hP (fun ls hl => ?_) n 0 ls (by omega) (lv_sub hl [0, 1, 2, 3, 4, 5] rfl)
      obtain ⟨b, hb1, hb2, hb3⟩ := pu_ham_pk mm hW j (by omega)
      rw [hb1] at hl
      have hsb := hgs b hb2
      have hl : lv_has ls 8 [(6, .int (nI b)), (4, .long (lN (k + 1))), (2, .long (lN (pu_sum w n))), (1, .int (nI mm)), (0, .ref x)] := hl
      refine lv_aload_n hx hb d_sm_parts_141 rfl (lv_at hl 4 rfl) ?_
      refine sm_get hx hb hg hown hK hP 0 rfl 5 (by decide) k_207 rfl d_sm_parts_142 ?_
      refine lv_iload hx hb d_sm_parts_145 (lv_at hl 0 rfl) ?_
      refine lv_iconst (v := nI 1) hx hb d_sm_parts_147 (by decide) ?_
      refine xa_zast hx hb hK hP hD hS 3 1 rfl rfl (by omega) rfl d_sm_parts_148 (fun H locs hP hD hS => ?_)
      have hP : va_P D cls2 [oM x er (nI n) mw ms mk mg, aL mw cJ gw, aL ms cJ gs, aI mg cZ (upd gg b (nI 1))] H := hP
      have hD : va_D A [oM x er (nI n) mw ms mk mg, aL mw cJ gw, aL ms cJ gs, aI mg cZ (upd gg b (nI 1))] := hD
      refine lv_aload_n hx hb d_sm_parts_149 rfl (lv_at hl 4 rfl) ?_
      refine sm_get hx hb hg hown hK hP 0 rfl 3 (by decide) k_205 rfl d_sm_parts_150 ?_
      refine lv_iload hx hb d_sm_parts_153 (lv_at hl 0 rfl) ?_
      refine lv_dup2_11 hx hb d_sm_parts_155 rfl rfl ?_
      refine xa_lald hx hb hK hP 2 0 rfl rfl (by omega) d_sm_parts_156 (v := lN ((pu_hs n (pu_r n w mm) (pu_b n w mm) j).1 b)) hsb ?_
      refine lv_lconst (v := lN 1) hx hb d_sm_parts_157 (by decide) ?_
      refine lv_ladd hx hb d_sm_parts_158 ?_
      refine xr_l (lN_add _ _) ?_
      refine xa_last hx hb hK hP hD hS 2 0 rfl rfl (by omega) d_sm_parts_159 (fun H locs hP hD hS => ?_)
      have hP : va_P D cls2 [oM x er (nI n) mw ms mk mg, aL mw cJ gw, aL ms cJ (vp_updL gs b (lN (((pu_hs n (pu_r n w mm) (pu_b n w mm) j).1 b) + 1))), aI mg cZ (upd gg b (nI 1))] H := hP
      have hD : va_D A [oM x er (nI n) mw ms mk mg, aL mw cJ gw, aL ms cJ (vp_updL gs b (lN (((pu_hs n (pu_r n w mm) (pu_b n w mm) j).1 b) + 1))), aI mg cZ (upd gg b (nI 1))] := hD
      refine lv_lload hx hb d_sm_parts_160 (lv_at hl 1 rfl) ?_
      refine lv_lconst (v := lN 1) hx hb d_sm_parts_162 (by decide) ?_
      refine lv_lsub hx hb d_sm_parts_163 ?_
      refine xr_l (lN_sub (by omega)) ?_
      refine lv_lstore (lv' := [(4, .long (lN ((k + 1) - 1))), (6, .int (nI b)), (2, .long (lN (pu_sum w n))), (1, .int (nI mm)), (0, .ref x)]) hx hb d_sm_parts_164 hl (by decide) rfl (fun ls hl => ?_)
      refine lv_goto (tgt := 66) hx hb d_sm_parts_166 (by decide) ?_
      have hs1 := pu_hs_s hb1
      refine ih (j + 1) H locs ls _ _ (by omega) (fun q hq => ?_) (fun q hq => ?_) hP hD hS (lv_sub hl [0, 2, 3, 4] rfl)
      · rw [hs1]
        by_cases e9 : q = b
        · subst e9
          rw [pk_uLs]
          show _ = lN (pu_inc (pu_hs n (pu_r n w mm) (pu_b n w mm) j).1 q q)
          rw [pu_inc, pu_up_s]
        · rw [pk_uLn e9]
          show _ = lN (pu_inc (pu_hs n (pu_r n w mm) (pu_b n w mm) j).1 b q)
          rw [pu_inc, pu_up_n e9]
          exact hgs q hq
      · rw [hs1]
        show _ = nI (pu_up (pu_hs n (pu_r n w mm) (pu_b n w mm) j).2 b true q).toNat
        by_cases e9 : q = b
        · subst e9
          rw [pk_us, pu_up_s]; rfl
        · rw [pk_un e9, pu_up_n e9]
          exact hgg q hq
end MPT
set_option maxRecDepth 10000 in
set_option maxHeartbeats 4000000 in
theorem c_sm_parts (l : Launch) (D : va_G) (cJ cZ : ClassId) (x mw ms mk mg sz n mm : Nat) (er : Int32) (gw gs : Nat → Int64) (gg : Nat → Int32) (w : Nat → Nat) (hn1 : 1 ≤ n) (hn8 : n ≤ 8) (hw : ∀ q, w q ≤ 100000) (hgw : ∀ q, q < 8 → gw q = lN (w q)) (hW : 0 < pu_sum w n) (hm : mm ≤ 10000) : Met l y_sm_parts w_sm_parts (rL 1 0 0) (va_Pc [.ref x, .int (nI mm)] (gP D [(cJ, .long), (cZ, .boolean)] [oM x er (nI n) mw ms mk mg, aL mw cJ gw, aL ms cJ gs, aI mg cZ gg] sz)) (va_Qv (fun u => ∀ q, q < n → u.1 q = lN (pu_ham n w mm q)) (gB D [(cJ, .long), (cZ, .boolean)] (va_A [oM x er (nI n) mw ms mk mg, aL mw cJ gw, aL ms cJ gs, aI mg cZ gg] sz) (fun u : (Nat → Int64) × (Nat → Int32) => [oM x er (nI n) mw ms mk mg, aL mw cJ gw, aL ms cJ u.1, aI mg cZ u.2])) (va_A [oM x er (nI n) mw ms mk mg, aL mw cJ gw, aL ms cJ gs, aI mg cZ gg] sz)) 0 0 (va_A [oM x er (nI n) mw ms mk mg, aL mw cJ gw, aL ms cJ gs, aI mg cZ gg] sz) := by
  refine Met.ofW (cc := b_sm_parts) (maxL := 8) (ret := none) (by decide) rfl ?_
  intro p e s m args below meth c s₁ B hml hv
  obtain ⟨rfl, hsz, hP, hK, hD0⟩ := hv
  have hx := B.exec
  have hb := B.bytes
  have hr := B.returns
  have hts := atoms_spec (ws := w_sm_parts) B.pre
  have hg : ∀ w ∈ gws, w.before ([.ref x, .int (nI mm)] : List Value).toArray s = true := fun w hw => hts w (List.mem_cons_of_mem _ hw)
  have hown : s.vm.findClass "ShareDeskModel" = some m.cls := findClass_of_methodNamed B.named
  have hlk := B.notSynchronized
  subst hsz
  have hD := hD0.self (sz := s.heap.size)
  generalize hAe : va_A [oM x er (nI n) mw ms mk mg, aL mw cJ gw, aL ms cJ gs, aI mg cZ gg] s.heap.size = A at hD ⊢
  have hA : ∀ q : Nat, s.heap.size ≤ q → A q := fun q h => by rw [← hAe]; exact Or.inr h
  have hS : va_S A s.heap s.heap [] := va_S.rf
  have hP : va_P D cls2 [oM x er (nI n) mw ms mk mg, aL mw cJ gw, aL ms cJ gs, aI mg cZ gg] s.heap := hP
  have hl := lv_entry ([.ref x, .int (nI mm)]) (n := 8) (Nat.le_of_ble_eq_true rfl)
  rw [lg_entry_eq]
  generalize (lg_sl ([.ref x, .int (nI mm)]) ++ List.replicate (8 - (lg_sl ([.ref x, .int (nI mm)])).length) Slot.unset).toArray = ls at hl ⊢
  have hl : lv_has ls 8 [(0, .ref x), (1, .int (nI mm))] := hl
  refine lv_aload_n hx hb d_sm_parts_0 rfl (lv_at hl 0 rfl) ?_
  refine pv_l (C := "ShareDeskModel") hx hb hml hown hg (c_sm_all l D cJ cZ x mw ms mk mg s.heap.size n er gw w hn8 hgw) ⟨k_257, k_259, ks_8, k_2, k_260⟩ n_sm_all ⟨rfl, rfl, by decide, by decide⟩ hK (hP.sub [0, 1] rfl) (hD.sub [0, 1] rfl rfl) (va_recv (q0 := 0) (ci := 1) hK hP rfl rfl) hl.1 rfl (Nat.le_of_ble_eq_true rfl) d_sm_parts_1 ⟨by decide, by decide⟩ (fun ra hra => ?_)
  subst hra
  refine lv_lstore_n (lv' := [(2, .long (lN (pu_sum w n))), (0, .ref x), (1, .int (nI mm))]) hx hb d_sm_parts_4 rfl hl (by decide) rfl (fun ls hl => ?_)
  refine lv_iload_n hx hb d_sm_parts_5 rfl (lv_at hl 2 rfl) ?_
  refine lv_i2l (v := lN mm) hx hb d_sm_parts_6 (nI_l (by omega)) ?_
  refine lv_lstore (lv' := [(4, .long (lN mm)), (2, .long (lN (pu_sum w n))), (0, .ref x), (1, .int (nI mm))]) hx hb d_sm_parts_7 hl (by decide) rfl (fun ls hl => ?_)
  refine lv_iconst (v := nI 0) hx hb d_sm_parts_9 (by decide) ?_
  refine lv_istore (lv' := [(6, .int (nI 0)), (4, .long (lN mm)), (2, .long (lN (pu_sum w n))), (0, .ref x), (1, .int (nI mm))]) hx hb d_sm_parts_10 hl (by decide) rfl (fun ls hl => ?_)
  refine lp_parts1 hx hb hg hown hK hn1 hn8 hw hgw hW hm (fun H locs ls gs gg hgs hgg hP hD hS hl => ?_) n 0 _ _ ls gs gg (by omega) (fun q hq => absurd hq (by omega)) (fun q hq => absurd hq (by omega)) hP hD hS (lv_sub hl [0, 1, 2, 4, 3] rfl)
  refine lp_parts2 hx hb hg hown hK hn1 hn8 hw hgw hW hm (fun H locs ls gs gg hgs hP hD hS => ?_) _ 0 _ _ ls gs gg (Nat.zero_add _) hgs hgg hP hD hS hl
  exact en_gv (gs, gg) hx hb hr hlk hgs hP hK hD hS d_sm_parts_169
theorem pu_qm_0 {w s : Nat → Nat} {d i : Nat} (h : w i = 0) : pu_qm w s d (i + 1) = pu_qm w s d i := by
  rw [pu_qm]
  cases pu_qm w s d i with
  | none => simp only [h, Nat.lt_irrefl, if_false]
  | some b => simp only [h, Nat.lt_irrefl, false_and, if_false]
theorem pu_qm_N {w s : Nat → Nat} {d i : Nat} (h : 0 < w i) (hq : pu_qm w s d i = none) : pu_qm w s d (i + 1) = some i := by
  rw [pu_qm, hq]; simp only [if_pos h]
theorem pu_qm_L {w s : Nat → Nat} {d i b : Nat} (hq : pu_qm w s d i = some b) (hle : w i * (d * s b + 1) ≤ w b * (d * s i + 1)) : pu_qm w s d (i + 1) = some b := by
  rw [pu_qm, hq]
  show (if _ then _ else _) = _
  rw [if_neg (fun q => by have := q.2; omega)]
theorem pu_qm_S {w s : Nat → Nat} {d i b : Nat} (h : 0 < w i) (hq : pu_qm w s d i = some b) (hlt : w b * (d * s i + 1) < w i * (d * s b + 1)) : pu_qm w s d (i + 1) = some i := by
  rw [pu_qm, hq]
  show (if _ then _ else _) = _
  rw [if_pos ⟨h, hlt⟩]
section MON
variable {p : Program} {l : Launch} {e : Env} {R : Room} {s : State} {m : MethodId} {args : Array Value} {below : List Frame} {meth : Method} {c : Code} {cells slots : Nat} {Q : State → Prop}
variable {D : va_G} {A : Nat → Prop} {x mw ms mk mg n mm d : Nat} {er : Int32} {cJ cZ : ClassId} {gw : Nat → Int64} {w : Nat → Nat}
variable {sj : Nat → Nat}
set_option maxRecDepth 10000 in
set_option maxHeartbeats 4000000 in
theorem lp_one {H : Heap} {locs : List Loc} {gs : Nat → Int64} (hx : p.tables.exec = Jvm.exec) (hb : c.code = b_sm_one) (hg : ∀ w ∈ gws, w.before args s = true) (hown : s.vm.findClass "ShareDeskModel" = some m.cls) (hK : va_K D cls2 [(cJ, .long), (cZ, .boolean)] s) (hn1 : 1 ≤ n) (hn8 : n ≤ 8) (hw : ∀ q, w q ≤ 100000) (hgw : ∀ q, q < 8 → gw q = lN (w q)) (hW : 0 < pu_sum w n) (hd : d = 1 ∨ d = 2) (hsj : ∀ q, q < n → sj q ≤ 10000) (hgs : ∀ q, q < n → gs q = lN (sj q)) (hP : va_P D cls2 [oM x er (nI n) mw ms mk mg, aL mw cJ gw, aL ms cJ gs] H)
    (kk : ∀ ls : Array Slot, lv_has ls 4 [(2, .int (oneR (pu_qm w sj d n))), (1, .int (nI d)), (0, .ref x)] → W p l e R s m args below meth c H locs cells slots Q (F0 m 75 ls [])) : ∀ (j i : Nat) (ls : Array Slot), i + j = n → lv_has ls 4 [(3, .int (nI i)), (2, .int (oneR (pu_qm w sj d i))), (1, .int (nI d)), (0, .ref x)] → W p l e R s m args below meth c H locs cells slots Q (F0 m 4 ls []) := by
  intro j
  induction j with
  | zero =>
    intro i ls hi hl
    refine lv_iload_n hx hb d_sm_one_4 rfl (lv_at hl 0 rfl) ?_
    refine lv_aload_n hx hb d_sm_one_5 rfl (lv_at hl 3 rfl) ?_
    refine sm_get hx hb hg hown hK hP 0 rfl 1 (by decide) k_203 rfl d_sm_one_6 ?_
    refine xc_ge (tgt := 75) hx hb d_sm_one_9 (by decide) (by omega) (by omega) (fun hc => ?_) (fun hc => ?_)
    · have : i = n := by omega
      subst this
      exact kk ls (lv_sub hl [1, 2, 3] rfl)
    · exact absurd hc (by omega)
  | succ j ih =>
    intro i ls hi hl
    refine lv_iload_n hx hb d_sm_one_4 rfl (lv_at hl 0 rfl) ?_
    refine lv_aload_n hx hb d_sm_one_5 rfl (lv_at hl 3 rfl) ?_
    refine sm_get hx hb hg hown hK hP 0 rfl 1 (by decide) k_203 rfl d_sm_one_6 ?_
    refine xc_ge (tgt := 75) hx hb d_sm_one_9 (by decide) (by omega) (by omega) (fun hc => ?_) (fun hc => ?_)
    · exact absurd hc (by omega)
    · have hwi := hw i
      have hsi := hsj i (by omega)
      have d1 := ds_bd hd hsi
      refine lv_aload_n hx hb d_sm_one_12 rfl (lv_at hl 3 rfl) ?_
      refine sm_get hx hb hg hown hK hP 0 rfl 2 (by decide) k_204 rfl d_sm_one_13 ?_
      refine lv_iload_n hx hb d_sm_one_16 rfl (lv_at hl 0 rfl) ?_
      refine xa_lald hx hb hK hP 1 0 rfl rfl (by omega) d_sm_one_17 (v := lN (w i)) (hgw i (by omega)) ?_
      refine lv_lconst (v := lN 0) hx hb d_sm_one_18 (by decide) ?_
      refine xl_le (tgt := 69) hx hb d_sm_one_19 d_sm_one_20 (by decide) (by omega) (by omega) (fun h1 => ?_) (fun h1 => ?_)
      · refine lv_iinc (k := 0) (v := nI (i + 1)) (lv' := [(3, .int (nI (i + 1))), (2, .int (oneR (pu_qm w sj d i))), (1, .int (nI d)), (0, .ref x)]) hx hb d_sm_one_69 hl rfl (xinc _) (by decide) rfl (fun ls hl => ?_)
        refine lv_goto (tgt := 4) hx hb d_sm_one_72 (by decide) ?_
        have hq := pu_qm_0 (s := sj) (d := d) (show w i = 0 by omega)
        exact ih (i + 1) ls (by omega) (by rw [hq]; exact lv_sub hl [0, 1, 2, 3] rfl)
      · cases hqm : pu_qm w sj d i with
        | none =>
          rw [hqm] at hl
          refine lv_iload_n hx hb d_sm_one_23 rfl (lv_at hl 1 rfl) ?_
          refine lv_if_lt (tgt := 67) hx hb d_sm_one_24 (by decide) (fun h2 => ?_) (fun h2 => ?_)
          · refine lv_iload_n hx hb d_sm_one_67 rfl (lv_at hl 0 rfl) ?_
            refine lv_istore_n (lv' := [(2, .int (nI i)), (3, .int (nI i)), (1, .int (nI d)), (0, .ref x)]) hx hb d_sm_one_68 rfl hl (by decide) rfl (fun ls hl => ?_)
            refine lv_iinc (k := 1) (v := nI (i + 1)) (lv' := [(3, .int (nI (i + 1))), (2, .int (nI i)), (1, .int (nI d)), (0, .ref x)]) hx hb d_sm_one_69 hl rfl (xinc _) (by decide) rfl (fun ls hl => ?_)
            refine lv_goto (tgt := 4) hx hb d_sm_one_72 (by decide) ?_
            have hq := pu_qm_N h1 hqm
            exact ih (i + 1) ls (by omega) (by rw [hq]; exact lv_sub hl [0, 1, 2, 3] rfl)
          · exact absurd (show (-1 : Int32) < 0 by decide) h2
        | some b =>
          have hbl := (pu_qm_some hqm).1
          have hwb := hw b
          have hsb := hsj b (by omega)
          have d2 := ds_bd hd hsb
          have b1 := wds_bd hwi d2
          have b2 := wds_bd hwb d1
          rw [hqm] at hl
          have hl : lv_has ls 4 [(3, .int (nI i)), (2, .int (nI b)), (1, .int (nI d)), (0, .ref x)] := hl
          refine lv_iload_n hx hb d_sm_one_23 rfl (lv_at hl 1 rfl) ?_
          refine xz_lt (tgt := 67) hx hb d_sm_one_24 (by decide) (by omega) ?_
          refine lv_aload_n hx hb d_sm_one_27 rfl (lv_at hl 3 rfl) ?_
          refine sm_get hx hb hg hown hK hP 0 rfl 2 (by decide) k_204 rfl d_sm_one_28 ?_
          refine lv_iload_n hx hb d_sm_one_31 rfl (lv_at hl 0 rfl) ?_
          refine xa_lald hx hb hK hP 1 0 rfl rfl (by omega) d_sm_one_32 (v := lN (w i)) (hgw i (by omega)) ?_
          refine lv_iload_n hx hb d_sm_one_33 rfl (lv_at hl 2 rfl) ?_
          refine lv_i2l (v := lN d) hx hb d_sm_one_34 (nI_l (by omega)) ?_
          refine lv_aload_n hx hb d_sm_one_35 rfl (lv_at hl 3 rfl) ?_
          refine sm_get hx hb hg hown hK hP 0 rfl 3 (by decide) k_205 rfl d_sm_one_36 ?_
          refine lv_iload_n hx hb d_sm_one_39 rfl (lv_at hl 1 rfl) ?_
          refine xa_lald hx hb hK hP 2 0 rfl rfl (by omega) d_sm_one_40 (v := lN (sj b)) (hgs b (by omega)) ?_
          refine lv_lmul hx hb d_sm_one_41 ?_
          refine xr_l (lN_mul _ _) ?_
          refine lv_lconst (v := lN 1) hx hb d_sm_one_42 (by decide) ?_
          refine lv_ladd hx hb d_sm_one_43 ?_
          refine xr_l (lN_add _ _) ?_
          refine lv_lmul hx hb d_sm_one_44 ?_
          refine xr_l (lN_mul _ _) ?_
          refine lv_aload_n hx hb d_sm_one_45 rfl (lv_at hl 3 rfl) ?_
          refine sm_get hx hb hg hown hK hP 0 rfl 2 (by decide) k_204 rfl d_sm_one_46 ?_
          refine lv_iload_n hx hb d_sm_one_49 rfl (lv_at hl 1 rfl) ?_
          refine xa_lald hx hb hK hP 1 0 rfl rfl (by omega) d_sm_one_50 (v := lN (w b)) (hgw b (by omega)) ?_
          refine lv_iload_n hx hb d_sm_one_51 rfl (lv_at hl 2 rfl) ?_
          refine lv_i2l (v := lN d) hx hb d_sm_one_52 (nI_l (by omega)) ?_
          refine lv_aload_n hx hb d_sm_one_53 rfl (lv_at hl 3 rfl) ?_
          refine sm_get hx hb hg hown hK hP 0 rfl 3 (by decide) k_205 rfl d_sm_one_54 ?_
          refine lv_iload_n hx hb d_sm_one_57 rfl (lv_at hl 0 rfl) ?_
          refine xa_lald hx hb hK hP 2 0 rfl rfl (by omega) d_sm_one_58 (v := lN (sj i)) (hgs i (by omega)) ?_
          refine lv_lmul hx hb d_sm_one_59 ?_
          refine xr_l (lN_mul _ _) ?_
          refine lv_lconst (v := lN 1) hx hb d_sm_one_60 (by decide) ?_
          refine lv_ladd hx hb d_sm_one_61 ?_
          refine xr_l (lN_add _ _) ?_
          refine lv_lmul hx hb d_sm_one_62 ?_
          refine xr_l (lN_mul _ _) ?_
          refine xl_le (tgt := 69) hx hb d_sm_one_63 d_sm_one_64 (by decide) (by omega) (by omega) (fun h3 => ?_) (fun h3 => ?_)
          · refine lv_iinc (k := 0) (v := nI (i + 1)) (lv' := [(3, .int (nI (i + 1))), (2, .int (nI b)), (1, .int (nI d)), (0, .ref x)]) hx hb d_sm_one_69 hl rfl (xinc _) (by decide) rfl (fun ls hl => ?_)
            refine lv_goto (tgt := 4) hx hb d_sm_one_72 (by decide) ?_
            have hq := pu_qm_L hqm h3
            exact ih (i + 1) ls (by omega) (by rw [hq]; exact lv_sub hl [0, 1, 2, 3] rfl)
          · refine lv_iload_n hx hb d_sm_one_67 rfl (lv_at hl 0 rfl) ?_
            refine lv_istore_n (lv' := [(2, .int (nI i)), (3, .int (nI i)), (1, .int (nI d)), (0, .ref x)]) hx hb d_sm_one_68 rfl hl (by decide) rfl (fun ls hl => ?_)
            refine lv_iinc (k := 1) (v := nI (i + 1)) (lv' := [(3, .int (nI (i + 1))), (2, .int (nI i)), (1, .int (nI d)), (0, .ref x)]) hx hb d_sm_one_69 hl rfl (xinc _) (by decide) rfl (fun ls hl => ?_)
            refine lv_goto (tgt := 4) hx hb d_sm_one_72 (by decide) ?_
            have hq := pu_qm_S h1 hqm h3
            exact ih (i + 1) ls (by omega) (by rw [hq]; exact lv_sub hl [0, 1, 2, 3] rfl)
end MON
set_option maxRecDepth 10000 in
set_option maxHeartbeats 4000000 in
theorem c_sm_one (l : Launch) (D : va_G) (cJ cZ : ClassId) (x mw ms mk mg sz n d : Nat) (er : Int32) (gw gs : Nat → Int64) (w sj : Nat → Nat) (hn1 : 1 ≤ n) (hn8 : n ≤ 8) (hw : ∀ q, w q ≤ 100000) (hgw : ∀ q, q < 8 → gw q = lN (w q)) (hW : 0 < pu_sum w n) (hd : d = 1 ∨ d = 2) (hsj : ∀ q, q < n → sj q ≤ 10000) (hgs : ∀ q, q < n → gs q = lN (sj q)) : Met l y_sm_one w_sm_one (rL 0 0 0) (va_Pc [.ref x, .int (nI d)] (gP D [(cJ, .long), (cZ, .boolean)] [oM x er (nI n) mw ms mk mg, aL mw cJ gw, aL ms cJ gs] sz)) (va_Qv (fun u => ∀ b, pu_qm w sj d n = some b → ∀ q, q < n → u q = lN (pu_inc sj b q)) (gB D [(cJ, .long), (cZ, .boolean)] (va_A [oM x er (nI n) mw ms mk mg, aL mw cJ gw, aL ms cJ gs] sz) (fun u : Nat → Int64 => [oM x er (nI n) mw ms mk mg, aL mw cJ gw, aL ms cJ u])) (va_A [oM x er (nI n) mw ms mk mg, aL mw cJ gw, aL ms cJ gs] sz)) 0 0 (va_A [oM x er (nI n) mw ms mk mg, aL mw cJ gw, aL ms cJ gs] sz) := by
  refine Met.ofW (cc := b_sm_one) (maxL := 4) (ret := none) (by decide) rfl ?_
  intro p e s m args below meth c s₁ B hml hv
  obtain ⟨rfl, hsz, hP, hK, hD0⟩ := hv
  have hx := B.exec
  have hb := B.bytes
  have hr := B.returns
  have hts := atoms_spec (ws := w_sm_one) B.pre
  have hg : ∀ w ∈ gws, w.before ([.ref x, .int (nI d)] : List Value).toArray s = true := fun w hw => hts w (List.mem_cons_of_mem _ hw)
  have hown : s.vm.findClass "ShareDeskModel" = some m.cls := findClass_of_methodNamed B.named
  have hlk := B.notSynchronized
  subst hsz
  have hD := hD0.self (sz := s.heap.size)
  generalize hAe : va_A [oM x er (nI n) mw ms mk mg, aL mw cJ gw, aL ms cJ gs] s.heap.size = A at hD ⊢
  have hA : ∀ q : Nat, s.heap.size ≤ q → A q := fun q h => by rw [← hAe]; exact Or.inr h
  have hS : va_S A s.heap s.heap [] := va_S.rf
  have hP : va_P D cls2 [oM x er (nI n) mw ms mk mg, aL mw cJ gw, aL ms cJ gs] s.heap := hP
  have hl := lv_entry ([.ref x, .int (nI d)]) (n := 4) (Nat.le_of_ble_eq_true rfl)
  rw [lg_entry_eq]
  generalize (lg_sl ([.ref x, .int (nI d)]) ++ List.replicate (4 - (lg_sl ([.ref x, .int (nI d)])).length) Slot.unset).toArray = ls at hl ⊢
  have hl : lv_has ls 4 [(0, .ref x), (1, .int (nI d))] := hl
  refine lv_iconst (v := -1) hx hb d_sm_one_0 (by decide) ?_
  refine lv_istore_n (lv' := [(2, .int (-1)), (0, .ref x), (1, .int (nI d))]) hx hb d_sm_one_1 rfl hl (by decide) rfl (fun ls hl => ?_)
  refine lv_iconst (v := nI 0) hx hb d_sm_one_2 (by decide) ?_
  refine lv_istore_n (lv' := [(3, .int (nI 0)), (2, .int (-1)), (0, .ref x), (1, .int (nI d))]) hx hb d_sm_one_3 rfl hl (by decide) rfl (fun ls hl => ?_)
  refine lp_one hx hb hg hown hK hn1 hn8 hw hgw hW hd hsj hgs hP (fun ls hl => ?_) n 0 ls (by omega) (lv_sub hl [0, 1, 3, 2] rfl)
  obtain ⟨b, hb1, hb2⟩ := pu_qm_ex sj d hW
  rw [hb1] at hl
  have hbn := hb2.1
  have hsb := hgs b hbn
  have hl : lv_has ls 4 [(2, .int (nI b)), (1, .int (nI d)), (0, .ref x)] := hl
  refine lv_aload_n hx hb d_sm_one_75 rfl (lv_at hl 2 rfl) ?_
  refine sm_get hx hb hg hown hK hP 0 rfl 3 (by decide) k_205 rfl d_sm_one_76 ?_
  refine lv_iload_n hx hb d_sm_one_79 rfl (lv_at hl 0 rfl) ?_
  refine lv_dup2_11 hx hb d_sm_one_80 rfl rfl ?_
  refine xa_lald hx hb hK hP 2 0 rfl rfl (by omega) d_sm_one_81 (v := lN (sj b)) hsb ?_
  refine lv_lconst (v := lN 1) hx hb d_sm_one_82 (by decide) ?_
  refine lv_ladd hx hb d_sm_one_83 ?_
  refine xr_l (lN_add _ _) ?_
  refine xa_last hx hb hK hP hD hS 2 0 rfl rfl (by omega) d_sm_one_84 (fun H locs hP hD hS => ?_)
  have hP : va_P D cls2 [oM x er (nI n) mw ms mk mg, aL mw cJ gw, aL ms cJ (vp_updL gs b (lN ((sj b) + 1)))] H := hP
  have hD : va_D A [oM x er (nI n) mw ms mk mg, aL mw cJ gw, aL ms cJ (vp_updL gs b (lN ((sj b) + 1)))] := hD
  refine en_gv _ hx hb hr hlk (fun b9 h9 q hq => ?_) hP hK hD hS d_sm_one_85
  rw [hb1] at h9
  cases h9
  by_cases e9 : q = b
  · subst e9; rw [pk_uLs, pu_inc, pu_up_s]
  · rw [pk_uLn e9, pu_inc, pu_up_n e9]; exact hgs q hq
section MGV
variable {p : Program} {l : Launch} {e : Env} {R : Room} {s : State} {m : MethodId} {args : Array Value} {below : List Frame} {meth : Method} {c : Code} {cells slots : Nat} {Q : State → Prop}
variable {D : va_G} {A : Nat → Prop} {x mw ms mk mg n mm d : Nat} {er : Int32} {cJ cZ : ClassId} {gw : Nat → Int64} {w : Nat → Nat}
variable {gg : Nat → Int32}
set_option maxRecDepth 10000 in
set_option maxHeartbeats 4000000 in
theorem lp_give1 (hx : p.tables.exec = Jvm.exec) (hb : c.code = b_sm_give) (hg : ∀ w ∈ gws, w.before args s = true) (hown : s.vm.findClass "ShareDeskModel" = some m.cls) (hK : va_K D cls2 [(cJ, .long), (cZ, .boolean)] s) (hn1 : 1 ≤ n) (hn8 : n ≤ 8) (hw : ∀ q, w q ≤ 100000) (hgw : ∀ q, q < 8 → gw q = lN (w q)) (kk : ∀ (H : Heap) (locs : List Loc) (ls : Array Slot) (gs : Nat → Int64), (∀ q, q < n → gs q = lN 0) → va_P D cls2 [oM x er (nI n) mw ms mk mg, aL mw cJ gw, aL ms cJ gs, aI mg cZ gg] H → va_D A [oM x er (nI n) mw ms mk mg, aL mw cJ gw, aL ms cJ gs, aI mg cZ gg] → va_S A s.heap H locs → lv_has ls 4 [(2, .int (nI mm)), (1, .int (nI d)), (0, .ref x)] → W p l e R s m args below meth c H locs cells slots Q (F0 m 33 ls [])) :
    ∀ (j i : Nat) (H : Heap) (locs : List Loc) (ls : Array Slot) (gs : Nat → Int64), i + j = n → (∀ q, q < i → gs q = lN 0) → va_P D cls2 [oM x er (nI n) mw ms mk mg, aL mw cJ gw, aL ms cJ gs, aI mg cZ gg] H → va_D A [oM x er (nI n) mw ms mk mg, aL mw cJ gw, aL ms cJ gs, aI mg cZ gg] → va_S A s.heap H locs → lv_has ls 4 [(3, .int (nI i)), (2, .int (nI mm)), (1, .int (nI d)), (0, .ref x)] → W p l e R s m args below meth c H locs cells slots Q (F0 m 12 ls []) := by
  intro j
  induction j with
  | zero =>
    intro i H locs ls gs hi hgs hP hD hS hl
    refine lv_iload_n hx hb d_sm_give_12 rfl (lv_at hl 0 rfl) ?_
    refine lv_aload_n hx hb d_sm_give_13 rfl (lv_at hl 3 rfl) ?_
    refine sm_get hx hb hg hown hK hP 0 rfl 1 (by decide) k_203 rfl d_sm_give_14 ?_
    refine xc_ge (tgt := 33) hx hb d_sm_give_17 (by decide) (by omega) (by omega) (fun hc => ?_) (fun hc => ?_)
    · have : i = n := by omega
      subst this
      exact kk H locs ls gs hgs hP hD hS (lv_sub hl [1, 2, 3] rfl)
    · exact absurd hc (by omega)
  | succ j ih =>
    intro i H locs ls gs hi hgs hP hD hS hl
    refine lv_iload_n hx hb d_sm_give_12 rfl (lv_at hl 0 rfl) ?_
    refine lv_aload_n hx hb d_sm_give_13 rfl (lv_at hl 3 rfl) ?_
    refine sm_get hx hb hg hown hK hP 0 rfl 1 (by decide) k_203 rfl d_sm_give_14 ?_
    refine xc_ge (tgt := 33) hx hb d_sm_give_17 (by decide) (by omega) (by omega) (fun hc => ?_) (fun hc => ?_)
    · exact absurd hc (by omega)
    · refine lv_aload_n hx hb d_sm_give_20 rfl (lv_at hl 3 rfl) ?_
      refine sm_get hx hb hg hown hK hP 0 rfl 3 (by decide) k_205 rfl d_sm_give_21 ?_
      refine lv_iload_n hx hb d_sm_give_24 rfl (lv_at hl 0 rfl) ?_
      refine lv_lconst (v := lN 0) hx hb d_sm_give_25 (by decide) ?_
      refine xa_last hx hb hK hP hD hS 2 0 rfl rfl (by omega) d_sm_give_26 (fun H locs hP hD hS => ?_)
      have hP : va_P D cls2 [oM x er (nI n) mw ms mk mg, aL mw cJ gw, aL ms cJ (vp_updL gs i (lN 0)), aI mg cZ gg] H := hP
      have hD : va_D A [oM x er (nI n) mw ms mk mg, aL mw cJ gw, aL ms cJ (vp_updL gs i (lN 0)), aI mg cZ gg] := hD
      refine lv_iinc (k := 0) (v := nI (i + 1)) (lv' := [(3, .int (nI (i + 1))), (2, .int (nI mm)), (1, .int (nI d)), (0, .ref x)]) hx hb d_sm_give_27 hl rfl (xinc _) (by decide) rfl (fun ls hl => ?_)
      refine lv_goto (tgt := 12) hx hb d_sm_give_30 (by decide) ?_
      refine ih (i + 1) H locs ls _ (by omega) (fun q hq2 => ?_) hP hD hS (lv_sub hl [0, 1, 2, 3] rfl)
      by_cases e9 : q = i
      · subst e9; exact pk_uLs
      · rw [pk_uLn e9]; exact hgs q (by omega)
set_option maxRecDepth 10000 in
set_option maxHeartbeats 4000000 in
theorem lp_give2 (hx : p.tables.exec = Jvm.exec) (hb : c.code = b_sm_give) (hg : ∀ w ∈ gws, w.before args s = true) (hown : s.vm.findClass "ShareDeskModel" = some m.cls) (hK : va_K D cls2 [(cJ, .long), (cZ, .boolean)] s) (hml : c.maxLocals = 4) (hA : ∀ q, s.heap.size ≤ q → A q) (hn1 : 1 ≤ n) (hn8 : n ≤ 8) (hw : ∀ q, w q ≤ 100000) (hgw : ∀ q, q < 8 → gw q = lN (w q)) (hW : 0 < pu_sum w n) (hd : d = 1 ∨ d = 2) (hm : mm ≤ 10000) (kk : ∀ (H : Heap) (locs : List Loc) (ls : Array Slot) (gs : Nat → Int64), (∀ q, q < n → gs q = lN (pu_G n w d mm q)) → va_P D cls2 [oM x er (nI n) mw ms mk mg, aL mw cJ gw, aL ms cJ gs, aI mg cZ gg] H → va_D A [oM x er (nI n) mw ms mk mg, aL mw cJ gw, aL ms cJ gs, aI mg cZ gg] → va_S A s.heap H locs → W p l e (rL 2 0 0) s m args below meth c H locs 0 0 Q (F0 m 51 ls [])) :
    ∀ (j i : Nat) (H : Heap) (locs : List Loc) (ls : Array Slot) (gs : Nat → Int64), i + j = mm → (∀ q, q < n → gs q = lN (pu_G n w d i q)) → va_P D cls2 [oM x er (nI n) mw ms mk mg, aL mw cJ gw, aL ms cJ gs, aI mg cZ gg] H → va_D A [oM x er (nI n) mw ms mk mg, aL mw cJ gw, aL ms cJ gs, aI mg cZ gg] → va_S A s.heap H locs → lv_has ls 4 [(3, .int (nI i)), (2, .int (nI mm)), (1, .int (nI d)), (0, .ref x)] → W p l e (rL 2 0 0) s m args below meth c H locs 0 0 Q (F0 m 35 ls []) := by
  intro j
  induction j with
  | zero =>
    intro i H locs ls gs hi hgs hP hD hS hl
    refine lv_iload_n hx hb d_sm_give_35 rfl (lv_at hl 0 rfl) ?_
    refine lv_iload_n hx hb d_sm_give_36 rfl (lv_at hl 1 rfl) ?_
    refine xc_ge (tgt := 51) hx hb d_sm_give_37 (by decide) (by omega) (by omega) (fun hc => ?_) (fun hc => ?_)
    · have : i = mm := by omega
      subst this
      exact kk H locs ls gs hgs hP hD hS
    · exact absurd hc (by omega)
  | succ j ih =>
    intro i H locs ls gs hi hgs hP hD hS hl
    refine lv_iload_n hx hb d_sm_give_35 rfl (lv_at hl 0 rfl) ?_
    refine lv_iload_n hx hb d_sm_give_36 rfl (lv_at hl 1 rfl) ?_
    refine xc_ge (tgt := 51) hx hb d_sm_give_37 (by decide) (by omega) (by omega) (fun hc => ?_) (fun hc => ?_)
    · exact absurd hc (by omega)
    · refine lv_aload_n hx hb d_sm_give_40 rfl (lv_at hl 3 rfl) ?_
      refine lv_iload_n hx hb d_sm_give_41 rfl (lv_at hl 2 rfl) ?_
      refine ev_v (C := "ShareDeskModel") hx hb hml hown hg (c_sm_one l D cJ cZ x mw ms mk mg H.size n d er gw gs w (pu_G n w d i) hn1 hn8 hw hgw hW hd (fun q hq => Nat.le_trans (pu_G_le hW hq) (by omega)) hgs) ⟨k_269, k_271, ks_11, k_2, k_272⟩ n_sm_one ⟨rfl, rfl, by decide, by decide⟩ hK hP hD hS hA [0, 1, 2] [3] rfl rfl (wr := [aI mg cZ gg]) rfl rfl (by decide) (va_recv (q0 := 0) (ci := 1) hK hP rfl rfl) hl.1 rfl (Nat.le_of_ble_eq_true rfl) d_sm_give_42 ⟨by decide, by decide⟩ (fun u H locs hu hP hD hS => ?_)
      have hP : va_P D cls2 [oM x er (nI n) mw ms mk mg, aL mw cJ gw, aL ms cJ u, aI mg cZ gg] H := hP.sub [1, 2, 3, 0] rfl
      have hD : va_D A [oM x er (nI n) mw ms mk mg, aL mw cJ gw, aL ms cJ u, aI mg cZ gg] := hD.sub [1, 2, 3, 0] rfl rfl
      obtain ⟨b, hb1, hb2⟩ := pu_qm_ex (pu_G n w d i) d hW
      refine lv_iinc (k := 0) (v := nI (i + 1)) (lv' := [(3, .int (nI (i + 1))), (2, .int (nI mm)), (1, .int (nI d)), (0, .ref x)]) hx hb d_sm_give_45 hl rfl (xinc _) (by decide) rfl (fun ls hl => ?_)
      refine lv_goto (tgt := 35) hx hb d_sm_give_48 (by decide) ?_
      exact ih (i + 1) H locs ls u (by omega) (fun q hq => by rw [hu b hb1 q hq, show pu_G n w d (i + 1) = pu_inc (pu_G n w d i) b from pu_gs_s hb1]) hP hD hS (lv_sub hl [0, 1, 2, 3] rfl)
end MGV
set_option maxRecDepth 10000 in
set_option maxHeartbeats 4000000 in
theorem c_sm_give (l : Launch) (D : va_G) (cJ cZ : ClassId) (x mw ms mk mg sz n d mm : Nat) (er : Int32) (gw gs : Nat → Int64) (gg : Nat → Int32) (w : Nat → Nat) (hn1 : 1 ≤ n) (hn8 : n ≤ 8) (hw : ∀ q, w q ≤ 100000) (hgw : ∀ q, q < 8 → gw q = lN (w q)) (hW : 0 < pu_sum w n) (hd : d < 3) (hm : mm ≤ 10000) : Met l y_sm_give w_sm_give (rL 2 0 0) (va_Pc [.ref x, .int (nI d), .int (nI mm)] (gP D [(cJ, .long), (cZ, .boolean)] [oM x er (nI n) mw ms mk mg, aL mw cJ gw, aL ms cJ gs, aI mg cZ gg] sz)) (va_Qv (fun u => ∀ q, q < n → u.1 q = lN (pu_sh n w d mm q)) (gB D [(cJ, .long), (cZ, .boolean)] (va_A [oM x er (nI n) mw ms mk mg, aL mw cJ gw, aL ms cJ gs, aI mg cZ gg] sz) (fun u : (Nat → Int64) × (Nat → Int32) => [oM x er (nI n) mw ms mk mg, aL mw cJ gw, aL ms cJ u.1, aI mg cZ u.2])) (va_A [oM x er (nI n) mw ms mk mg, aL mw cJ gw, aL ms cJ gs, aI mg cZ gg] sz)) 0 0 (va_A [oM x er (nI n) mw ms mk mg, aL mw cJ gw, aL ms cJ gs, aI mg cZ gg] sz) := by
  refine Met.ofW (cc := b_sm_give) (maxL := 4) (ret := none) (by decide) rfl ?_
  intro p e s m args below meth c s₁ B hml hv
  obtain ⟨rfl, hsz, hP, hK, hD0⟩ := hv
  have hx := B.exec
  have hb := B.bytes
  have hr := B.returns
  have hts := atoms_spec (ws := w_sm_give) B.pre
  have hg : ∀ w ∈ gws, w.before ([.ref x, .int (nI d), .int (nI mm)] : List Value).toArray s = true := fun w hw => hts w (List.mem_cons_of_mem _ hw)
  have hown : s.vm.findClass "ShareDeskModel" = some m.cls := findClass_of_methodNamed B.named
  have hlk := B.notSynchronized
  subst hsz
  have hD := hD0.self (sz := s.heap.size)
  generalize hAe : va_A [oM x er (nI n) mw ms mk mg, aL mw cJ gw, aL ms cJ gs, aI mg cZ gg] s.heap.size = A at hD ⊢
  have hA : ∀ q : Nat, s.heap.size ≤ q → A q := fun q h => by rw [← hAe]; exact Or.inr h
  have hS : va_S A s.heap s.heap [] := va_S.rf
  have hP : va_P D cls2 [oM x er (nI n) mw ms mk mg, aL mw cJ gw, aL ms cJ gs, aI mg cZ gg] s.heap := hP
  have hl := lv_entry ([.ref x, .int (nI d), .int (nI mm)]) (n := 4) (Nat.le_of_ble_eq_true rfl)
  rw [lg_entry_eq]
  generalize (lg_sl ([.ref x, .int (nI d), .int (nI mm)]) ++ List.replicate (4 - (lg_sl ([.ref x, .int (nI d), .int (nI mm)])).length) Slot.unset).toArray = ls at hl ⊢
  have hl : lv_has ls 4 [(0, .ref x), (1, .int (nI d)), (2, .int (nI mm))] := hl
  refine lv_iload_n hx hb d_sm_give_0 rfl (lv_at hl 1 rfl) ?_
  refine xz_ne (tgt := 10) hx hb d_sm_give_1 (by decide) (by omega) (fun h1 => ?_) (fun h1 => ?_)
  · refine lv_iconst (v := nI 0) hx hb d_sm_give_10 (by decide) ?_
    refine lv_istore_n (lv' := [(3, .int (nI 0)), (0, .ref x), (1, .int (nI d)), (2, .int (nI mm))]) hx hb d_sm_give_11 rfl hl (by decide) rfl (fun ls hl => ?_)
    refine lp_give1 hx hb hg hown hK hn1 hn8 hw hgw (fun H locs ls gs hgs hP hD hS hl => ?_) n 0 _ _ ls gs (by omega) (fun q hq => absurd hq (by omega)) hP hD hS (lv_sub hl [0, 3, 2, 1] rfl)
    refine lv_iconst (v := nI 0) hx hb d_sm_give_33 (by decide) ?_
    refine lv_istore_n (lv' := [(3, .int (nI 0)), (2, .int (nI mm)), (1, .int (nI d)), (0, .ref x)]) hx hb d_sm_give_34 rfl hl (by decide) rfl (fun ls hl => ?_)
    refine lp_give2 hx hb hg hown hK hml hA hn1 hn8 hw hgw hW (by omega) hm (fun H locs ls gs hgs hP hD hS => ?_) mm 0 _ _ ls gs (by omega) hgs hP hD hS (lv_sub hl [0, 1, 2, 3] rfl)
    exact en_gv (gs, gg) hx hb hr hlk (fun q hq => by rw [pu_sh, if_neg (by omega)]; exact hgs q hq) hP hK hD hS d_sm_give_51
  · refine lv_aload_n hx hb d_sm_give_4 rfl (lv_at hl 0 rfl) ?_
    refine lv_iload_n hx hb d_sm_give_5 rfl (lv_at hl 2 rfl) ?_
    refine ev_v (C := "ShareDeskModel") hx hb hml hown hg (c_sm_parts l D cJ cZ x mw ms mk mg s.heap.size n mm er gw gs gg w hn1 hn8 hw hgw hW hm) ⟨k_265, k_267, ks_10, k_2, k_268⟩ n_sm_parts ⟨rfl, rfl, by decide, by decide⟩ hK hP hD hS hA [0, 1, 2, 3] [] rfl rfl (wr := []) rfl rfl (by decide) (va_recv (q0 := 0) (ci := 1) hK hP rfl rfl) hl.1 rfl (Nat.le_of_ble_eq_true rfl) d_sm_give_6 ⟨by decide, by decide⟩ (fun u H locs hu hP hD hS => ?_)
    have hP : va_P D cls2 [oM x er (nI n) mw ms mk mg, aL mw cJ gw, aL ms cJ u.1, aI mg cZ u.2] H := hP.sub [0, 1, 2, 3] rfl
    have hD : va_D A [oM x er (nI n) mw ms mk mg, aL mw cJ gw, aL ms cJ u.1, aI mg cZ u.2] := hD.sub [0, 1, 2, 3] rfl rfl
    exact en_gv u hx hb hr hlk (fun q hq => by rw [hu q hq, h1, pu_sh0]) hP hK hD hS d_sm_give_9
end
section
/-! ShareDeskModel: what the law calls -/
theorem qIn_nat {d a b : Nat} {r : Int32} (h : qIn (nI d) a b r) (ha : a ≤ d) (hb : d ≤ b) (hd : d < 2 ^ 31) : r = nI 1 := h.1 (by rw [nI_toInt hd]; omega)
theorem in_nat {v a b : Nat} {r : Int32} (h : (lN a ≤ lN v ∧ lN v ≤ lN b → r = nI 1) ∧ (lN v < lN a ∨ lN b < lN v → r = nI 0)) (ha : a ≤ v) (hb : v ≤ b) (hbb : b < 2 ^ 31) : r = nI 1 := h.1 ⟨(pk_lLE (by omega) (by omega)).mpr ha, (pk_lLE (by omega) (by omega)).mpr hb⟩
theorem nI1_ne : ¬ nI 1 = 0 := by decide
section XLL
variable {p : Program} {l : Launch} {e : Env} {R : Room} {s : State} {m : MethodId} {args : Array Value} {below : List Frame} {meth : Method} {c : Code} {H : Heap} {locs : List Loc} {cells slots : Nat} {Q : State → Prop}
variable {cc : ByteArray} {pc : Nat} {ls : Array Slot} {rest : List Value}
theorem xl_lt (hx : p.tables.exec = Jvm.exec) (hb : c.code = cc) {a b : Nat} {off : Int} {tgt : Nat} (hd1 : decode cc pc = .ok (.lcmp, 1)) (hdg : decode cc (pc + 1) = .ok (.ifCond .lt off, 3)) (ht : ((pc + 1 : Nat) : Int) + off = (tgt : Int)) (ha : a < 2 ^ 63) (hb' : b < 2 ^ 63)
    (kt : a < b → W p l e R s m args below meth c H locs cells slots Q (F0 m tgt ls rest)) (kf : b ≤ a → W p l e R s m args below meth c H locs cells slots Q (F0 m (pc + 1 + 3) ls rest)) : W p l e R s m args below meth c H locs cells slots Q (F0 m pc ls (.long (lN b) :: .long (lN a) :: rest)) :=
  W.lcmp hx hb hd1 (lv_if_lt hx hb hdg ht (fun h => kt ((pk_lLT ha hb').mp ((lg_cmp_lt _ _).mp h))) (fun h => kf (Nat.le_of_not_lt (fun q => h ((lg_cmp_lt _ _).mpr ((pk_lLT ha hb').mpr q))))))
end XLL
theorem oneR_ge {o : Option Nat} (h : 0 ≤ oneR o) : o.isSome = true := by
  cases o with
  | none => exact absurd h (by decide)
  | some p => rfl
theorem oneR_lt {o : Option Nat} (ho : ∀ p, o = some p → p < 8) (h : ¬ 0 ≤ oneR o) : o = none := by
  cases o with
  | none => rfl
  | some p => exact absurd (nI_pos' (by have := ho p rfl; omega)) h
section MBG
variable {p : Program} {l : Launch} {e : Env} {R : Room} {s : State} {m : MethodId} {args : Array Value} {below : List Frame} {meth : Method} {c : Code} {cells slots : Nat} {Q : State → Prop}
variable {D : va_G} {A : Nat → Prop} {x mw ms mk mg n mm d pp k : Nat} {er : Int32} {cJ cZ : ClassId} {gw : Nat → Int64} {w : Nat → Nat}
set_option maxRecDepth 10000 in
set_option maxHeartbeats 4000000 in
theorem lp_mbegin (hx : p.tables.exec = Jvm.exec) (hb : c.code = b_sm_begin) (hg : ∀ w ∈ gws, w.before args s = true) (hown : s.vm.findClass "ShareDeskModel" = some m.cls) (hK : va_K D cls2 [(cJ, .long), (cZ, .boolean)] s) (kk : ∀ (H : Heap) (locs : List Loc) (ls : Array Slot) (gt : Nat → Int64), (∀ q, q < 8 → gt q = lN 0) → va_P D cls2 [oM x (nI 0) (nI k) mw ms mk mg, aL mw cJ gt] H → va_D A [oM x (nI 0) (nI k) mw ms mk mg, aL mw cJ gt] → va_S A s.heap H locs → W p l e R s m args below meth c H locs cells slots Q (F0 m 57 ls [])) : ∀ (j i : Nat) (H : Heap) (locs : List Loc) (ls : Array Slot) (gt : Nat → Int64), i + j = 8 → (∀ q, q < i → gt q = lN 0) → va_P D cls2 [oM x (nI 0) (nI k) mw ms mk mg, aL mw cJ gt] H → va_D A [oM x (nI 0) (nI k) mw ms mk mg, aL mw cJ gt] → va_S A s.heap H locs → lv_has ls 3 [(2, .int (nI i)), (0, .ref x)] → W p l e R s m args below meth c H locs cells slots Q (F0 m 38 ls []) := by
  intro j
  induction j with
  | zero =>
    intro i H locs ls gt hi hgt hP hD hS hl
    refine lv_iload_n hx hb d_sm_begin_38 rfl (lv_at hl 0 rfl) ?_
    refine lv_bipush (v := nI 8) hx hb d_sm_begin_39 (by decide) ?_
    refine xc_ge (tgt := 57) hx hb d_sm_begin_41 (by decide) (by omega) (by omega) (fun hc => ?_) (fun hc => ?_)
    · have : i = 8 := by omega
      subst this
      exact kk H locs ls gt hgt hP hD hS
    · exact absurd hc (by omega)
  | succ j ih =>
    intro i H locs ls gt hi hgt hP hD hS hl
    refine lv_iload_n hx hb d_sm_begin_38 rfl (lv_at hl 0 rfl) ?_
    refine lv_bipush (v := nI 8) hx hb d_sm_begin_39 (by decide) ?_
    refine xc_ge (tgt := 57) hx hb d_sm_begin_41 (by decide) (by omega) (by omega) (fun hc => ?_) (fun hc => ?_)
    · exact absurd hc (by omega)
    · refine lv_aload_n hx hb d_sm_begin_44 rfl (lv_at hl 1 rfl) ?_
      refine sm_get hx hb hg hown hK hP 0 rfl 2 (by decide) k_204 rfl d_sm_begin_45 ?_
      refine lv_iload_n hx hb d_sm_begin_48 rfl (lv_at hl 0 rfl) ?_
      refine lv_lconst (v := lN 0) hx hb d_sm_begin_49 (by decide) ?_
      refine xa_last hx hb hK hP hD hS 1 0 rfl rfl (by omega) d_sm_begin_50 (fun H locs hP hD hS => ?_)
      have hP : va_P D cls2 [oM x (nI 0) (nI k) mw ms mk mg, aL mw cJ (vp_updL gt i (lN 0))] H := hP
      have hD : va_D A [oM x (nI 0) (nI k) mw ms mk mg, aL mw cJ (vp_updL gt i (lN 0))] := hD
      refine lv_iinc (k := 0) (v := nI (i + 1)) (lv' := [(2, .int (nI (i + 1))), (0, .ref x)]) hx hb d_sm_begin_51 hl rfl (xinc _) (by decide) rfl (fun ls hl => ?_)
      refine lv_goto (tgt := 38) hx hb d_sm_begin_54 (by decide) ?_
      refine ih (i + 1) H locs ls _ (by omega) (fun q hq2 => ?_) hP hD hS (lv_sub hl [0, 1] rfl)
      by_cases e9 : q = i
      · subst e9; exact pk_uLs
      · rw [pk_uLn e9]; exact hgt q (by omega)
end MBG
set_option maxRecDepth 10000 in
set_option maxHeartbeats 4000000 in
theorem c_sm_begin (l : Launch) (D : va_G) (cJ cZ : ClassId) (x mw ms mk mg sz k : Nat) (er P : Int32) (gw : Nat → Int64) (hk1 : 1 ≤ k) (hk8 : k ≤ 8) : Met l y_sm_begin w_sm_begin (rL 3 0 0) (va_Pc [.ref x, .int (nI k)] (gP D [(cJ, .long), (cZ, .boolean)] [oM x er P mw ms mk mg, aL mw cJ gw] sz)) (va_Qv (fun u => ∀ q, q < 8 → u q = lN 0) (gB D [(cJ, .long), (cZ, .boolean)] (va_A [oM x er P mw ms mk mg, aL mw cJ gw] sz) (fun u : Nat → Int64 => [oM x (nI 0) (nI k) mw ms mk mg, aL mw cJ u])) (va_A [oM x er P mw ms mk mg, aL mw cJ gw] sz)) 0 0 (va_A [oM x er P mw ms mk mg, aL mw cJ gw] sz) := by
  refine Met.ofW (cc := b_sm_begin) (maxL := 3) (ret := none) (by decide) rfl ?_
  intro p e s m args below meth c s₁ B hml hv
  obtain ⟨rfl, hsz, hP, hK, hD0⟩ := hv
  have hx := B.exec
  have hb := B.bytes
  have hr := B.returns
  have hts := atoms_spec (ws := w_sm_begin) B.pre
  have hg : ∀ w ∈ gws, w.before ([.ref x, .int (nI k)] : List Value).toArray s = true := fun w hw => hts w (List.mem_cons_of_mem _ hw)
  have hown : s.vm.findClass "ShareDeskModel" = some m.cls := findClass_of_methodNamed B.named
  have hlk := B.notSynchronized
  subst hsz
  have hD := hD0.self (sz := s.heap.size)
  generalize hAe : va_A [oM x er P mw ms mk mg, aL mw cJ gw] s.heap.size = A at hD ⊢
  have hA : ∀ q : Nat, s.heap.size ≤ q → A q := fun q h => by rw [← hAe]; exact Or.inr h
  have hS : va_S A s.heap s.heap [] := va_S.rf
  have hP : va_P D cls2 [oM x er P mw ms mk mg, aL mw cJ gw] s.heap := hP
  have hl := lv_entry ([.ref x, .int (nI k)]) (n := 3) (Nat.le_of_ble_eq_true rfl)
  rw [lg_entry_eq]
  generalize (lg_sl ([.ref x, .int (nI k)]) ++ List.replicate (3 - (lg_sl ([.ref x, .int (nI k)])).length) Slot.unset).toArray = ls at hl ⊢
  have hl : lv_has ls 3 [(0, .ref x), (1, .int (nI k))] := hl
  refine lv_aload_n hx hb d_sm_begin_0 rfl (lv_at hl 0 rfl) ?_
  refine lv_iconst (v := nI 0) hx hb d_sm_begin_1 (by decide) ?_
  refine sm_put hx hb hg hown hK hP hD hS 0 rfl 0 (by decide) k_202 rfl (by decide +kernel) (Nat.le_of_ble_eq_true rfl) d_sm_begin_2 (fun H locs hP hD hS => ?_)
  have hP : va_P D cls2 [oM x (nI 0) P mw ms mk mg, aL mw cJ gw] H := hP
  have hD : va_D A [oM x (nI 0) P mw ms mk mg, aL mw cJ gw] := hD
  refine lv_aload_n hx hb d_sm_begin_5 rfl (lv_at hl 0 rfl) ?_
  refine lv_iload_n hx hb d_sm_begin_6 rfl (lv_at hl 1 rfl) ?_
  refine lv_i2l (v := lN k) hx hb d_sm_begin_7 (nI_l (by omega)) ?_
  refine lv_lconst (v := lN 1) hx hb d_sm_begin_8 (by decide) ?_
  refine lv_ldc2 hx hb hown (hg _ k_231) d_sm_begin_9 ?_
  refine xr_l (show (8 : Int64) = lN 8 by decide) ?_
  refine ps_i hx hb hml hown hg (c_sm_in l (lN k) (lN 1) (lN 8)) ⟨k_232, k_233, k_2, k_234⟩ n_sm_in ⟨rfl, rfl, by decide, by decide⟩ hl.1 rfl (Nat.le_of_ble_eq_true rfl) d_sm_begin_12 ⟨by decide, by decide⟩ (fun r2 h2 => ?_)
  obtain rfl := in_nat h2 (by omega) (by omega) (by omega)
  refine xz_ne (tgt := 22) hx hb d_sm_begin_15 (by decide) (by omega) (fun hc9 => ?_) (fun hc9 => ?_)
  · refine lv_iconst (v := nI 0) hx hb d_sm_begin_22 (by decide) ?_
    refine lv_iconst (v := nI 1) hx hb d_sm_begin_23 (by decide) ?_
    refine pv_i (C := "ShareDeskModel") hx hb hml hown hg (c_sm_fails0 l D [(cJ, .long), (cZ, .boolean)] x mw ms mk mg H.size 1 P) ⟨k_235, k_237, ks_6, k_2, k_238⟩ n_sm_fails ⟨rfl, rfl, by decide, by decide⟩ hK (hP.sub [0] rfl) (hD.sub [0] rfl rfl) (va_recv (q0 := 0) (ci := 1) hK hP rfl rfl) hl.1 rfl (Nat.le_of_ble_eq_true rfl) d_sm_begin_24 ⟨by decide, by decide⟩ (fun rf hf => ?_)
    subst hf
    refine xz_eq (tgt := 31) hx hb d_sm_begin_27 (by decide) (by omega) (fun hc9 => ?_) (fun hc9 => ?_)
    · refine lv_aload_n hx hb d_sm_begin_31 rfl (lv_at hl 0 rfl) ?_
      refine lv_iload_n hx hb d_sm_begin_32 rfl (lv_at hl 1 rfl) ?_
      refine sm_put hx hb hg hown hK hP hD hS 0 rfl 1 (by decide) k_203 rfl (by decide +kernel) (Nat.le_of_ble_eq_true rfl) d_sm_begin_33 (fun H locs hP hD hS => ?_)
      have hP : va_P D cls2 [oM x (nI 0) (nI k) mw ms mk mg, aL mw cJ gw] H := hP
      have hD : va_D A [oM x (nI 0) (nI k) mw ms mk mg, aL mw cJ gw] := hD
      refine lv_iconst (v := nI 0) hx hb d_sm_begin_36 (by decide) ?_
      refine lv_istore_n (lv' := [(2, .int (nI 0)), (0, .ref x), (1, .int (nI k))]) hx hb d_sm_begin_37 rfl hl (by decide) rfl (fun ls hl => ?_)
      refine lp_mbegin hx hb hg hown hK (fun H locs ls gt hgt hP hD hS => ?_) 8 0 _ _ ls gw (by omega) (fun q hq => absurd hq (by omega)) hP hD hS (lv_sub hl [0, 1] rfl)
      exact en_gv gt hx hb hr hlk hgt hP hK hD hS d_sm_begin_57
    · exact absurd hc9 (by decide)
  · exact absurd hc9 (by decide)
set_option maxRecDepth 10000 in
set_option maxHeartbeats 4000000 in
theorem c_sm_begin1 (l : Launch) (D : va_G) (cJ cZ : ClassId) (x mw ms mk mg sz : Nat) (er P v : Int32) (gw : Nat → Int64) (h : v.toInt < 1 ∨ 8 < v.toInt) : Met l y_sm_begin w_sm_begin (rL 3 0 0) (va_Pc [.ref x, .int v] (gP D [(cJ, .long), (cZ, .boolean)] [oM x er P mw ms mk mg, aL mw cJ gw] sz)) (va_Qv (fun _ => True) (gB D [(cJ, .long), (cZ, .boolean)] (va_A [oM x er P mw ms mk mg, aL mw cJ gw] sz) (fun u : Unit => [oM x (nI 1) P mw ms mk mg, aL mw cJ gw])) (va_A [oM x er P mw ms mk mg, aL mw cJ gw] sz)) 0 0 (va_A [oM x er P mw ms mk mg, aL mw cJ gw] sz) := by
  refine Met.ofW (cc := b_sm_begin) (maxL := 3) (ret := none) (by decide) rfl ?_
  intro p e s m args below meth c s₁ B hml hv
  obtain ⟨rfl, hsz, hP, hK, hD0⟩ := hv
  have hx := B.exec
  have hb := B.bytes
  have hr := B.returns
  have hts := atoms_spec (ws := w_sm_begin) B.pre
  have hg : ∀ w ∈ gws, w.before ([.ref x, .int v] : List Value).toArray s = true := fun w hw => hts w (List.mem_cons_of_mem _ hw)
  have hown : s.vm.findClass "ShareDeskModel" = some m.cls := findClass_of_methodNamed B.named
  have hlk := B.notSynchronized
  subst hsz
  have hD := hD0.self (sz := s.heap.size)
  generalize hAe : va_A [oM x er P mw ms mk mg, aL mw cJ gw] s.heap.size = A at hD ⊢
  have hA : ∀ q : Nat, s.heap.size ≤ q → A q := fun q h => by rw [← hAe]; exact Or.inr h
  have hS : va_S A s.heap s.heap [] := va_S.rf
  have hP : va_P D cls2 [oM x er P mw ms mk mg, aL mw cJ gw] s.heap := hP
  have hl := lv_entry ([.ref x, .int v]) (n := 3) (Nat.le_of_ble_eq_true rfl)
  rw [lg_entry_eq]
  generalize (lg_sl ([.ref x, .int v]) ++ List.replicate (3 - (lg_sl ([.ref x, .int v])).length) Slot.unset).toArray = ls at hl ⊢
  have hl : lv_has ls 3 [(0, .ref x), (1, .int v)] := hl
  refine lv_aload_n hx hb d_sm_begin_0 rfl (lv_at hl 0 rfl) ?_
  refine lv_iconst (v := nI 0) hx hb d_sm_begin_1 (by decide) ?_
  refine sm_put hx hb hg hown hK hP hD hS 0 rfl 0 (by decide) k_202 rfl (by decide +kernel) (Nat.le_of_ble_eq_true rfl) d_sm_begin_2 (fun H locs hP hD hS => ?_)
  have hP : va_P D cls2 [oM x (nI 0) P mw ms mk mg, aL mw cJ gw] H := hP
  have hD : va_D A [oM x (nI 0) P mw ms mk mg, aL mw cJ gw] := hD
  refine lv_aload_n hx hb d_sm_begin_5 rfl (lv_at hl 0 rfl) ?_
  refine lv_iload_n hx hb d_sm_begin_6 rfl (lv_at hl 1 rfl) ?_
  refine lv_i2l hx hb d_sm_begin_7 rfl ?_
  refine lv_lconst (v := lN 1) hx hb d_sm_begin_8 (by decide) ?_
  refine lv_ldc2 hx hb hown (hg _ k_231) d_sm_begin_9 ?_
  refine xr_l (show (8 : Int64) = lN 8 by decide) ?_
  refine ps_i hx hb hml hown hg (c_sm_in l v.toInt64 (lN 1) (lN 8)) ⟨k_232, k_233, k_2, k_234⟩ n_sm_in ⟨rfl, rfl, by decide, by decide⟩ hl.1 rfl (Nat.le_of_ble_eq_true rfl) d_sm_begin_12 ⟨by decide, by decide⟩ (fun r2 hq2 => ?_)
  have hq2 := qIn_of (v := v) (a := 1) (b := 8) (by decide) (by decide) hq2
  obtain rfl := hq2.2 (by omega)
  refine xz_ne (tgt := 22) hx hb d_sm_begin_15 (by decide) (by omega) (fun hc9 => ?_) (fun hc9 => ?_)
  · exact absurd hc9 (by decide)
  · refine lv_iconst (v := nI 1) hx hb d_sm_begin_18 (by decide) ?_
    refine lv_goto (tgt := 23) hx hb d_sm_begin_19 (by decide) ?_
    refine lv_iconst (v := nI 1) hx hb d_sm_begin_23 (by decide) ?_
    refine ev_i (C := "ShareDeskModel") hx hb hml hown hg (c_sm_fails1 l D [(cJ, .long), (cZ, .boolean)] x mw ms mk mg H.size 1 P (by decide) (by decide)) ⟨k_235, k_237, ks_6, k_2, k_238⟩ n_sm_fails ⟨rfl, rfl, by decide, by decide⟩ hK hP hD hS hA [0] [1] rfl rfl (wr := [aL mw cJ gw]) rfl rfl (by decide) (va_recv (q0 := 0) (ci := 1) hK hP rfl rfl) hl.1 rfl (Nat.le_of_ble_eq_true rfl) d_sm_begin_24 ⟨by decide, by decide⟩ (fun rf _u H locs hf hP hD hS => ?_)
    have hP : va_P D cls2 [oM x (nI 1) P mw ms mk mg, aL mw cJ gw] H := hP.sub [1, 0] rfl
    have hD : va_D A [oM x (nI 1) P mw ms mk mg, aL mw cJ gw] := hD.sub [1, 0] rfl rfl
    subst hf
    refine xz_eq (tgt := 31) hx hb d_sm_begin_27 (by decide) (by omega) (fun hc9 => ?_) (fun hc9 => ?_)
    · exact absurd hc9 (by decide)
    · exact en_gv () hx hb hr hlk trivial hP hK hD hS d_sm_begin_30
set_option maxRecDepth 10000 in
set_option maxHeartbeats 4000000 in
theorem c_sm_weight (l : Launch) (D : va_G) (cJ cZ : ClassId) (x mw ms mk mg sz n pp v : Nat) (er : Int32) (gw : Nat → Int64) (w : Nat → Nat) (hn1 : 1 ≤ n) (hn8 : n ≤ 8) (hw : ∀ q, w q ≤ 100000) (hgw : ∀ q, q < 8 → gw q = lN (w q)) (hp : pp < n) (hv : v ≤ 100000) : Met l y_sm_weight w_sm_weight (rL 3 0 0) (va_Pc [.ref x, .int (nI pp), .int (nI v)] (gP D [(cJ, .long), (cZ, .boolean)] [oM x er (nI n) mw ms mk mg, aL mw cJ gw] sz)) (va_Qi (fun r _ => r = nI (w pp)) (gB D [(cJ, .long), (cZ, .boolean)] (va_A [oM x er (nI n) mw ms mk mg, aL mw cJ gw] sz) (fun u : Unit => [oM x (nI 0) (nI n) mw ms mk mg, aL mw cJ (vp_updL gw pp (lN v))])) (va_A [oM x er (nI n) mw ms mk mg, aL mw cJ gw] sz)) 0 0 (va_A [oM x er (nI n) mw ms mk mg, aL mw cJ gw] sz) := by
  refine Met.ofW (cc := b_sm_weight) (maxL := 4) (ret := (some .int)) (by decide) rfl ?_
  intro p e s m args below meth c s₁ B hml hv
  obtain ⟨rfl, hsz, hP, hK, hD0⟩ := hv
  have hx := B.exec
  have hb := B.bytes
  have hr := B.returns
  have hts := atoms_spec (ws := w_sm_weight) B.pre
  have hg : ∀ w ∈ gws, w.before ([.ref x, .int (nI pp), .int (nI v)] : List Value).toArray s = true := fun w hw => hts w (List.mem_cons_of_mem _ hw)
  have hown : s.vm.findClass "ShareDeskModel" = some m.cls := findClass_of_methodNamed B.named
  have hlk := B.notSynchronized
  subst hsz
  have hD := hD0.self (sz := s.heap.size)
  generalize hAe : va_A [oM x er (nI n) mw ms mk mg, aL mw cJ gw] s.heap.size = A at hD ⊢
  have hA : ∀ q : Nat, s.heap.size ≤ q → A q := fun q h => by rw [← hAe]; exact Or.inr h
  have hS : va_S A s.heap s.heap [] := va_S.rf
  have hP : va_P D cls2 [oM x er (nI n) mw ms mk mg, aL mw cJ gw] s.heap := hP
  have hl := lv_entry ([.ref x, .int (nI pp), .int (nI v)]) (n := 4) (Nat.le_of_ble_eq_true rfl)
  rw [lg_entry_eq]
  generalize (lg_sl ([.ref x, .int (nI pp), .int (nI v)]) ++ List.replicate (4 - (lg_sl ([.ref x, .int (nI pp), .int (nI v)])).length) Slot.unset).toArray = ls at hl ⊢
  have hl : lv_has ls 4 [(0, .ref x), (1, .int (nI pp)), (2, .int (nI v))] := hl
  refine lv_aload_n hx hb d_sm_weight_0 rfl (lv_at hl 0 rfl) ?_
  refine lv_iconst (v := nI 0) hx hb d_sm_weight_1 (by decide) ?_
  refine sm_put hx hb hg hown hK hP hD hS 0 rfl 0 (by decide) k_202 rfl (by decide +kernel) (Nat.le_of_ble_eq_true rfl) d_sm_weight_2 (fun H locs hP hD hS => ?_)
  have hP : va_P D cls2 [oM x (nI 0) (nI n) mw ms mk mg, aL mw cJ gw] H := hP
  have hD : va_D A [oM x (nI 0) (nI n) mw ms mk mg, aL mw cJ gw] := hD
  refine lv_aload_n hx hb d_sm_weight_5 rfl (lv_at hl 0 rfl) ?_
  refine lv_aload_n hx hb d_sm_weight_6 rfl (lv_at hl 0 rfl) ?_
  refine lv_iload_n hx hb d_sm_weight_7 rfl (lv_at hl 1 rfl) ?_
  refine pv_i (C := "ShareDeskModel") hx hb hml hown hg (c_sm_isParty l D [(cJ, .long), (cZ, .boolean)] x mw ms mk mg H.size n (nI 0) (nI pp) hn1 hn8) ⟨k_243, k_245, ks_7, k_2, k_246⟩ n_sm_isParty ⟨rfl, rfl, by decide, by decide⟩ hK (hP.sub [0] rfl) (hD.sub [0] rfl rfl) (va_recv (q0 := 0) (ci := 1) hK hP rfl rfl) hl.1 rfl (Nat.le_of_ble_eq_true rfl) d_sm_weight_8 ⟨by decide, by decide⟩ (fun r3 h3 => ?_)
  obtain rfl := qIn_nat h3 (by omega) (by omega) (by omega)
  refine xz_eq (tgt := 26) hx hb d_sm_weight_11 (by decide) (by omega) (fun hc9 => ?_) (fun hc9 => ?_)
  · exact absurd hc9 (by decide)
  · refine lv_iload_n hx hb d_sm_weight_14 rfl (lv_at hl 2 rfl) ?_
    refine lv_i2l (v := lN v) hx hb d_sm_weight_15 (nI_l (by omega)) ?_
    refine lv_lconst (v := lN 0) hx hb d_sm_weight_16 (by decide) ?_
    refine lv_ldc2 hx hb hown (hg _ k_247) d_sm_weight_17 ?_
    refine xr_l (show (100000 : Int64) = lN 100000 by decide) ?_
    refine ps_i hx hb hml hown hg (c_sm_in l (lN v) (lN 0) (lN 100000)) ⟨k_232, k_233, k_2, k_234⟩ n_sm_in ⟨rfl, rfl, by decide, by decide⟩ hl.1 rfl (Nat.le_of_ble_eq_true rfl) d_sm_weight_20 ⟨by decide, by decide⟩ (fun r2 h2 => ?_)
    obtain rfl := in_nat h2 (by omega) (by omega) (by omega)
    refine xz_ne (tgt := 30) hx hb d_sm_weight_23 (by decide) (by omega) (fun hc9 => ?_) (fun hc9 => ?_)
    · refine lv_iconst (v := nI 0) hx hb d_sm_weight_30 (by decide) ?_
      refine lv_iconst (v := nI 1) hx hb d_sm_weight_31 (by decide) ?_
      refine pv_i (C := "ShareDeskModel") hx hb hml hown hg (c_sm_fails0 l D [(cJ, .long), (cZ, .boolean)] x mw ms mk mg H.size 1 (nI n)) ⟨k_235, k_237, ks_6, k_2, k_238⟩ n_sm_fails ⟨rfl, rfl, by decide, by decide⟩ hK (hP.sub [0] rfl) (hD.sub [0] rfl rfl) (va_recv (q0 := 0) (ci := 1) hK hP rfl rfl) hl.1 rfl (Nat.le_of_ble_eq_true rfl) d_sm_weight_32 ⟨by decide, by decide⟩ (fun rf hf => ?_)
      subst hf
      refine xz_eq (tgt := 40) hx hb d_sm_weight_35 (by decide) (by omega) (fun hc9 => ?_) (fun hc9 => ?_)
      · refine lv_aload_n hx hb d_sm_weight_40 rfl (lv_at hl 0 rfl) ?_
        refine sm_get hx hb hg hown hK hP 0 rfl 2 (by decide) k_204 rfl d_sm_weight_41 ?_
        refine lv_iload_n hx hb d_sm_weight_44 rfl (lv_at hl 1 rfl) ?_
        refine xa_lald hx hb hK hP 1 0 rfl rfl (by omega) d_sm_weight_45 (v := lN (w pp)) (hgw pp (by omega)) ?_
        refine lv_l2i (v := nI (w pp)) hx hb d_sm_weight_46 (lN_i _) ?_
        refine lv_istore_n (lv' := [(3, .int (nI (w pp))), (0, .ref x), (1, .int (nI pp)), (2, .int (nI v))]) hx hb d_sm_weight_47 rfl hl (by decide) rfl (fun ls hl => ?_)
        refine lv_aload_n hx hb d_sm_weight_48 rfl (lv_at hl 1 rfl) ?_
        refine sm_get hx hb hg hown hK hP 0 rfl 2 (by decide) k_204 rfl d_sm_weight_49 ?_
        refine lv_iload_n hx hb d_sm_weight_52 rfl (lv_at hl 2 rfl) ?_
        refine lv_iload_n hx hb d_sm_weight_53 rfl (lv_at hl 3 rfl) ?_
        refine lv_i2l (v := lN v) hx hb d_sm_weight_54 (nI_l (by omega)) ?_
        refine xa_last hx hb hK hP hD hS 1 0 rfl rfl (by omega) d_sm_weight_55 (fun H locs hP hD hS => ?_)
        have hP : va_P D cls2 [oM x (nI 0) (nI n) mw ms mk mg, aL mw cJ (vp_updL gw pp (lN v))] H := hP
        have hD : va_D A [oM x (nI 0) (nI n) mw ms mk mg, aL mw cJ (vp_updL gw pp (lN v))] := hD
        refine lv_iload_n hx hb d_sm_weight_56 rfl (lv_at hl 0 rfl) ?_
        exact en_gi () hx hb hr hlk rfl hP hK hD hS d_sm_weight_57
      · exact absurd hc9 (by decide)
    · exact absurd hc9 (by decide)
set_option maxRecDepth 10000 in
set_option maxHeartbeats 4000000 in
theorem c_sm_weight1 (l : Launch) (D : va_G) (cJ cZ : ClassId) (x mw ms mk mg sz n : Nat) (er v u9 : Int32) (gw : Nat → Int64) (hn1 : 1 ≤ n) (hn8 : n ≤ 8) (h : ¬ (0 ≤ v.toInt ∧ v.toInt < (n : Int) ∧ 0 ≤ u9.toInt ∧ u9.toInt ≤ 100000)) : Met l y_sm_weight w_sm_weight (rL 3 0 0) (va_Pc [.ref x, .int v, .int u9] (gP D [(cJ, .long), (cZ, .boolean)] [oM x er (nI n) mw ms mk mg, aL mw cJ gw] sz)) (va_Qi (fun _ _ => True) (gB D [(cJ, .long), (cZ, .boolean)] (va_A [oM x er (nI n) mw ms mk mg, aL mw cJ gw] sz) (fun u : Unit => [oM x (nI 1) (nI n) mw ms mk mg, aL mw cJ gw])) (va_A [oM x er (nI n) mw ms mk mg, aL mw cJ gw] sz)) 0 0 (va_A [oM x er (nI n) mw ms mk mg, aL mw cJ gw] sz) := by
  refine Met.ofW (cc := b_sm_weight) (maxL := 4) (ret := (some .int)) (by decide) rfl ?_
  intro p e s m args below meth c s₁ B hml hv
  obtain ⟨rfl, hsz, hP, hK, hD0⟩ := hv
  have hx := B.exec
  have hb := B.bytes
  have hr := B.returns
  have hts := atoms_spec (ws := w_sm_weight) B.pre
  have hg : ∀ w ∈ gws, w.before ([.ref x, .int v, .int u9] : List Value).toArray s = true := fun w hw => hts w (List.mem_cons_of_mem _ hw)
  have hown : s.vm.findClass "ShareDeskModel" = some m.cls := findClass_of_methodNamed B.named
  have hlk := B.notSynchronized
  subst hsz
  have hD := hD0.self (sz := s.heap.size)
  generalize hAe : va_A [oM x er (nI n) mw ms mk mg, aL mw cJ gw] s.heap.size = A at hD ⊢
  have hA : ∀ q : Nat, s.heap.size ≤ q → A q := fun q h => by rw [← hAe]; exact Or.inr h
  have hS : va_S A s.heap s.heap [] := va_S.rf
  have hP : va_P D cls2 [oM x er (nI n) mw ms mk mg, aL mw cJ gw] s.heap := hP
  have hl := lv_entry ([.ref x, .int v, .int u9]) (n := 4) (Nat.le_of_ble_eq_true rfl)
  rw [lg_entry_eq]
  generalize (lg_sl ([.ref x, .int v, .int u9]) ++ List.replicate (4 - (lg_sl ([.ref x, .int v, .int u9])).length) Slot.unset).toArray = ls at hl ⊢
  have hl : lv_has ls 4 [(0, .ref x), (1, .int v), (2, .int u9)] := hl
  refine lv_aload_n hx hb d_sm_weight_0 rfl (lv_at hl 0 rfl) ?_
  refine lv_iconst (v := nI 0) hx hb d_sm_weight_1 (by decide) ?_
  refine sm_put hx hb hg hown hK hP hD hS 0 rfl 0 (by decide) k_202 rfl (by decide +kernel) (Nat.le_of_ble_eq_true rfl) d_sm_weight_2 (fun H locs hP hD hS => ?_)
  have hP : va_P D cls2 [oM x (nI 0) (nI n) mw ms mk mg, aL mw cJ gw] H := hP
  have hD : va_D A [oM x (nI 0) (nI n) mw ms mk mg, aL mw cJ gw] := hD
  refine lv_aload_n hx hb d_sm_weight_5 rfl (lv_at hl 0 rfl) ?_
  refine lv_aload_n hx hb d_sm_weight_6 rfl (lv_at hl 0 rfl) ?_
  refine lv_iload_n hx hb d_sm_weight_7 rfl (lv_at hl 1 rfl) ?_
  refine pv_i (C := "ShareDeskModel") hx hb hml hown hg (c_sm_isParty l D [(cJ, .long), (cZ, .boolean)] x mw ms mk mg H.size n (nI 0) v hn1 hn8) ⟨k_243, k_245, ks_7, k_2, k_246⟩ n_sm_isParty ⟨rfl, rfl, by decide, by decide⟩ hK (hP.sub [0] rfl) (hD.sub [0] rfl rfl) (va_recv (q0 := 0) (ci := 1) hK hP rfl rfl) hl.1 rfl (Nat.le_of_ble_eq_true rfl) d_sm_weight_8 ⟨by decide, by decide⟩ (fun r3 hq3 => ?_)
  refine lv_if_eq (tgt := 26) hx hb d_sm_weight_11 (by decide) (fun b1 => ?_) (fun b1 => ?_)
  · refine lv_iconst (v := nI 1) hx hb d_sm_weight_26 (by decide) ?_
    refine lv_goto (tgt := 31) hx hb d_sm_weight_27 (by decide) ?_
    refine lv_iconst (v := nI 1) hx hb d_sm_weight_31 (by decide) ?_
    refine ev_i (C := "ShareDeskModel") hx hb hml hown hg (c_sm_fails1 l D [(cJ, .long), (cZ, .boolean)] x mw ms mk mg H.size 1 (nI n) (by decide) (by decide)) ⟨k_235, k_237, ks_6, k_2, k_238⟩ n_sm_fails ⟨rfl, rfl, by decide, by decide⟩ hK hP hD hS hA [0] [1] rfl rfl (wr := [aL mw cJ gw]) rfl rfl (by decide) (va_recv (q0 := 0) (ci := 1) hK hP rfl rfl) hl.1 rfl (Nat.le_of_ble_eq_true rfl) d_sm_weight_32 ⟨by decide, by decide⟩ (fun rf _u H locs hf hP hD hS => ?_)
    have hP : va_P D cls2 [oM x (nI 1) (nI n) mw ms mk mg, aL mw cJ gw] H := hP.sub [1, 0] rfl
    have hD : va_D A [oM x (nI 1) (nI n) mw ms mk mg, aL mw cJ gw] := hD.sub [1, 0] rfl rfl
    subst hf
    refine xz_eq (tgt := 40) hx hb d_sm_weight_35 (by decide) (by omega) (fun hc9 => ?_) (fun hc9 => ?_)
    · exact absurd hc9 (by decide)
    · refine lv_iconst (v := nI 0) hx hb d_sm_weight_38 (by decide) ?_
      exact en_gi () hx hb hr hlk trivial hP hK hD hS d_sm_weight_39
  · refine lv_iload_n hx hb d_sm_weight_14 rfl (lv_at hl 2 rfl) ?_
    refine lv_i2l hx hb d_sm_weight_15 rfl ?_
    refine lv_lconst (v := lN 0) hx hb d_sm_weight_16 (by decide) ?_
    refine lv_ldc2 hx hb hown (hg _ k_247) d_sm_weight_17 ?_
    refine xr_l (show (100000 : Int64) = lN 100000 by decide) ?_
    refine ps_i hx hb hml hown hg (c_sm_in l u9.toInt64 (lN 0) (lN 100000)) ⟨k_232, k_233, k_2, k_234⟩ n_sm_in ⟨rfl, rfl, by decide, by decide⟩ hl.1 rfl (Nat.le_of_ble_eq_true rfl) d_sm_weight_20 ⟨by decide, by decide⟩ (fun r2 hq2 => ?_)
    have hq2 := qIn_of (v := u9) (a := 0) (b := 100000) (by decide) (by decide) hq2
    refine lv_if_ne (tgt := 30) hx hb d_sm_weight_23 (by decide) (fun b2 => ?_) (fun b2 => ?_)
    · have a1 : ¬ (v.toInt < ((0 : Nat) : Int) ∨ ((n - 1 : Nat) : Int) < v.toInt) := fun z => b1 (by rw [hq3.2 z]; exact nI_0)
      have a2 : ¬ (u9.toInt < ((0 : Nat) : Int) ∨ ((100000 : Nat) : Int) < u9.toInt) := fun z => b2 (by rw [hq2.2 z]; exact nI_0)
      omega
    · refine lv_iconst (v := nI 1) hx hb d_sm_weight_26 (by decide) ?_
      refine lv_goto (tgt := 31) hx hb d_sm_weight_27 (by decide) ?_
      refine lv_iconst (v := nI 1) hx hb d_sm_weight_31 (by decide) ?_
      refine ev_i (C := "ShareDeskModel") hx hb hml hown hg (c_sm_fails1 l D [(cJ, .long), (cZ, .boolean)] x mw ms mk mg H.size 1 (nI n) (by decide) (by decide)) ⟨k_235, k_237, ks_6, k_2, k_238⟩ n_sm_fails ⟨rfl, rfl, by decide, by decide⟩ hK hP hD hS hA [0] [1] rfl rfl (wr := [aL mw cJ gw]) rfl rfl (by decide) (va_recv (q0 := 0) (ci := 1) hK hP rfl rfl) hl.1 rfl (Nat.le_of_ble_eq_true rfl) d_sm_weight_32 ⟨by decide, by decide⟩ (fun rf _u H locs hf hP hD hS => ?_)
      have hP : va_P D cls2 [oM x (nI 1) (nI n) mw ms mk mg, aL mw cJ gw] H := hP.sub [1, 0] rfl
      have hD : va_D A [oM x (nI 1) (nI n) mw ms mk mg, aL mw cJ gw] := hD.sub [1, 0] rfl rfl
      subst hf
      refine xz_eq (tgt := 40) hx hb d_sm_weight_35 (by decide) (by omega) (fun hc9 => ?_) (fun hc9 => ?_)
      · exact absurd hc9 (by decide)
      · refine lv_iconst (v := nI 0) hx hb d_sm_weight_38 (by decide) ?_
        exact en_gi () hx hb hr hlk trivial hP hK hD hS d_sm_weight_39
set_option maxRecDepth 10000 in
set_option maxHeartbeats 4000000 in
theorem c_sm_share (l : Launch) (D : va_G) (cJ cZ : ClassId) (x mw ms mk mg sz n d mm pp : Nat) (er : Int32) (gw gs gk : Nat → Int64) (gg : Nat → Int32) (w : Nat → Nat) (hn1 : 1 ≤ n) (hn8 : n ≤ 8) (hw : ∀ q, w q ≤ 100000) (hgw : ∀ q, q < 8 → gw q = lN (w q)) (hW : 0 < pu_sum w n) (hd : d < 3) (hm : mm ≤ 10000) (hp : pp < n) : Met l y_sm_share w_sm_share (rL 3 0 0) (va_Pc [.ref x, .int (nI d), .int (nI mm), .int (nI pp)] (gP D [(cJ, .long), (cZ, .boolean)] [oM x er (nI n) mw ms mk mg, aL mw cJ gw, aL ms cJ gs, aL mk cJ gk, aI mg cZ gg] sz)) (va_Qi (fun r _ => r = nI (pu_sh n w d mm pp)) (gB D [(cJ, .long), (cZ, .boolean)] (va_A [oM x er (nI n) mw ms mk mg, aL mw cJ gw, aL ms cJ gs, aL mk cJ gk, aI mg cZ gg] sz) (fun u : (Nat → Int64) × (Nat → Int64) × (Nat → Int32) => [oM x (nI 0) (nI n) mw ms mk mg, aL mw cJ gw, aL ms cJ u.1, aL mk cJ u.2.1, aI mg cZ u.2.2])) (va_A [oM x er (nI n) mw ms mk mg, aL mw cJ gw, aL ms cJ gs, aL mk cJ gk, aI mg cZ gg] sz)) 0 0 (va_A [oM x er (nI n) mw ms mk mg, aL mw cJ gw, aL ms cJ gs, aL mk cJ gk, aI mg cZ gg] sz) := by
  refine Met.ofW (cc := b_sm_share) (maxL := 4) (ret := (some .int)) (by decide) rfl ?_
  intro p e s m args below meth c s₁ B hml hv
  obtain ⟨rfl, hsz, hP, hK, hD0⟩ := hv
  have hx := B.exec
  have hb := B.bytes
  have hr := B.returns
  have hts := atoms_spec (ws := w_sm_share) B.pre
  have hg : ∀ w ∈ gws, w.before ([.ref x, .int (nI d), .int (nI mm), .int (nI pp)] : List Value).toArray s = true := fun w hw => hts w (List.mem_cons_of_mem _ hw)
  have hown : s.vm.findClass "ShareDeskModel" = some m.cls := findClass_of_methodNamed B.named
  have hlk := B.notSynchronized
  subst hsz
  have hD := hD0.self (sz := s.heap.size)
  generalize hAe : va_A [oM x er (nI n) mw ms mk mg, aL mw cJ gw, aL ms cJ gs, aL mk cJ gk, aI mg cZ gg] s.heap.size = A at hD ⊢
  have hA : ∀ q : Nat, s.heap.size ≤ q → A q := fun q h => by rw [← hAe]; exact Or.inr h
  have hS : va_S A s.heap s.heap [] := va_S.rf
  have hP : va_P D cls2 [oM x er (nI n) mw ms mk mg, aL mw cJ gw, aL ms cJ gs, aL mk cJ gk, aI mg cZ gg] s.heap := hP
  have hl := lv_entry ([.ref x, .int (nI d), .int (nI mm), .int (nI pp)]) (n := 4) (Nat.le_of_ble_eq_true rfl)
  rw [lg_entry_eq]
  generalize (lg_sl ([.ref x, .int (nI d), .int (nI mm), .int (nI pp)]) ++ List.replicate (4 - (lg_sl ([.ref x, .int (nI d), .int (nI mm), .int (nI pp)])).length) Slot.unset).toArray = ls at hl ⊢
  have hl : lv_has ls 4 [(0, .ref x), (1, .int (nI d)), (2, .int (nI mm)), (3, .int (nI pp))] := hl
  have hWb := pu_sum_bd hn8 hw
  have hwp := hw pp
  have hsh := Nat.le_trans (pu_sh_le (d := d) (m := mm) hW hp) hm
  refine lv_aload_n hx hb d_sm_share_0 rfl (lv_at hl 0 rfl) ?_
  refine lv_iconst (v := nI 0) hx hb d_sm_share_1 (by decide) ?_
  refine sm_put hx hb hg hown hK hP hD hS 0 rfl 0 (by decide) k_202 rfl (by decide +kernel) (Nat.le_of_ble_eq_true rfl) d_sm_share_2 (fun H locs hP hD hS => ?_)
  have hP : va_P D cls2 [oM x (nI 0) (nI n) mw ms mk mg, aL mw cJ gw, aL ms cJ gs, aL mk cJ gk, aI mg cZ gg] H := hP
  have hD : va_D A [oM x (nI 0) (nI n) mw ms mk mg, aL mw cJ gw, aL ms cJ gs, aL mk cJ gk, aI mg cZ gg] := hD
  refine lv_aload_n hx hb d_sm_share_5 rfl (lv_at hl 0 rfl) ?_
  refine lv_iload_n hx hb d_sm_share_6 rfl (lv_at hl 1 rfl) ?_
  refine ps_i hx hb hml hown hg (c_sm_isWay l (nI d)) ⟨k_252, k_253, k_2, k_254⟩ n_sm_isWay ⟨rfl, rfl, by decide, by decide⟩ hl.1 rfl (Nat.le_of_ble_eq_true rfl) d_sm_share_7 ⟨by decide, by decide⟩ (fun r1 h1 => ?_)
  obtain rfl := qIn_nat h1 (by omega) (by omega) (by omega)
  refine xz_eq (tgt := 33) hx hb d_sm_share_10 (by decide) (by omega) (fun hc9 => ?_) (fun hc9 => ?_)
  · exact absurd hc9 (by decide)
  · refine lv_iload_n hx hb d_sm_share_13 rfl (lv_at hl 2 rfl) ?_
    refine lv_i2l (v := lN mm) hx hb d_sm_share_14 (nI_l (by omega)) ?_
    refine lv_lconst (v := lN 0) hx hb d_sm_share_15 (by decide) ?_
    refine lv_ldc2 hx hb hown (hg _ k_256) d_sm_share_16 ?_
    refine xr_l (show (10000 : Int64) = lN 10000 by decide) ?_
    refine ps_i hx hb hml hown hg (c_sm_in l (lN mm) (lN 0) (lN 10000)) ⟨k_232, k_233, k_2, k_234⟩ n_sm_in ⟨rfl, rfl, by decide, by decide⟩ hl.1 rfl (Nat.le_of_ble_eq_true rfl) d_sm_share_19 ⟨by decide, by decide⟩ (fun r2 h2 => ?_)
    obtain rfl := in_nat h2 (by omega) (by omega) (by omega)
    refine xz_eq (tgt := 33) hx hb d_sm_share_22 (by decide) (by omega) (fun hc9 => ?_) (fun hc9 => ?_)
    · exact absurd hc9 (by decide)
    · refine lv_aload_n hx hb d_sm_share_25 rfl (lv_at hl 0 rfl) ?_
      refine lv_iload_n hx hb d_sm_share_26 rfl (lv_at hl 3 rfl) ?_
      refine pv_i (C := "ShareDeskModel") hx hb hml hown hg (c_sm_isParty l D [(cJ, .long), (cZ, .boolean)] x mw ms mk mg H.size n (nI 0) (nI pp) hn1 hn8) ⟨k_243, k_245, ks_7, k_2, k_246⟩ n_sm_isParty ⟨rfl, rfl, by decide, by decide⟩ hK (hP.sub [0] rfl) (hD.sub [0] rfl rfl) (va_recv (q0 := 0) (ci := 1) hK hP rfl rfl) hl.1 rfl (Nat.le_of_ble_eq_true rfl) d_sm_share_27 ⟨by decide, by decide⟩ (fun r3 h3 => ?_)
      obtain rfl := qIn_nat h3 (by omega) (by omega) (by omega)
      refine xz_ne (tgt := 37) hx hb d_sm_share_30 (by decide) (by omega) (fun hc9 => ?_) (fun hc9 => ?_)
      · refine lv_iconst (v := nI 0) hx hb d_sm_share_37 (by decide) ?_
        refine lv_iconst (v := nI 1) hx hb d_sm_share_38 (by decide) ?_
        refine pv_i (C := "ShareDeskModel") hx hb hml hown hg (c_sm_fails0 l D [(cJ, .long), (cZ, .boolean)] x mw ms mk mg H.size 1 (nI n)) ⟨k_235, k_237, ks_6, k_2, k_238⟩ n_sm_fails ⟨rfl, rfl, by decide, by decide⟩ hK (hP.sub [0] rfl) (hD.sub [0] rfl rfl) (va_recv (q0 := 0) (ci := 1) hK hP rfl rfl) hl.1 rfl (Nat.le_of_ble_eq_true rfl) d_sm_share_39 ⟨by decide, by decide⟩ (fun rf hf => ?_)
        subst hf
        refine xz_ne (tgt := 67) hx hb d_sm_share_42 (by decide) (by omega) (fun hc9 => ?_) (fun hc9 => ?_)
        · exact absurd hc9 (by decide)
        · refine lv_aload_n hx hb d_sm_share_45 rfl (lv_at hl 0 rfl) ?_
          refine lv_aload_n hx hb d_sm_share_46 rfl (lv_at hl 0 rfl) ?_
          refine pv_l (C := "ShareDeskModel") hx hb hml hown hg (c_sm_all l D cJ cZ x mw ms mk mg H.size n (nI 0) gw w hn8 hgw) ⟨k_257, k_259, ks_8, k_2, k_260⟩ n_sm_all ⟨rfl, rfl, by decide, by decide⟩ hK (hP.sub [0, 1] rfl) (hD.sub [0, 1] rfl rfl) (va_recv (q0 := 0) (ci := 1) hK hP rfl rfl) hl.1 rfl (Nat.le_of_ble_eq_true rfl) d_sm_share_47 ⟨by decide, by decide⟩ (fun ra hra => ?_)
          subst hra
          refine lv_lconst (v := lN 0) hx hb d_sm_share_50 (by decide) ?_
          refine xl_ne (tgt := 59) hx hb d_sm_share_51 d_sm_share_52 (by decide) (by omega) (by omega) (fun hz => ?_) (fun hz => ?_)
          · refine lv_iconst (v := nI 0) hx hb d_sm_share_59 (by decide) ?_
            refine lv_iconst (v := nI 2) hx hb d_sm_share_60 (by decide) ?_
            refine pv_i (C := "ShareDeskModel") hx hb hml hown hg (c_sm_fails0 l D [(cJ, .long), (cZ, .boolean)] x mw ms mk mg H.size 2 (nI n)) ⟨k_235, k_237, ks_6, k_2, k_238⟩ n_sm_fails ⟨rfl, rfl, by decide, by decide⟩ hK (hP.sub [0] rfl) (hD.sub [0] rfl rfl) (va_recv (q0 := 0) (ci := 1) hK hP rfl rfl) hl.1 rfl (Nat.le_of_ble_eq_true rfl) d_sm_share_61 ⟨by decide, by decide⟩ (fun rf hf => ?_)
            subst hf
            refine xz_eq (tgt := 69) hx hb d_sm_share_64 (by decide) (by omega) (fun hc9 => ?_) (fun hc9 => ?_)
            · refine lv_aload_n hx hb d_sm_share_69 rfl (lv_at hl 0 rfl) ?_
              refine lv_iload_n hx hb d_sm_share_70 rfl (lv_at hl 1 rfl) ?_
              refine lv_iload_n hx hb d_sm_share_71 rfl (lv_at hl 2 rfl) ?_
              refine ev_v (C := "ShareDeskModel") hx hb hml hown hg (c_sm_give l D cJ cZ x mw ms mk mg H.size n d mm (nI 0) gw gs gg w hn1 hn8 hw hgw hW hd hm) ⟨k_261, k_263, ks_9, k_2, k_264⟩ n_sm_give ⟨rfl, rfl, by decide, by decide⟩ hK hP hD hS hA [0, 1, 2, 4] [3] rfl rfl (wr := [aL mk cJ gk]) rfl rfl (by decide) (va_recv (q0 := 0) (ci := 1) hK hP rfl rfl) hl.1 rfl (Nat.le_of_ble_eq_true rfl) d_sm_share_72 ⟨by decide, by decide⟩ (fun ug H locs hug hP hD hS => ?_)
              have hP : va_P D cls2 [oM x (nI 0) (nI n) mw ms mk mg, aL mw cJ gw, aL ms cJ ug.1, aL mk cJ gk, aI mg cZ ug.2] H := hP.sub [1, 2, 3, 0, 4] rfl
              have hD : va_D A [oM x (nI 0) (nI n) mw ms mk mg, aL mw cJ gw, aL ms cJ ug.1, aL mk cJ gk, aI mg cZ ug.2] := hD.sub [1, 2, 3, 0, 4] rfl rfl
              refine lv_aload_n hx hb d_sm_share_75 rfl (lv_at hl 0 rfl) ?_
              refine sm_get hx hb hg hown hK hP 0 rfl 3 (by decide) k_205 rfl d_sm_share_76 ?_
              refine lv_iload_n hx hb d_sm_share_79 rfl (lv_at hl 3 rfl) ?_
              refine xa_lald hx hb hK hP 2 0 rfl rfl (by omega) d_sm_share_80 (v := lN (pu_sh n w d mm pp)) (hug pp hp) ?_
              refine lv_l2i (v := nI (pu_sh n w d mm pp)) hx hb d_sm_share_81 (lN_i _) ?_
              exact en_gi (ug.1, gk, ug.2) hx hb hr hlk rfl hP hK hD hS d_sm_share_82
            · exact absurd hc9 (by decide)
          · exact absurd hz (by omega)
      · exact absurd hc9 (by decide)
set_option maxRecDepth 10000 in
set_option maxHeartbeats 4000000 in
theorem c_sm_share1 (l : Launch) (D : va_G) (cJ cZ : ClassId) (x mw ms mk mg sz n : Nat) (er v t y : Int32) (gw : Nat → Int64) (hn1 : 1 ≤ n) (hn8 : n ≤ 8) (h : ¬ (0 ≤ v.toInt ∧ v.toInt < 3 ∧ 0 ≤ t.toInt ∧ t.toInt ≤ 10000 ∧ 0 ≤ y.toInt ∧ y.toInt < (n : Int))) : Met l y_sm_share w_sm_share (rL 3 0 0) (va_Pc [.ref x, .int v, .int t, .int y] (gP D [(cJ, .long), (cZ, .boolean)] [oM x er (nI n) mw ms mk mg, aL mw cJ gw] sz)) (va_Qi (fun _ _ => True) (gB D [(cJ, .long), (cZ, .boolean)] (va_A [oM x er (nI n) mw ms mk mg, aL mw cJ gw] sz) (fun u : Unit => [oM x (nI 1) (nI n) mw ms mk mg, aL mw cJ gw])) (va_A [oM x er (nI n) mw ms mk mg, aL mw cJ gw] sz)) 0 0 (va_A [oM x er (nI n) mw ms mk mg, aL mw cJ gw] sz) := by
  refine Met.ofW (cc := b_sm_share) (maxL := 4) (ret := (some .int)) (by decide) rfl ?_
  intro p e s m args below meth c s₁ B hml hv
  obtain ⟨rfl, hsz, hP, hK, hD0⟩ := hv
  have hx := B.exec
  have hb := B.bytes
  have hr := B.returns
  have hts := atoms_spec (ws := w_sm_share) B.pre
  have hg : ∀ w ∈ gws, w.before ([.ref x, .int v, .int t, .int y] : List Value).toArray s = true := fun w hw => hts w (List.mem_cons_of_mem _ hw)
  have hown : s.vm.findClass "ShareDeskModel" = some m.cls := findClass_of_methodNamed B.named
  have hlk := B.notSynchronized
  subst hsz
  have hD := hD0.self (sz := s.heap.size)
  generalize hAe : va_A [oM x er (nI n) mw ms mk mg, aL mw cJ gw] s.heap.size = A at hD ⊢
  have hA : ∀ q : Nat, s.heap.size ≤ q → A q := fun q h => by rw [← hAe]; exact Or.inr h
  have hS : va_S A s.heap s.heap [] := va_S.rf
  have hP : va_P D cls2 [oM x er (nI n) mw ms mk mg, aL mw cJ gw] s.heap := hP
  have hl := lv_entry ([.ref x, .int v, .int t, .int y]) (n := 4) (Nat.le_of_ble_eq_true rfl)
  rw [lg_entry_eq]
  generalize (lg_sl ([.ref x, .int v, .int t, .int y]) ++ List.replicate (4 - (lg_sl ([.ref x, .int v, .int t, .int y])).length) Slot.unset).toArray = ls at hl ⊢
  have hl : lv_has ls 4 [(0, .ref x), (1, .int v), (2, .int t), (3, .int y)] := hl
  refine lv_aload_n hx hb d_sm_share_0 rfl (lv_at hl 0 rfl) ?_
  refine lv_iconst (v := nI 0) hx hb d_sm_share_1 (by decide) ?_
  refine sm_put hx hb hg hown hK hP hD hS 0 rfl 0 (by decide) k_202 rfl (by decide +kernel) (Nat.le_of_ble_eq_true rfl) d_sm_share_2 (fun H locs hP hD hS => ?_)
  have hP : va_P D cls2 [oM x (nI 0) (nI n) mw ms mk mg, aL mw cJ gw] H := hP
  have hD : va_D A [oM x (nI 0) (nI n) mw ms mk mg, aL mw cJ gw] := hD
  refine lv_aload_n hx hb d_sm_share_5 rfl (lv_at hl 0 rfl) ?_
  refine lv_iload_n hx hb d_sm_share_6 rfl (lv_at hl 1 rfl) ?_
  refine ps_i hx hb hml hown hg (c_sm_isWay l v) ⟨k_252, k_253, k_2, k_254⟩ n_sm_isWay ⟨rfl, rfl, by decide, by decide⟩ hl.1 rfl (Nat.le_of_ble_eq_true rfl) d_sm_share_7 ⟨by decide, by decide⟩ (fun r1 hq1 => ?_)
  refine lv_if_eq (tgt := 33) hx hb d_sm_share_10 (by decide) (fun b1 => ?_) (fun b1 => ?_)
  · refine lv_iconst (v := nI 1) hx hb d_sm_share_33 (by decide) ?_
    refine lv_goto (tgt := 38) hx hb d_sm_share_34 (by decide) ?_
    refine lv_iconst (v := nI 1) hx hb d_sm_share_38 (by decide) ?_
    refine ev_i (C := "ShareDeskModel") hx hb hml hown hg (c_sm_fails1 l D [(cJ, .long), (cZ, .boolean)] x mw ms mk mg H.size 1 (nI n) (by decide) (by decide)) ⟨k_235, k_237, ks_6, k_2, k_238⟩ n_sm_fails ⟨rfl, rfl, by decide, by decide⟩ hK hP hD hS hA [0] [1] rfl rfl (wr := [aL mw cJ gw]) rfl rfl (by decide) (va_recv (q0 := 0) (ci := 1) hK hP rfl rfl) hl.1 rfl (Nat.le_of_ble_eq_true rfl) d_sm_share_39 ⟨by decide, by decide⟩ (fun rf _u H locs hf hP hD hS => ?_)
    have hP : va_P D cls2 [oM x (nI 1) (nI n) mw ms mk mg, aL mw cJ gw] H := hP.sub [1, 0] rfl
    have hD : va_D A [oM x (nI 1) (nI n) mw ms mk mg, aL mw cJ gw] := hD.sub [1, 0] rfl rfl
    subst hf
    refine xz_ne (tgt := 67) hx hb d_sm_share_42 (by decide) (by omega) (fun hc9 => ?_) (fun hc9 => ?_)
    · refine lv_iconst (v := nI 0) hx hb d_sm_share_67 (by decide) ?_
      exact en_gi () hx hb hr hlk trivial hP hK hD hS d_sm_share_68
    · exact absurd hc9 (by decide)
  · refine lv_iload_n hx hb d_sm_share_13 rfl (lv_at hl 2 rfl) ?_
    refine lv_i2l hx hb d_sm_share_14 rfl ?_
    refine lv_lconst (v := lN 0) hx hb d_sm_share_15 (by decide) ?_
    refine lv_ldc2 hx hb hown (hg _ k_256) d_sm_share_16 ?_
    refine xr_l (show (10000 : Int64) = lN 10000 by decide) ?_
    refine ps_i hx hb hml hown hg (c_sm_in l t.toInt64 (lN 0) (lN 10000)) ⟨k_232, k_233, k_2, k_234⟩ n_sm_in ⟨rfl, rfl, by decide, by decide⟩ hl.1 rfl (Nat.le_of_ble_eq_true rfl) d_sm_share_19 ⟨by decide, by decide⟩ (fun r2 hq2 => ?_)
    have hq2 := qIn_of (v := t) (a := 0) (b := 10000) (by decide) (by decide) hq2
    refine lv_if_eq (tgt := 33) hx hb d_sm_share_22 (by decide) (fun b2 => ?_) (fun b2 => ?_)
    · refine lv_iconst (v := nI 1) hx hb d_sm_share_33 (by decide) ?_
      refine lv_goto (tgt := 38) hx hb d_sm_share_34 (by decide) ?_
      refine lv_iconst (v := nI 1) hx hb d_sm_share_38 (by decide) ?_
      refine ev_i (C := "ShareDeskModel") hx hb hml hown hg (c_sm_fails1 l D [(cJ, .long), (cZ, .boolean)] x mw ms mk mg H.size 1 (nI n) (by decide) (by decide)) ⟨k_235, k_237, ks_6, k_2, k_238⟩ n_sm_fails ⟨rfl, rfl, by decide, by decide⟩ hK hP hD hS hA [0] [1] rfl rfl (wr := [aL mw cJ gw]) rfl rfl (by decide) (va_recv (q0 := 0) (ci := 1) hK hP rfl rfl) hl.1 rfl (Nat.le_of_ble_eq_true rfl) d_sm_share_39 ⟨by decide, by decide⟩ (fun rf _u H locs hf hP hD hS => ?_)
      have hP : va_P D cls2 [oM x (nI 1) (nI n) mw ms mk mg, aL mw cJ gw] H := hP.sub [1, 0] rfl
      have hD : va_D A [oM x (nI 1) (nI n) mw ms mk mg, aL mw cJ gw] := hD.sub [1, 0] rfl rfl
      subst hf
      refine xz_ne (tgt := 67) hx hb d_sm_share_42 (by decide) (by omega) (fun hc9 => ?_) (fun hc9 => ?_)
      · refine lv_iconst (v := nI 0) hx hb d_sm_share_67 (by decide) ?_
        exact en_gi () hx hb hr hlk trivial hP hK hD hS d_sm_share_68
      · exact absurd hc9 (by decide)
    · refine lv_aload_n hx hb d_sm_share_25 rfl (lv_at hl 0 rfl) ?_
      refine lv_iload_n hx hb d_sm_share_26 rfl (lv_at hl 3 rfl) ?_
      refine pv_i (C := "ShareDeskModel") hx hb hml hown hg (c_sm_isParty l D [(cJ, .long), (cZ, .boolean)] x mw ms mk mg H.size n (nI 0) y hn1 hn8) ⟨k_243, k_245, ks_7, k_2, k_246⟩ n_sm_isParty ⟨rfl, rfl, by decide, by decide⟩ hK (hP.sub [0] rfl) (hD.sub [0] rfl rfl) (va_recv (q0 := 0) (ci := 1) hK hP rfl rfl) hl.1 rfl (Nat.le_of_ble_eq_true rfl) d_sm_share_27 ⟨by decide, by decide⟩ (fun r3 hq3 => ?_)
      refine lv_if_ne (tgt := 37) hx hb d_sm_share_30 (by decide) (fun b3 => ?_) (fun b3 => ?_)
      · have a1 : ¬ (v.toInt < ((0 : Nat) : Int) ∨ ((2 : Nat) : Int) < v.toInt) := fun z => b1 (by rw [hq1.2 z]; exact nI_0)
        have a2 : ¬ (t.toInt < ((0 : Nat) : Int) ∨ ((10000 : Nat) : Int) < t.toInt) := fun z => b2 (by rw [hq2.2 z]; exact nI_0)
        have a3 : ¬ (y.toInt < ((0 : Nat) : Int) ∨ ((n - 1 : Nat) : Int) < y.toInt) := fun z => b3 (by rw [hq3.2 z]; exact nI_0)
        omega
      · refine lv_iconst (v := nI 1) hx hb d_sm_share_33 (by decide) ?_
        refine lv_goto (tgt := 38) hx hb d_sm_share_34 (by decide) ?_
        refine lv_iconst (v := nI 1) hx hb d_sm_share_38 (by decide) ?_
        refine ev_i (C := "ShareDeskModel") hx hb hml hown hg (c_sm_fails1 l D [(cJ, .long), (cZ, .boolean)] x mw ms mk mg H.size 1 (nI n) (by decide) (by decide)) ⟨k_235, k_237, ks_6, k_2, k_238⟩ n_sm_fails ⟨rfl, rfl, by decide, by decide⟩ hK hP hD hS hA [0] [1] rfl rfl (wr := [aL mw cJ gw]) rfl rfl (by decide) (va_recv (q0 := 0) (ci := 1) hK hP rfl rfl) hl.1 rfl (Nat.le_of_ble_eq_true rfl) d_sm_share_39 ⟨by decide, by decide⟩ (fun rf _u H locs hf hP hD hS => ?_)
        have hP : va_P D cls2 [oM x (nI 1) (nI n) mw ms mk mg, aL mw cJ gw] H := hP.sub [1, 0] rfl
        have hD : va_D A [oM x (nI 1) (nI n) mw ms mk mg, aL mw cJ gw] := hD.sub [1, 0] rfl rfl
        subst hf
        refine xz_ne (tgt := 67) hx hb d_sm_share_42 (by decide) (by omega) (fun hc9 => ?_) (fun hc9 => ?_)
        · refine lv_iconst (v := nI 0) hx hb d_sm_share_67 (by decide) ?_
          exact en_gi () hx hb hr hlk trivial hP hK hD hS d_sm_share_68
        · exact absurd hc9 (by decide)
set_option maxRecDepth 10000 in
set_option maxHeartbeats 4000000 in
theorem c_sm_share2 (l : Launch) (D : va_G) (cJ cZ : ClassId) (x mw ms mk mg sz n d mm pp : Nat) (er : Int32) (gw : Nat → Int64) (w : Nat → Nat) (hn1 : 1 ≤ n) (hn8 : n ≤ 8) (hw : ∀ q, w q ≤ 100000) (hgw : ∀ q, q < 8 → gw q = lN (w q)) (hW0 : pu_sum w n = 0) (hd : d < 3) (hm : mm ≤ 10000) (hp : pp < n) : Met l y_sm_share w_sm_share (rL 3 0 0) (va_Pc [.ref x, .int (nI d), .int (nI mm), .int (nI pp)] (gP D [(cJ, .long), (cZ, .boolean)] [oM x er (nI n) mw ms mk mg, aL mw cJ gw] sz)) (va_Qi (fun _ _ => True) (gB D [(cJ, .long), (cZ, .boolean)] (va_A [oM x er (nI n) mw ms mk mg, aL mw cJ gw] sz) (fun u : Unit => [oM x (nI 2) (nI n) mw ms mk mg, aL mw cJ gw])) (va_A [oM x er (nI n) mw ms mk mg, aL mw cJ gw] sz)) 0 0 (va_A [oM x er (nI n) mw ms mk mg, aL mw cJ gw] sz) := by
  refine Met.ofW (cc := b_sm_share) (maxL := 4) (ret := (some .int)) (by decide) rfl ?_
  intro p e s m args below meth c s₁ B hml hv
  obtain ⟨rfl, hsz, hP, hK, hD0⟩ := hv
  have hx := B.exec
  have hb := B.bytes
  have hr := B.returns
  have hts := atoms_spec (ws := w_sm_share) B.pre
  have hg : ∀ w ∈ gws, w.before ([.ref x, .int (nI d), .int (nI mm), .int (nI pp)] : List Value).toArray s = true := fun w hw => hts w (List.mem_cons_of_mem _ hw)
  have hown : s.vm.findClass "ShareDeskModel" = some m.cls := findClass_of_methodNamed B.named
  have hlk := B.notSynchronized
  subst hsz
  have hD := hD0.self (sz := s.heap.size)
  generalize hAe : va_A [oM x er (nI n) mw ms mk mg, aL mw cJ gw] s.heap.size = A at hD ⊢
  have hA : ∀ q : Nat, s.heap.size ≤ q → A q := fun q h => by rw [← hAe]; exact Or.inr h
  have hS : va_S A s.heap s.heap [] := va_S.rf
  have hP : va_P D cls2 [oM x er (nI n) mw ms mk mg, aL mw cJ gw] s.heap := hP
  have hl := lv_entry ([.ref x, .int (nI d), .int (nI mm), .int (nI pp)]) (n := 4) (Nat.le_of_ble_eq_true rfl)
  rw [lg_entry_eq]
  generalize (lg_sl ([.ref x, .int (nI d), .int (nI mm), .int (nI pp)]) ++ List.replicate (4 - (lg_sl ([.ref x, .int (nI d), .int (nI mm), .int (nI pp)])).length) Slot.unset).toArray = ls at hl ⊢
  have hl : lv_has ls 4 [(0, .ref x), (1, .int (nI d)), (2, .int (nI mm)), (3, .int (nI pp))] := hl
  refine lv_aload_n hx hb d_sm_share_0 rfl (lv_at hl 0 rfl) ?_
  refine lv_iconst (v := nI 0) hx hb d_sm_share_1 (by decide) ?_
  refine sm_put hx hb hg hown hK hP hD hS 0 rfl 0 (by decide) k_202 rfl (by decide +kernel) (Nat.le_of_ble_eq_true rfl) d_sm_share_2 (fun H locs hP hD hS => ?_)
  have hP : va_P D cls2 [oM x (nI 0) (nI n) mw ms mk mg, aL mw cJ gw] H := hP
  have hD : va_D A [oM x (nI 0) (nI n) mw ms mk mg, aL mw cJ gw] := hD
  refine lv_aload_n hx hb d_sm_share_5 rfl (lv_at hl 0 rfl) ?_
  refine lv_iload_n hx hb d_sm_share_6 rfl (lv_at hl 1 rfl) ?_
  refine ps_i hx hb hml hown hg (c_sm_isWay l (nI d)) ⟨k_252, k_253, k_2, k_254⟩ n_sm_isWay ⟨rfl, rfl, by decide, by decide⟩ hl.1 rfl (Nat.le_of_ble_eq_true rfl) d_sm_share_7 ⟨by decide, by decide⟩ (fun r1 h1 => ?_)
  obtain rfl := qIn_nat h1 (by omega) (by omega) (by omega)
  refine xz_eq (tgt := 33) hx hb d_sm_share_10 (by decide) (by omega) (fun hc9 => ?_) (fun hc9 => ?_)
  · exact absurd hc9 (by decide)
  · refine lv_iload_n hx hb d_sm_share_13 rfl (lv_at hl 2 rfl) ?_
    refine lv_i2l (v := lN mm) hx hb d_sm_share_14 (nI_l (by omega)) ?_
    refine lv_lconst (v := lN 0) hx hb d_sm_share_15 (by decide) ?_
    refine lv_ldc2 hx hb hown (hg _ k_256) d_sm_share_16 ?_
    refine xr_l (show (10000 : Int64) = lN 10000 by decide) ?_
    refine ps_i hx hb hml hown hg (c_sm_in l (lN mm) (lN 0) (lN 10000)) ⟨k_232, k_233, k_2, k_234⟩ n_sm_in ⟨rfl, rfl, by decide, by decide⟩ hl.1 rfl (Nat.le_of_ble_eq_true rfl) d_sm_share_19 ⟨by decide, by decide⟩ (fun r2 h2 => ?_)
    obtain rfl := in_nat h2 (by omega) (by omega) (by omega)
    refine xz_eq (tgt := 33) hx hb d_sm_share_22 (by decide) (by omega) (fun hc9 => ?_) (fun hc9 => ?_)
    · exact absurd hc9 (by decide)
    · refine lv_aload_n hx hb d_sm_share_25 rfl (lv_at hl 0 rfl) ?_
      refine lv_iload_n hx hb d_sm_share_26 rfl (lv_at hl 3 rfl) ?_
      refine pv_i (C := "ShareDeskModel") hx hb hml hown hg (c_sm_isParty l D [(cJ, .long), (cZ, .boolean)] x mw ms mk mg H.size n (nI 0) (nI pp) hn1 hn8) ⟨k_243, k_245, ks_7, k_2, k_246⟩ n_sm_isParty ⟨rfl, rfl, by decide, by decide⟩ hK (hP.sub [0] rfl) (hD.sub [0] rfl rfl) (va_recv (q0 := 0) (ci := 1) hK hP rfl rfl) hl.1 rfl (Nat.le_of_ble_eq_true rfl) d_sm_share_27 ⟨by decide, by decide⟩ (fun r3 h3 => ?_)
      obtain rfl := qIn_nat h3 (by omega) (by omega) (by omega)
      refine xz_ne (tgt := 37) hx hb d_sm_share_30 (by decide) (by omega) (fun hc9 => ?_) (fun hc9 => ?_)
      · refine lv_iconst (v := nI 0) hx hb d_sm_share_37 (by decide) ?_
        refine lv_iconst (v := nI 1) hx hb d_sm_share_38 (by decide) ?_
        refine pv_i (C := "ShareDeskModel") hx hb hml hown hg (c_sm_fails0 l D [(cJ, .long), (cZ, .boolean)] x mw ms mk mg H.size 1 (nI n)) ⟨k_235, k_237, ks_6, k_2, k_238⟩ n_sm_fails ⟨rfl, rfl, by decide, by decide⟩ hK (hP.sub [0] rfl) (hD.sub [0] rfl rfl) (va_recv (q0 := 0) (ci := 1) hK hP rfl rfl) hl.1 rfl (Nat.le_of_ble_eq_true rfl) d_sm_share_39 ⟨by decide, by decide⟩ (fun rf hf => ?_)
        subst hf
        refine xz_ne (tgt := 67) hx hb d_sm_share_42 (by decide) (by omega) (fun hc9 => ?_) (fun hc9 => ?_)
        · exact absurd hc9 (by decide)
        · refine lv_aload_n hx hb d_sm_share_45 rfl (lv_at hl 0 rfl) ?_
          refine lv_aload_n hx hb d_sm_share_46 rfl (lv_at hl 0 rfl) ?_
          refine pv_l (C := "ShareDeskModel") hx hb hml hown hg (c_sm_all l D cJ cZ x mw ms mk mg H.size n (nI 0) gw w hn8 hgw) ⟨k_257, k_259, ks_8, k_2, k_260⟩ n_sm_all ⟨rfl, rfl, by decide, by decide⟩ hK (hP.sub [0, 1] rfl) (hD.sub [0, 1] rfl rfl) (va_recv (q0 := 0) (ci := 1) hK hP rfl rfl) hl.1 rfl (Nat.le_of_ble_eq_true rfl) d_sm_share_47 ⟨by decide, by decide⟩ (fun ra hra => ?_)
          subst hra
          refine lv_lconst (v := lN 0) hx hb d_sm_share_50 (by decide) ?_
          refine xl_ne (tgt := 59) hx hb d_sm_share_51 d_sm_share_52 (by decide) (by omega) (by omega) (fun hz => ?_) (fun hz => ?_)
          · exact absurd hW0 (by omega)
          · refine lv_iconst (v := nI 1) hx hb d_sm_share_55 (by decide) ?_
            refine lv_goto (tgt := 60) hx hb d_sm_share_56 (by decide) ?_
            refine lv_iconst (v := nI 2) hx hb d_sm_share_60 (by decide) ?_
            refine ev_i (C := "ShareDeskModel") hx hb hml hown hg (c_sm_fails1 l D [(cJ, .long), (cZ, .boolean)] x mw ms mk mg H.size 2 (nI n) (by decide) (by decide)) ⟨k_235, k_237, ks_6, k_2, k_238⟩ n_sm_fails ⟨rfl, rfl, by decide, by decide⟩ hK hP hD hS hA [0] [1] rfl rfl (wr := [aL mw cJ gw]) rfl rfl (by decide) (va_recv (q0 := 0) (ci := 1) hK hP rfl rfl) hl.1 rfl (Nat.le_of_ble_eq_true rfl) d_sm_share_61 ⟨by decide, by decide⟩ (fun rf _u H locs hf hP hD hS => ?_)
            have hP : va_P D cls2 [oM x (nI 2) (nI n) mw ms mk mg, aL mw cJ gw] H := hP.sub [1, 0] rfl
            have hD : va_D A [oM x (nI 2) (nI n) mw ms mk mg, aL mw cJ gw] := hD.sub [1, 0] rfl rfl
            subst hf
            refine xz_eq (tgt := 69) hx hb d_sm_share_64 (by decide) (by omega) (fun hc9 => ?_) (fun hc9 => ?_)
            · exact absurd hc9 (by decide)
            · refine lv_iconst (v := nI 0) hx hb d_sm_share_67 (by decide) ?_
              exact en_gi () hx hb hr hlk trivial hP hK hD hS d_sm_share_68
      · exact absurd hc9 (by decide)
set_option maxRecDepth 10000 in
set_option maxHeartbeats 4000000 in
theorem c_sm_over (l : Launch) (D : va_G) (cJ cZ : ClassId) (x mw ms mk mg sz n d mm pp : Nat) (er : Int32) (gw gs gk : Nat → Int64) (gg : Nat → Int32) (w : Nat → Nat) (hn1 : 1 ≤ n) (hn8 : n ≤ 8) (hw : ∀ q, w q ≤ 100000) (hgw : ∀ q, q < 8 → gw q = lN (w q)) (hW : 0 < pu_sum w n) (hd : d < 3) (hm : mm ≤ 10000) (hp : pp < n) : Met l y_sm_over w_sm_over (rL 3 0 0) (va_Pc [.ref x, .int (nI d), .int (nI mm), .int (nI pp)] (gP D [(cJ, .long), (cZ, .boolean)] [oM x er (nI n) mw ms mk mg, aL mw cJ gw, aL ms cJ gs, aL mk cJ gk, aI mg cZ gg] sz)) (va_Ql (fun r _ => r = lN (pu_sh n w d mm pp * pu_sum w n) - lN (mm * w pp)) (gB D [(cJ, .long), (cZ, .boolean)] (va_A [oM x er (nI n) mw ms mk mg, aL mw cJ gw, aL ms cJ gs, aL mk cJ gk, aI mg cZ gg] sz) (fun u : (Nat → Int64) × (Nat → Int64) × (Nat → Int32) => [oM x (nI 0) (nI n) mw ms mk mg, aL mw cJ gw, aL ms cJ u.1, aL mk cJ u.2.1, aI mg cZ u.2.2])) (va_A [oM x er (nI n) mw ms mk mg, aL mw cJ gw, aL ms cJ gs, aL mk cJ gk, aI mg cZ gg] sz)) 0 0 (va_A [oM x er (nI n) mw ms mk mg, aL mw cJ gw, aL ms cJ gs, aL mk cJ gk, aI mg cZ gg] sz) := by
  refine Met.ofW (cc := b_sm_over) (maxL := 4) (ret := (some .long)) (by decide) rfl ?_
  intro p e s m args below meth c s₁ B hml hv
  obtain ⟨rfl, hsz, hP, hK, hD0⟩ := hv
  have hx := B.exec
  have hb := B.bytes
  have hr := B.returns
  have hts := atoms_spec (ws := w_sm_over) B.pre
  have hg : ∀ w ∈ gws, w.before ([.ref x, .int (nI d), .int (nI mm), .int (nI pp)] : List Value).toArray s = true := fun w hw => hts w (List.mem_cons_of_mem _ hw)
  have hown : s.vm.findClass "ShareDeskModel" = some m.cls := findClass_of_methodNamed B.named
  have hlk := B.notSynchronized
  subst hsz
  have hD := hD0.self (sz := s.heap.size)
  generalize hAe : va_A [oM x er (nI n) mw ms mk mg, aL mw cJ gw, aL ms cJ gs, aL mk cJ gk, aI mg cZ gg] s.heap.size = A at hD ⊢
  have hA : ∀ q : Nat, s.heap.size ≤ q → A q := fun q h => by rw [← hAe]; exact Or.inr h
  have hS : va_S A s.heap s.heap [] := va_S.rf
  have hP : va_P D cls2 [oM x er (nI n) mw ms mk mg, aL mw cJ gw, aL ms cJ gs, aL mk cJ gk, aI mg cZ gg] s.heap := hP
  have hl := lv_entry ([.ref x, .int (nI d), .int (nI mm), .int (nI pp)]) (n := 4) (Nat.le_of_ble_eq_true rfl)
  rw [lg_entry_eq]
  generalize (lg_sl ([.ref x, .int (nI d), .int (nI mm), .int (nI pp)]) ++ List.replicate (4 - (lg_sl ([.ref x, .int (nI d), .int (nI mm), .int (nI pp)])).length) Slot.unset).toArray = ls at hl ⊢
  have hl : lv_has ls 4 [(0, .ref x), (1, .int (nI d)), (2, .int (nI mm)), (3, .int (nI pp))] := hl
  have hWb := pu_sum_bd hn8 hw
  have hwp := hw pp
  have hsh := Nat.le_trans (pu_sh_le (d := d) (m := mm) hW hp) hm
  refine lv_aload_n hx hb d_sm_over_0 rfl (lv_at hl 0 rfl) ?_
  refine lv_iconst (v := nI 0) hx hb d_sm_over_1 (by decide) ?_
  refine sm_put hx hb hg hown hK hP hD hS 0 rfl 0 (by decide) k_202 rfl (by decide +kernel) (Nat.le_of_ble_eq_true rfl) d_sm_over_2 (fun H locs hP hD hS => ?_)
  have hP : va_P D cls2 [oM x (nI 0) (nI n) mw ms mk mg, aL mw cJ gw, aL ms cJ gs, aL mk cJ gk, aI mg cZ gg] H := hP
  have hD : va_D A [oM x (nI 0) (nI n) mw ms mk mg, aL mw cJ gw, aL ms cJ gs, aL mk cJ gk, aI mg cZ gg] := hD
  refine lv_aload_n hx hb d_sm_over_5 rfl (lv_at hl 0 rfl) ?_
  refine lv_iload_n hx hb d_sm_over_6 rfl (lv_at hl 1 rfl) ?_
  refine ps_i hx hb hml hown hg (c_sm_isWay l (nI d)) ⟨k_252, k_253, k_2, k_254⟩ n_sm_isWay ⟨rfl, rfl, by decide, by decide⟩ hl.1 rfl (Nat.le_of_ble_eq_true rfl) d_sm_over_7 ⟨by decide, by decide⟩ (fun r1 h1 => ?_)
  obtain rfl := qIn_nat h1 (by omega) (by omega) (by omega)
  refine xz_eq (tgt := 33) hx hb d_sm_over_10 (by decide) (by omega) (fun hc9 => ?_) (fun hc9 => ?_)
  · exact absurd hc9 (by decide)
  · refine lv_iload_n hx hb d_sm_over_13 rfl (lv_at hl 2 rfl) ?_
    refine lv_i2l (v := lN mm) hx hb d_sm_over_14 (nI_l (by omega)) ?_
    refine lv_lconst (v := lN 0) hx hb d_sm_over_15 (by decide) ?_
    refine lv_ldc2 hx hb hown (hg _ k_256) d_sm_over_16 ?_
    refine xr_l (show (10000 : Int64) = lN 10000 by decide) ?_
    refine ps_i hx hb hml hown hg (c_sm_in l (lN mm) (lN 0) (lN 10000)) ⟨k_232, k_233, k_2, k_234⟩ n_sm_in ⟨rfl, rfl, by decide, by decide⟩ hl.1 rfl (Nat.le_of_ble_eq_true rfl) d_sm_over_19 ⟨by decide, by decide⟩ (fun r2 h2 => ?_)
    obtain rfl := in_nat h2 (by omega) (by omega) (by omega)
    refine xz_eq (tgt := 33) hx hb d_sm_over_22 (by decide) (by omega) (fun hc9 => ?_) (fun hc9 => ?_)
    · exact absurd hc9 (by decide)
    · refine lv_aload_n hx hb d_sm_over_25 rfl (lv_at hl 0 rfl) ?_
      refine lv_iload_n hx hb d_sm_over_26 rfl (lv_at hl 3 rfl) ?_
      refine pv_i (C := "ShareDeskModel") hx hb hml hown hg (c_sm_isParty l D [(cJ, .long), (cZ, .boolean)] x mw ms mk mg H.size n (nI 0) (nI pp) hn1 hn8) ⟨k_243, k_245, ks_7, k_2, k_246⟩ n_sm_isParty ⟨rfl, rfl, by decide, by decide⟩ hK (hP.sub [0] rfl) (hD.sub [0] rfl rfl) (va_recv (q0 := 0) (ci := 1) hK hP rfl rfl) hl.1 rfl (Nat.le_of_ble_eq_true rfl) d_sm_over_27 ⟨by decide, by decide⟩ (fun r3 h3 => ?_)
      obtain rfl := qIn_nat h3 (by omega) (by omega) (by omega)
      refine xz_ne (tgt := 37) hx hb d_sm_over_30 (by decide) (by omega) (fun hc9 => ?_) (fun hc9 => ?_)
      · refine lv_iconst (v := nI 0) hx hb d_sm_over_37 (by decide) ?_
        refine lv_iconst (v := nI 1) hx hb d_sm_over_38 (by decide) ?_
        refine pv_i (C := "ShareDeskModel") hx hb hml hown hg (c_sm_fails0 l D [(cJ, .long), (cZ, .boolean)] x mw ms mk mg H.size 1 (nI n)) ⟨k_235, k_237, ks_6, k_2, k_238⟩ n_sm_fails ⟨rfl, rfl, by decide, by decide⟩ hK (hP.sub [0] rfl) (hD.sub [0] rfl rfl) (va_recv (q0 := 0) (ci := 1) hK hP rfl rfl) hl.1 rfl (Nat.le_of_ble_eq_true rfl) d_sm_over_39 ⟨by decide, by decide⟩ (fun rf hf => ?_)
        subst hf
        refine xz_ne (tgt := 67) hx hb d_sm_over_42 (by decide) (by omega) (fun hc9 => ?_) (fun hc9 => ?_)
        · exact absurd hc9 (by decide)
        · refine lv_aload_n hx hb d_sm_over_45 rfl (lv_at hl 0 rfl) ?_
          refine lv_aload_n hx hb d_sm_over_46 rfl (lv_at hl 0 rfl) ?_
          refine pv_l (C := "ShareDeskModel") hx hb hml hown hg (c_sm_all l D cJ cZ x mw ms mk mg H.size n (nI 0) gw w hn8 hgw) ⟨k_257, k_259, ks_8, k_2, k_260⟩ n_sm_all ⟨rfl, rfl, by decide, by decide⟩ hK (hP.sub [0, 1] rfl) (hD.sub [0, 1] rfl rfl) (va_recv (q0 := 0) (ci := 1) hK hP rfl rfl) hl.1 rfl (Nat.le_of_ble_eq_true rfl) d_sm_over_47 ⟨by decide, by decide⟩ (fun ra hra => ?_)
          subst hra
          refine lv_lconst (v := lN 0) hx hb d_sm_over_50 (by decide) ?_
          refine xl_ne (tgt := 59) hx hb d_sm_over_51 d_sm_over_52 (by decide) (by omega) (by omega) (fun hz => ?_) (fun hz => ?_)
          · refine lv_iconst (v := nI 0) hx hb d_sm_over_59 (by decide) ?_
            refine lv_iconst (v := nI 2) hx hb d_sm_over_60 (by decide) ?_
            refine pv_i (C := "ShareDeskModel") hx hb hml hown hg (c_sm_fails0 l D [(cJ, .long), (cZ, .boolean)] x mw ms mk mg H.size 2 (nI n)) ⟨k_235, k_237, ks_6, k_2, k_238⟩ n_sm_fails ⟨rfl, rfl, by decide, by decide⟩ hK (hP.sub [0] rfl) (hD.sub [0] rfl rfl) (va_recv (q0 := 0) (ci := 1) hK hP rfl rfl) hl.1 rfl (Nat.le_of_ble_eq_true rfl) d_sm_over_61 ⟨by decide, by decide⟩ (fun rf hf => ?_)
            subst hf
            refine xz_eq (tgt := 69) hx hb d_sm_over_64 (by decide) (by omega) (fun hc9 => ?_) (fun hc9 => ?_)
            · refine lv_aload_n hx hb d_sm_over_69 rfl (lv_at hl 0 rfl) ?_
              refine lv_iload_n hx hb d_sm_over_70 rfl (lv_at hl 1 rfl) ?_
              refine lv_iload_n hx hb d_sm_over_71 rfl (lv_at hl 2 rfl) ?_
              refine ev_v (C := "ShareDeskModel") hx hb hml hown hg (c_sm_give l D cJ cZ x mw ms mk mg H.size n d mm (nI 0) gw gs gg w hn1 hn8 hw hgw hW hd hm) ⟨k_261, k_263, ks_9, k_2, k_264⟩ n_sm_give ⟨rfl, rfl, by decide, by decide⟩ hK hP hD hS hA [0, 1, 2, 4] [3] rfl rfl (wr := [aL mk cJ gk]) rfl rfl (by decide) (va_recv (q0 := 0) (ci := 1) hK hP rfl rfl) hl.1 rfl (Nat.le_of_ble_eq_true rfl) d_sm_over_72 ⟨by decide, by decide⟩ (fun ug H locs hug hP hD hS => ?_)
              have hP : va_P D cls2 [oM x (nI 0) (nI n) mw ms mk mg, aL mw cJ gw, aL ms cJ ug.1, aL mk cJ gk, aI mg cZ ug.2] H := hP.sub [1, 2, 3, 0, 4] rfl
              have hD : va_D A [oM x (nI 0) (nI n) mw ms mk mg, aL mw cJ gw, aL ms cJ ug.1, aL mk cJ gk, aI mg cZ ug.2] := hD.sub [1, 2, 3, 0, 4] rfl rfl
              refine lv_aload_n hx hb d_sm_over_75 rfl (lv_at hl 0 rfl) ?_
              refine sm_get hx hb hg hown hK hP 0 rfl 3 (by decide) k_205 rfl d_sm_over_76 ?_
              refine lv_iload_n hx hb d_sm_over_79 rfl (lv_at hl 3 rfl) ?_
              refine xa_lald hx hb hK hP 2 0 rfl rfl (by omega) d_sm_over_80 (v := lN (pu_sh n w d mm pp)) (hug pp hp) ?_
              refine lv_aload_n hx hb d_sm_over_81 rfl (lv_at hl 0 rfl) ?_
              refine pv_l (C := "ShareDeskModel") hx hb hml hown hg (c_sm_all l D cJ cZ x mw ms mk mg H.size n (nI 0) gw w hn8 hgw) ⟨k_257, k_259, ks_8, k_2, k_260⟩ n_sm_all ⟨rfl, rfl, by decide, by decide⟩ hK (hP.sub [0, 1] rfl) (hD.sub [0, 1] rfl rfl) (va_recv (q0 := 0) (ci := 1) hK hP rfl rfl) hl.1 rfl (Nat.le_of_ble_eq_true rfl) d_sm_over_82 ⟨by decide, by decide⟩ (fun ra hra => ?_)
              subst hra
              refine lv_lmul hx hb d_sm_over_85 ?_
              refine xr_l (lN_mul _ _) ?_
              refine lv_iload_n hx hb d_sm_over_86 rfl (lv_at hl 2 rfl) ?_
              refine lv_i2l (v := lN mm) hx hb d_sm_over_87 (nI_l (by omega)) ?_
              refine lv_aload_n hx hb d_sm_over_88 rfl (lv_at hl 0 rfl) ?_
              refine sm_get hx hb hg hown hK hP 0 rfl 2 (by decide) k_204 rfl d_sm_over_89 ?_
              refine lv_iload_n hx hb d_sm_over_92 rfl (lv_at hl 3 rfl) ?_
              refine xa_lald hx hb hK hP 1 0 rfl rfl (by omega) d_sm_over_93 (v := lN (w pp)) (hgw pp (by omega)) ?_
              refine lv_lmul hx hb d_sm_over_94 ?_
              refine xr_l (lN_mul _ _) ?_
              refine lv_lsub hx hb d_sm_over_95 ?_
              refine xr_l (y := lN (pu_sh n w d mm pp * pu_sum w n) - lN (mm * w pp)) rfl ?_
              exact en_gl (ug.1, gk, ug.2) hx hb hr hlk rfl hP hK hD hS d_sm_over_96
            · exact absurd hc9 (by decide)
          · exact absurd hz (by omega)
      · exact absurd hc9 (by decide)
set_option maxRecDepth 10000 in
set_option maxHeartbeats 4000000 in
theorem c_sm_over1 (l : Launch) (D : va_G) (cJ cZ : ClassId) (x mw ms mk mg sz n : Nat) (er v t y : Int32) (gw : Nat → Int64) (hn1 : 1 ≤ n) (hn8 : n ≤ 8) (h : ¬ (0 ≤ v.toInt ∧ v.toInt < 3 ∧ 0 ≤ t.toInt ∧ t.toInt ≤ 10000 ∧ 0 ≤ y.toInt ∧ y.toInt < (n : Int))) : Met l y_sm_over w_sm_over (rL 3 0 0) (va_Pc [.ref x, .int v, .int t, .int y] (gP D [(cJ, .long), (cZ, .boolean)] [oM x er (nI n) mw ms mk mg, aL mw cJ gw] sz)) (va_Ql (fun _ _ => True) (gB D [(cJ, .long), (cZ, .boolean)] (va_A [oM x er (nI n) mw ms mk mg, aL mw cJ gw] sz) (fun u : Unit => [oM x (nI 1) (nI n) mw ms mk mg, aL mw cJ gw])) (va_A [oM x er (nI n) mw ms mk mg, aL mw cJ gw] sz)) 0 0 (va_A [oM x er (nI n) mw ms mk mg, aL mw cJ gw] sz) := by
  refine Met.ofW (cc := b_sm_over) (maxL := 4) (ret := (some .long)) (by decide) rfl ?_
  intro p e s m args below meth c s₁ B hml hv
  obtain ⟨rfl, hsz, hP, hK, hD0⟩ := hv
  have hx := B.exec
  have hb := B.bytes
  have hr := B.returns
  have hts := atoms_spec (ws := w_sm_over) B.pre
  have hg : ∀ w ∈ gws, w.before ([.ref x, .int v, .int t, .int y] : List Value).toArray s = true := fun w hw => hts w (List.mem_cons_of_mem _ hw)
  have hown : s.vm.findClass "ShareDeskModel" = some m.cls := findClass_of_methodNamed B.named
  have hlk := B.notSynchronized
  subst hsz
  have hD := hD0.self (sz := s.heap.size)
  generalize hAe : va_A [oM x er (nI n) mw ms mk mg, aL mw cJ gw] s.heap.size = A at hD ⊢
  have hA : ∀ q : Nat, s.heap.size ≤ q → A q := fun q h => by rw [← hAe]; exact Or.inr h
  have hS : va_S A s.heap s.heap [] := va_S.rf
  have hP : va_P D cls2 [oM x er (nI n) mw ms mk mg, aL mw cJ gw] s.heap := hP
  have hl := lv_entry ([.ref x, .int v, .int t, .int y]) (n := 4) (Nat.le_of_ble_eq_true rfl)
  rw [lg_entry_eq]
  generalize (lg_sl ([.ref x, .int v, .int t, .int y]) ++ List.replicate (4 - (lg_sl ([.ref x, .int v, .int t, .int y])).length) Slot.unset).toArray = ls at hl ⊢
  have hl : lv_has ls 4 [(0, .ref x), (1, .int v), (2, .int t), (3, .int y)] := hl
  refine lv_aload_n hx hb d_sm_over_0 rfl (lv_at hl 0 rfl) ?_
  refine lv_iconst (v := nI 0) hx hb d_sm_over_1 (by decide) ?_
  refine sm_put hx hb hg hown hK hP hD hS 0 rfl 0 (by decide) k_202 rfl (by decide +kernel) (Nat.le_of_ble_eq_true rfl) d_sm_over_2 (fun H locs hP hD hS => ?_)
  have hP : va_P D cls2 [oM x (nI 0) (nI n) mw ms mk mg, aL mw cJ gw] H := hP
  have hD : va_D A [oM x (nI 0) (nI n) mw ms mk mg, aL mw cJ gw] := hD
  refine lv_aload_n hx hb d_sm_over_5 rfl (lv_at hl 0 rfl) ?_
  refine lv_iload_n hx hb d_sm_over_6 rfl (lv_at hl 1 rfl) ?_
  refine ps_i hx hb hml hown hg (c_sm_isWay l v) ⟨k_252, k_253, k_2, k_254⟩ n_sm_isWay ⟨rfl, rfl, by decide, by decide⟩ hl.1 rfl (Nat.le_of_ble_eq_true rfl) d_sm_over_7 ⟨by decide, by decide⟩ (fun r1 hq1 => ?_)
  refine lv_if_eq (tgt := 33) hx hb d_sm_over_10 (by decide) (fun b1 => ?_) (fun b1 => ?_)
  · refine lv_iconst (v := nI 1) hx hb d_sm_over_33 (by decide) ?_
    refine lv_goto (tgt := 38) hx hb d_sm_over_34 (by decide) ?_
    refine lv_iconst (v := nI 1) hx hb d_sm_over_38 (by decide) ?_
    refine ev_i (C := "ShareDeskModel") hx hb hml hown hg (c_sm_fails1 l D [(cJ, .long), (cZ, .boolean)] x mw ms mk mg H.size 1 (nI n) (by decide) (by decide)) ⟨k_235, k_237, ks_6, k_2, k_238⟩ n_sm_fails ⟨rfl, rfl, by decide, by decide⟩ hK hP hD hS hA [0] [1] rfl rfl (wr := [aL mw cJ gw]) rfl rfl (by decide) (va_recv (q0 := 0) (ci := 1) hK hP rfl rfl) hl.1 rfl (Nat.le_of_ble_eq_true rfl) d_sm_over_39 ⟨by decide, by decide⟩ (fun rf _u H locs hf hP hD hS => ?_)
    have hP : va_P D cls2 [oM x (nI 1) (nI n) mw ms mk mg, aL mw cJ gw] H := hP.sub [1, 0] rfl
    have hD : va_D A [oM x (nI 1) (nI n) mw ms mk mg, aL mw cJ gw] := hD.sub [1, 0] rfl rfl
    subst hf
    refine xz_ne (tgt := 67) hx hb d_sm_over_42 (by decide) (by omega) (fun hc9 => ?_) (fun hc9 => ?_)
    · refine lv_lconst (v := lN 0) hx hb d_sm_over_67 (by decide) ?_
      exact en_gl () hx hb hr hlk trivial hP hK hD hS d_sm_over_68
    · exact absurd hc9 (by decide)
  · refine lv_iload_n hx hb d_sm_over_13 rfl (lv_at hl 2 rfl) ?_
    refine lv_i2l hx hb d_sm_over_14 rfl ?_
    refine lv_lconst (v := lN 0) hx hb d_sm_over_15 (by decide) ?_
    refine lv_ldc2 hx hb hown (hg _ k_256) d_sm_over_16 ?_
    refine xr_l (show (10000 : Int64) = lN 10000 by decide) ?_
    refine ps_i hx hb hml hown hg (c_sm_in l t.toInt64 (lN 0) (lN 10000)) ⟨k_232, k_233, k_2, k_234⟩ n_sm_in ⟨rfl, rfl, by decide, by decide⟩ hl.1 rfl (Nat.le_of_ble_eq_true rfl) d_sm_over_19 ⟨by decide, by decide⟩ (fun r2 hq2 => ?_)
    have hq2 := qIn_of (v := t) (a := 0) (b := 10000) (by decide) (by decide) hq2
    refine lv_if_eq (tgt := 33) hx hb d_sm_over_22 (by decide) (fun b2 => ?_) (fun b2 => ?_)
    · refine lv_iconst (v := nI 1) hx hb d_sm_over_33 (by decide) ?_
      refine lv_goto (tgt := 38) hx hb d_sm_over_34 (by decide) ?_
      refine lv_iconst (v := nI 1) hx hb d_sm_over_38 (by decide) ?_
      refine ev_i (C := "ShareDeskModel") hx hb hml hown hg (c_sm_fails1 l D [(cJ, .long), (cZ, .boolean)] x mw ms mk mg H.size 1 (nI n) (by decide) (by decide)) ⟨k_235, k_237, ks_6, k_2, k_238⟩ n_sm_fails ⟨rfl, rfl, by decide, by decide⟩ hK hP hD hS hA [0] [1] rfl rfl (wr := [aL mw cJ gw]) rfl rfl (by decide) (va_recv (q0 := 0) (ci := 1) hK hP rfl rfl) hl.1 rfl (Nat.le_of_ble_eq_true rfl) d_sm_over_39 ⟨by decide, by decide⟩ (fun rf _u H locs hf hP hD hS => ?_)
      have hP : va_P D cls2 [oM x (nI 1) (nI n) mw ms mk mg, aL mw cJ gw] H := hP.sub [1, 0] rfl
      have hD : va_D A [oM x (nI 1) (nI n) mw ms mk mg, aL mw cJ gw] := hD.sub [1, 0] rfl rfl
      subst hf
      refine xz_ne (tgt := 67) hx hb d_sm_over_42 (by decide) (by omega) (fun hc9 => ?_) (fun hc9 => ?_)
      · refine lv_lconst (v := lN 0) hx hb d_sm_over_67 (by decide) ?_
        exact en_gl () hx hb hr hlk trivial hP hK hD hS d_sm_over_68
      · exact absurd hc9 (by decide)
    · refine lv_aload_n hx hb d_sm_over_25 rfl (lv_at hl 0 rfl) ?_
      refine lv_iload_n hx hb d_sm_over_26 rfl (lv_at hl 3 rfl) ?_
      refine pv_i (C := "ShareDeskModel") hx hb hml hown hg (c_sm_isParty l D [(cJ, .long), (cZ, .boolean)] x mw ms mk mg H.size n (nI 0) y hn1 hn8) ⟨k_243, k_245, ks_7, k_2, k_246⟩ n_sm_isParty ⟨rfl, rfl, by decide, by decide⟩ hK (hP.sub [0] rfl) (hD.sub [0] rfl rfl) (va_recv (q0 := 0) (ci := 1) hK hP rfl rfl) hl.1 rfl (Nat.le_of_ble_eq_true rfl) d_sm_over_27 ⟨by decide, by decide⟩ (fun r3 hq3 => ?_)
      refine lv_if_ne (tgt := 37) hx hb d_sm_over_30 (by decide) (fun b3 => ?_) (fun b3 => ?_)
      · have a1 : ¬ (v.toInt < ((0 : Nat) : Int) ∨ ((2 : Nat) : Int) < v.toInt) := fun z => b1 (by rw [hq1.2 z]; exact nI_0)
        have a2 : ¬ (t.toInt < ((0 : Nat) : Int) ∨ ((10000 : Nat) : Int) < t.toInt) := fun z => b2 (by rw [hq2.2 z]; exact nI_0)
        have a3 : ¬ (y.toInt < ((0 : Nat) : Int) ∨ ((n - 1 : Nat) : Int) < y.toInt) := fun z => b3 (by rw [hq3.2 z]; exact nI_0)
        omega
      · refine lv_iconst (v := nI 1) hx hb d_sm_over_33 (by decide) ?_
        refine lv_goto (tgt := 38) hx hb d_sm_over_34 (by decide) ?_
        refine lv_iconst (v := nI 1) hx hb d_sm_over_38 (by decide) ?_
        refine ev_i (C := "ShareDeskModel") hx hb hml hown hg (c_sm_fails1 l D [(cJ, .long), (cZ, .boolean)] x mw ms mk mg H.size 1 (nI n) (by decide) (by decide)) ⟨k_235, k_237, ks_6, k_2, k_238⟩ n_sm_fails ⟨rfl, rfl, by decide, by decide⟩ hK hP hD hS hA [0] [1] rfl rfl (wr := [aL mw cJ gw]) rfl rfl (by decide) (va_recv (q0 := 0) (ci := 1) hK hP rfl rfl) hl.1 rfl (Nat.le_of_ble_eq_true rfl) d_sm_over_39 ⟨by decide, by decide⟩ (fun rf _u H locs hf hP hD hS => ?_)
        have hP : va_P D cls2 [oM x (nI 1) (nI n) mw ms mk mg, aL mw cJ gw] H := hP.sub [1, 0] rfl
        have hD : va_D A [oM x (nI 1) (nI n) mw ms mk mg, aL mw cJ gw] := hD.sub [1, 0] rfl rfl
        subst hf
        refine xz_ne (tgt := 67) hx hb d_sm_over_42 (by decide) (by omega) (fun hc9 => ?_) (fun hc9 => ?_)
        · refine lv_lconst (v := lN 0) hx hb d_sm_over_67 (by decide) ?_
          exact en_gl () hx hb hr hlk trivial hP hK hD hS d_sm_over_68
        · exact absurd hc9 (by decide)
set_option maxRecDepth 10000 in
set_option maxHeartbeats 4000000 in
theorem c_sm_over2 (l : Launch) (D : va_G) (cJ cZ : ClassId) (x mw ms mk mg sz n d mm pp : Nat) (er : Int32) (gw : Nat → Int64) (w : Nat → Nat) (hn1 : 1 ≤ n) (hn8 : n ≤ 8) (hw : ∀ q, w q ≤ 100000) (hgw : ∀ q, q < 8 → gw q = lN (w q)) (hW0 : pu_sum w n = 0) (hd : d < 3) (hm : mm ≤ 10000) (hp : pp < n) : Met l y_sm_over w_sm_over (rL 3 0 0) (va_Pc [.ref x, .int (nI d), .int (nI mm), .int (nI pp)] (gP D [(cJ, .long), (cZ, .boolean)] [oM x er (nI n) mw ms mk mg, aL mw cJ gw] sz)) (va_Ql (fun _ _ => True) (gB D [(cJ, .long), (cZ, .boolean)] (va_A [oM x er (nI n) mw ms mk mg, aL mw cJ gw] sz) (fun u : Unit => [oM x (nI 2) (nI n) mw ms mk mg, aL mw cJ gw])) (va_A [oM x er (nI n) mw ms mk mg, aL mw cJ gw] sz)) 0 0 (va_A [oM x er (nI n) mw ms mk mg, aL mw cJ gw] sz) := by
  refine Met.ofW (cc := b_sm_over) (maxL := 4) (ret := (some .long)) (by decide) rfl ?_
  intro p e s m args below meth c s₁ B hml hv
  obtain ⟨rfl, hsz, hP, hK, hD0⟩ := hv
  have hx := B.exec
  have hb := B.bytes
  have hr := B.returns
  have hts := atoms_spec (ws := w_sm_over) B.pre
  have hg : ∀ w ∈ gws, w.before ([.ref x, .int (nI d), .int (nI mm), .int (nI pp)] : List Value).toArray s = true := fun w hw => hts w (List.mem_cons_of_mem _ hw)
  have hown : s.vm.findClass "ShareDeskModel" = some m.cls := findClass_of_methodNamed B.named
  have hlk := B.notSynchronized
  subst hsz
  have hD := hD0.self (sz := s.heap.size)
  generalize hAe : va_A [oM x er (nI n) mw ms mk mg, aL mw cJ gw] s.heap.size = A at hD ⊢
  have hA : ∀ q : Nat, s.heap.size ≤ q → A q := fun q h => by rw [← hAe]; exact Or.inr h
  have hS : va_S A s.heap s.heap [] := va_S.rf
  have hP : va_P D cls2 [oM x er (nI n) mw ms mk mg, aL mw cJ gw] s.heap := hP
  have hl := lv_entry ([.ref x, .int (nI d), .int (nI mm), .int (nI pp)]) (n := 4) (Nat.le_of_ble_eq_true rfl)
  rw [lg_entry_eq]
  generalize (lg_sl ([.ref x, .int (nI d), .int (nI mm), .int (nI pp)]) ++ List.replicate (4 - (lg_sl ([.ref x, .int (nI d), .int (nI mm), .int (nI pp)])).length) Slot.unset).toArray = ls at hl ⊢
  have hl : lv_has ls 4 [(0, .ref x), (1, .int (nI d)), (2, .int (nI mm)), (3, .int (nI pp))] := hl
  refine lv_aload_n hx hb d_sm_over_0 rfl (lv_at hl 0 rfl) ?_
  refine lv_iconst (v := nI 0) hx hb d_sm_over_1 (by decide) ?_
  refine sm_put hx hb hg hown hK hP hD hS 0 rfl 0 (by decide) k_202 rfl (by decide +kernel) (Nat.le_of_ble_eq_true rfl) d_sm_over_2 (fun H locs hP hD hS => ?_)
  have hP : va_P D cls2 [oM x (nI 0) (nI n) mw ms mk mg, aL mw cJ gw] H := hP
  have hD : va_D A [oM x (nI 0) (nI n) mw ms mk mg, aL mw cJ gw] := hD
  refine lv_aload_n hx hb d_sm_over_5 rfl (lv_at hl 0 rfl) ?_
  refine lv_iload_n hx hb d_sm_over_6 rfl (lv_at hl 1 rfl) ?_
  refine ps_i hx hb hml hown hg (c_sm_isWay l (nI d)) ⟨k_252, k_253, k_2, k_254⟩ n_sm_isWay ⟨rfl, rfl, by decide, by decide⟩ hl.1 rfl (Nat.le_of_ble_eq_true rfl) d_sm_over_7 ⟨by decide, by decide⟩ (fun r1 h1 => ?_)
  obtain rfl := qIn_nat h1 (by omega) (by omega) (by omega)
  refine xz_eq (tgt := 33) hx hb d_sm_over_10 (by decide) (by omega) (fun hc9 => ?_) (fun hc9 => ?_)
  · exact absurd hc9 (by decide)
  · refine lv_iload_n hx hb d_sm_over_13 rfl (lv_at hl 2 rfl) ?_
    refine lv_i2l (v := lN mm) hx hb d_sm_over_14 (nI_l (by omega)) ?_
    refine lv_lconst (v := lN 0) hx hb d_sm_over_15 (by decide) ?_
    refine lv_ldc2 hx hb hown (hg _ k_256) d_sm_over_16 ?_
    refine xr_l (show (10000 : Int64) = lN 10000 by decide) ?_
    refine ps_i hx hb hml hown hg (c_sm_in l (lN mm) (lN 0) (lN 10000)) ⟨k_232, k_233, k_2, k_234⟩ n_sm_in ⟨rfl, rfl, by decide, by decide⟩ hl.1 rfl (Nat.le_of_ble_eq_true rfl) d_sm_over_19 ⟨by decide, by decide⟩ (fun r2 h2 => ?_)
    obtain rfl := in_nat h2 (by omega) (by omega) (by omega)
    refine xz_eq (tgt := 33) hx hb d_sm_over_22 (by decide) (by omega) (fun hc9 => ?_) (fun hc9 => ?_)
    · exact absurd hc9 (by decide)
    · refine lv_aload_n hx hb d_sm_over_25 rfl (lv_at hl 0 rfl) ?_
      refine lv_iload_n hx hb d_sm_over_26 rfl (lv_at hl 3 rfl) ?_
      refine pv_i (C := "ShareDeskModel") hx hb hml hown hg (c_sm_isParty l D [(cJ, .long), (cZ, .boolean)] x mw ms mk mg H.size n (nI 0) (nI pp) hn1 hn8) ⟨k_243, k_245, ks_7, k_2, k_246⟩ n_sm_isParty ⟨rfl, rfl, by decide, by decide⟩ hK (hP.sub [0] rfl) (hD.sub [0] rfl rfl) (va_recv (q0 := 0) (ci := 1) hK hP rfl rfl) hl.1 rfl (Nat.le_of_ble_eq_true rfl) d_sm_over_27 ⟨by decide, by decide⟩ (fun r3 h3 => ?_)
      obtain rfl := qIn_nat h3 (by omega) (by omega) (by omega)
      refine xz_ne (tgt := 37) hx hb d_sm_over_30 (by decide) (by omega) (fun hc9 => ?_) (fun hc9 => ?_)
      · refine lv_iconst (v := nI 0) hx hb d_sm_over_37 (by decide) ?_
        refine lv_iconst (v := nI 1) hx hb d_sm_over_38 (by decide) ?_
        refine pv_i (C := "ShareDeskModel") hx hb hml hown hg (c_sm_fails0 l D [(cJ, .long), (cZ, .boolean)] x mw ms mk mg H.size 1 (nI n)) ⟨k_235, k_237, ks_6, k_2, k_238⟩ n_sm_fails ⟨rfl, rfl, by decide, by decide⟩ hK (hP.sub [0] rfl) (hD.sub [0] rfl rfl) (va_recv (q0 := 0) (ci := 1) hK hP rfl rfl) hl.1 rfl (Nat.le_of_ble_eq_true rfl) d_sm_over_39 ⟨by decide, by decide⟩ (fun rf hf => ?_)
        subst hf
        refine xz_ne (tgt := 67) hx hb d_sm_over_42 (by decide) (by omega) (fun hc9 => ?_) (fun hc9 => ?_)
        · exact absurd hc9 (by decide)
        · refine lv_aload_n hx hb d_sm_over_45 rfl (lv_at hl 0 rfl) ?_
          refine lv_aload_n hx hb d_sm_over_46 rfl (lv_at hl 0 rfl) ?_
          refine pv_l (C := "ShareDeskModel") hx hb hml hown hg (c_sm_all l D cJ cZ x mw ms mk mg H.size n (nI 0) gw w hn8 hgw) ⟨k_257, k_259, ks_8, k_2, k_260⟩ n_sm_all ⟨rfl, rfl, by decide, by decide⟩ hK (hP.sub [0, 1] rfl) (hD.sub [0, 1] rfl rfl) (va_recv (q0 := 0) (ci := 1) hK hP rfl rfl) hl.1 rfl (Nat.le_of_ble_eq_true rfl) d_sm_over_47 ⟨by decide, by decide⟩ (fun ra hra => ?_)
          subst hra
          refine lv_lconst (v := lN 0) hx hb d_sm_over_50 (by decide) ?_
          refine xl_ne (tgt := 59) hx hb d_sm_over_51 d_sm_over_52 (by decide) (by omega) (by omega) (fun hz => ?_) (fun hz => ?_)
          · exact absurd hW0 (by omega)
          · refine lv_iconst (v := nI 1) hx hb d_sm_over_55 (by decide) ?_
            refine lv_goto (tgt := 60) hx hb d_sm_over_56 (by decide) ?_
            refine lv_iconst (v := nI 2) hx hb d_sm_over_60 (by decide) ?_
            refine ev_i (C := "ShareDeskModel") hx hb hml hown hg (c_sm_fails1 l D [(cJ, .long), (cZ, .boolean)] x mw ms mk mg H.size 2 (nI n) (by decide) (by decide)) ⟨k_235, k_237, ks_6, k_2, k_238⟩ n_sm_fails ⟨rfl, rfl, by decide, by decide⟩ hK hP hD hS hA [0] [1] rfl rfl (wr := [aL mw cJ gw]) rfl rfl (by decide) (va_recv (q0 := 0) (ci := 1) hK hP rfl rfl) hl.1 rfl (Nat.le_of_ble_eq_true rfl) d_sm_over_61 ⟨by decide, by decide⟩ (fun rf _u H locs hf hP hD hS => ?_)
            have hP : va_P D cls2 [oM x (nI 2) (nI n) mw ms mk mg, aL mw cJ gw] H := hP.sub [1, 0] rfl
            have hD : va_D A [oM x (nI 2) (nI n) mw ms mk mg, aL mw cJ gw] := hD.sub [1, 0] rfl rfl
            subst hf
            refine xz_eq (tgt := 69) hx hb d_sm_over_64 (by decide) (by omega) (fun hc9 => ?_) (fun hc9 => ?_)
            · exact absurd hc9 (by decide)
            · refine lv_lconst (v := lN 0) hx hb d_sm_over_67 (by decide) ?_
              exact en_gl () hx hb hr hlk trivial hP hK hD hS d_sm_over_68
      · exact absurd hc9 (by decide)
section MNX
variable {p : Program} {l : Launch} {e : Env} {R : Room} {s : State} {m : MethodId} {args : Array Value} {below : List Frame} {meth : Method} {c : Code} {cells slots : Nat} {Q : State → Prop}
variable {D : va_G} {A : Nat → Prop} {x mw ms mk mg n mm d pp k : Nat} {er : Int32} {cJ cZ : ClassId} {gw : Nat → Int64} {w : Nat → Nat}
variable {gs : Nat → Int64} {gg : Nat → Int32}
set_option maxRecDepth 10000 in
set_option maxHeartbeats 4000000 in
theorem lp_mnext1 (hx : p.tables.exec = Jvm.exec) (hb : c.code = b_sm_next) (hg : ∀ w ∈ gws, w.before args s = true) (hown : s.vm.findClass "ShareDeskModel" = some m.cls) (hK : va_K D cls2 [(cJ, .long), (cZ, .boolean)] s) (hn1 : 1 ≤ n) (hn8 : n ≤ 8) (hw : ∀ q, w q ≤ 100000) (hgw : ∀ q, q < 8 → gw q = lN (w q)) (hgs : ∀ q, q < n → gs q = lN (pu_sh n w d mm q)) (kk : ∀ (H : Heap) (locs : List Loc) (ls : Array Slot) (gk : Nat → Int64), (∀ q, q < n → gk q = lN (pu_sh n w d mm q)) → va_P D cls2 [oM x (nI 0) (nI n) mw ms mk mg, aL mw cJ gw, aL ms cJ gs, aL mk cJ gk, aI mg cZ gg] H → va_D A [oM x (nI 0) (nI n) mw ms mk mg, aL mw cJ gw, aL ms cJ gs, aL mk cJ gk, aI mg cZ gg] → va_S A s.heap H locs → lv_has ls 5 [(2, .int (nI mm)), (1, .int (nI d)), (0, .ref x)] → W p l e R s m args below meth c H locs cells slots Q (F0 m 95 ls [])) : ∀ (j i : Nat) (H : Heap) (locs : List Loc) (ls : Array Slot) (gk : Nat → Int64), i + j = n → (∀ q, q < i → gk q = lN (pu_sh n w d mm q)) → va_P D cls2 [oM x (nI 0) (nI n) mw ms mk mg, aL mw cJ gw, aL ms cJ gs, aL mk cJ gk, aI mg cZ gg] H → va_D A [oM x (nI 0) (nI n) mw ms mk mg, aL mw cJ gw, aL ms cJ gs, aL mk cJ gk, aI mg cZ gg] → va_S A s.heap H locs → lv_has ls 5 [(3, .int (nI i)), (2, .int (nI mm)), (1, .int (nI d)), (0, .ref x)] → W p l e R s m args below meth c H locs cells slots Q (F0 m 69 ls []) := by
  intro j
  induction j with
  | zero =>
    intro i H locs ls gk hi hgk hP hD hS hl
    refine lv_iload_n hx hb d_sm_next_69 rfl (lv_at hl 0 rfl) ?_
    refine lv_aload_n hx hb d_sm_next_70 rfl (lv_at hl 3 rfl) ?_
    refine sm_get hx hb hg hown hK hP 0 rfl 1 (by decide) k_203 rfl d_sm_next_71 ?_
    refine xc_ge (tgt := 95) hx hb d_sm_next_74 (by decide) (by omega) (by omega) (fun hc => ?_) (fun hc => ?_)
    · have : i = n := by omega
      subst this
      exact kk H locs ls gk hgk hP hD hS (lv_sub hl [1, 2, 3] rfl)
    · exact absurd hc (by omega)
  | succ j ih =>
    intro i H locs ls gk hi hgk hP hD hS hl
    refine lv_iload_n hx hb d_sm_next_69 rfl (lv_at hl 0 rfl) ?_
    refine lv_aload_n hx hb d_sm_next_70 rfl (lv_at hl 3 rfl) ?_
    refine sm_get hx hb hg hown hK hP 0 rfl 1 (by decide) k_203 rfl d_sm_next_71 ?_
    refine xc_ge (tgt := 95) hx hb d_sm_next_74 (by decide) (by omega) (by omega) (fun hc => ?_) (fun hc => ?_)
    · exact absurd hc (by omega)
    · refine lv_aload_n hx hb d_sm_next_77 rfl (lv_at hl 3 rfl) ?_
      refine sm_get hx hb hg hown hK hP 0 rfl 4 (by decide) k_206 rfl d_sm_next_78 ?_
      refine lv_iload_n hx hb d_sm_next_81 rfl (lv_at hl 0 rfl) ?_
      refine lv_aload_n hx hb d_sm_next_82 rfl (lv_at hl 3 rfl) ?_
      refine sm_get hx hb hg hown hK hP 0 rfl 3 (by decide) k_205 rfl d_sm_next_83 ?_
      refine lv_iload_n hx hb d_sm_next_86 rfl (lv_at hl 0 rfl) ?_
      refine xa_lald hx hb hK hP 2 0 rfl rfl (by omega) d_sm_next_87 (v := lN (pu_sh n w d mm i)) (hgs i (by omega)) ?_
      refine xa_last hx hb hK hP hD hS 3 0 rfl rfl (by omega) d_sm_next_88 (fun H locs hP hD hS => ?_)
      have hP : va_P D cls2 [oM x (nI 0) (nI n) mw ms mk mg, aL mw cJ gw, aL ms cJ gs, aL mk cJ (vp_updL gk i (lN (pu_sh n w d mm i))), aI mg cZ gg] H := hP
      have hD : va_D A [oM x (nI 0) (nI n) mw ms mk mg, aL mw cJ gw, aL ms cJ gs, aL mk cJ (vp_updL gk i (lN (pu_sh n w d mm i))), aI mg cZ gg] := hD
      refine lv_iinc (k := 0) (v := nI (i + 1)) (lv' := [(3, .int (nI (i + 1))), (2, .int (nI mm)), (1, .int (nI d)), (0, .ref x)]) hx hb d_sm_next_89 hl rfl (xinc _) (by decide) rfl (fun ls hl => ?_)
      refine lv_goto (tgt := 69) hx hb d_sm_next_92 (by decide) ?_
      refine ih (i + 1) H locs ls _ (by omega) (fun q hq2 => ?_) hP hD hS (lv_sub hl [0, 1, 2, 3] rfl)
      by_cases e9 : q = i
      · subst e9; exact pk_uLs
      · rw [pk_uLn e9]; exact hgk q (by omega)
set_option maxRecDepth 10000 in
set_option maxHeartbeats 4000000 in
theorem lp_mnext2 {H : Heap} {locs : List Loc} {gk : Nat → Int64} (hx : p.tables.exec = Jvm.exec) (hb : c.code = b_sm_next) (hg : ∀ w ∈ gws, w.before args s = true) (hown : s.vm.findClass "ShareDeskModel" = some m.cls) (hK : va_K D cls2 [(cJ, .long), (cZ, .boolean)] s) (hn1 : 1 ≤ n) (hn8 : n ≤ 8) (hw : ∀ q, w q ≤ 100000) (hgw : ∀ q, q < 8 → gw q = lN (w q)) (hW : 0 < pu_sum w n) (hm : mm < 10000) (hgs : ∀ q, q < n → gs q = lN (pu_sh n w d (mm + 1) q)) (hgk : ∀ q, q < n → gk q = lN (pu_sh n w d mm q)) (hP : va_P D cls2 [oM x (nI 0) (nI n) mw ms mk mg, aL mw cJ gw, aL ms cJ gs, aL mk cJ gk, aI mg cZ gg] H)
    (k1 : ∀ ls : Array Slot, pu_nxR (pu_nx (pu_sh n w d mm) (pu_sh n w d (mm + 1)) n) = -1 → W p l e R s m args below meth c H locs cells slots Q (F0 m 163 ls [.int (-1)])) (k2 : ∀ (ls : Array Slot) (o : Option Nat), (pu_nx (pu_sh n w d mm) (pu_sh n w d (mm + 1)) n) = some o → W p l e R s m args below meth c H locs cells slots Q (F0 m 174 ls [.int (oneR o)])) :
    ∀ (j i : Nat) (ls : Array Slot) (o : Option Nat), i + j = n → (pu_nx (pu_sh n w d mm) (pu_sh n w d (mm + 1)) i) = some o → (∀ p, o = some p → p < 8) → lv_has ls 5 [(4, .int (nI i)), (3, .int (oneR o)), (0, .ref x)] → W p l e R s m args below meth c H locs cells slots Q (F0 m 108 ls []) := by
  intro j
  induction j with
  | zero =>
    intro i ls o hi hnx ho hl
    refine lv_iload hx hb d_sm_next_108 (lv_at hl 0 rfl) ?_
    refine lv_aload_n hx hb d_sm_next_110 rfl (lv_at hl 2 rfl) ?_
    refine sm_get hx hb hg hown hK hP 0 rfl 1 (by decide) k_203 rfl d_sm_next_111 ?_
    refine xc_ge (tgt := 173) hx hb d_sm_next_114 (by decide) (by omega) (by omega) (fun hc => ?_) (fun hc => ?_)
    · have : i = n := by omega
      subst this
      refine lv_iload_n hx hb d_sm_next_173 rfl (lv_at hl 1 rfl) ?_
      exact k2 ls o hnx
    · exact absurd hc (by omega)
  | succ j ih =>
    intro i ls o hi hnx ho hl
    refine lv_iload hx hb d_sm_next_108 (lv_at hl 0 rfl) ?_
    refine lv_aload_n hx hb d_sm_next_110 rfl (lv_at hl 2 rfl) ?_
    refine sm_get hx hb hg hown hK hP 0 rfl 1 (by decide) k_203 rfl d_sm_next_111 ?_
    refine xc_ge (tgt := 173) hx hb d_sm_next_114 (by decide) (by omega) (by omega) (fun hc => ?_) (fun hc => ?_)
    · exact absurd hc (by omega)
    · have ha := pu_sh_le (d := d) (m := mm) hW (show i < n by omega)
      have hb9 := pu_sh_le (d := d) (m := mm + 1) hW (show i < n by omega)
      have hui := hgk i (by omega)
      have hvi := hgs i (by omega)
      refine lv_aload_n hx hb d_sm_next_117 rfl (lv_at hl 2 rfl) ?_
      refine sm_get hx hb hg hown hK hP 0 rfl 3 (by decide) k_205 rfl d_sm_next_118 ?_
      refine lv_iload hx hb d_sm_next_121 (lv_at hl 0 rfl) ?_
      refine xa_lald hx hb hK hP 2 0 rfl rfl (by omega) d_sm_next_123 (v := lN (pu_sh n w d (mm + 1) i)) hvi ?_
      refine lv_aload_n hx hb d_sm_next_124 rfl (lv_at hl 2 rfl) ?_
      refine sm_get hx hb hg hown hK hP 0 rfl 4 (by decide) k_206 rfl d_sm_next_125 ?_
      refine lv_iload hx hb d_sm_next_128 (lv_at hl 0 rfl) ?_
      refine xa_lald hx hb hK hP 3 0 rfl rfl (by omega) d_sm_next_130 (v := lN (pu_sh n w d mm i)) hui ?_
      refine xl_ne (tgt := 138) hx hb d_sm_next_131 d_sm_next_132 (by decide) (by omega) (by omega) (fun h1 => ?_) (fun h1 => ?_)
      · refine lv_iload_n hx hb d_sm_next_138 rfl (lv_at hl 1 rfl) ?_
        refine lv_if_ge (tgt := 162) hx hb d_sm_next_139 (by decide) (fun h2 => ?_) (fun h2 => ?_)
        · refine lv_iconst (v := -1) hx hb d_sm_next_162 (by decide) ?_
          exact k1 ls (pu_nx_bad hnx h1 (Or.inl (oneR_ge h2)) (by omega))
        · have h2 := oneR_lt ho h2
          subst h2
          refine lv_aload_n hx hb d_sm_next_142 rfl (lv_at hl 2 rfl) ?_
          refine sm_get hx hb hg hown hK hP 0 rfl 3 (by decide) k_205 rfl d_sm_next_143 ?_
          refine lv_iload hx hb d_sm_next_146 (lv_at hl 0 rfl) ?_
          refine xa_lald hx hb hK hP 2 0 rfl rfl (by omega) d_sm_next_148 (v := lN (pu_sh n w d (mm + 1) i)) hvi ?_
          refine lv_aload_n hx hb d_sm_next_149 rfl (lv_at hl 2 rfl) ?_
          refine sm_get hx hb hg hown hK hP 0 rfl 4 (by decide) k_206 rfl d_sm_next_150 ?_
          refine lv_iload hx hb d_sm_next_153 (lv_at hl 0 rfl) ?_
          refine xa_lald hx hb hK hP 3 0 rfl rfl (by omega) d_sm_next_155 (v := lN (pu_sh n w d mm i)) hui ?_
          refine lv_lconst (v := lN 1) hx hb d_sm_next_156 (by decide) ?_
          refine lv_ladd hx hb d_sm_next_157 ?_
          refine xr_l (lN_add _ _) ?_
          refine xl_eq (tgt := 164) hx hb d_sm_next_158 d_sm_next_159 (by decide) (by omega) (by omega) (fun h3 => ?_) (fun h3 => ?_)
          · refine lv_iload hx hb d_sm_next_164 (lv_at hl 0 rfl) ?_
            refine lv_istore_n (lv' := [(3, .int (nI i)), (4, .int (nI i)), (0, .ref x)]) hx hb d_sm_next_166 rfl hl (by decide) rfl (fun ls hl => ?_)
            refine lv_iinc (k := 1) (v := nI (i + 1)) (lv' := [(4, .int (nI (i + 1))), (3, .int (nI i)), (0, .ref x)]) hx hb d_sm_next_167 hl rfl (xinc _) (by decide) rfl (fun ls hl => ?_)
            refine lv_goto (tgt := 108) hx hb d_sm_next_170 (by decide) ?_
            exact ih (i + 1) ls (some i) (by omega) (pu_nx_one hnx h1 h3) (fun p hp => by cases hp; omega) (lv_sub hl [0, 1, 2] rfl)
          · refine lv_iconst (v := -1) hx hb d_sm_next_162 (by decide) ?_
            exact k1 ls (pu_nx_bad hnx h1 (Or.inr h3) (by omega))
      · refine lv_goto (tgt := 167) hx hb d_sm_next_135 (by decide) ?_
        refine lv_iinc (k := 0) (v := nI (i + 1)) (lv' := [(4, .int (nI (i + 1))), (3, .int (oneR o)), (0, .ref x)]) hx hb d_sm_next_167 hl rfl (xinc _) (by decide) rfl (fun ls hl => ?_)
        refine lv_goto (tgt := 108) hx hb d_sm_next_170 (by decide) ?_
        exact ih (i + 1) ls o (by omega) (pu_nx_eq hnx h1) ho (lv_sub hl [0, 1, 2] rfl)
end MNX
set_option maxRecDepth 10000 in
set_option maxHeartbeats 4000000 in
theorem c_sm_next (l : Launch) (D : va_G) (cJ cZ : ClassId) (x mw ms mk mg sz n d mm : Nat) (er : Int32) (gw gs gk : Nat → Int64) (gg : Nat → Int32) (w : Nat → Nat) (hn1 : 1 ≤ n) (hn8 : n ≤ 8) (hw : ∀ q, w q ≤ 100000) (hgw : ∀ q, q < 8 → gw q = lN (w q)) (hW : 0 < pu_sum w n) (hd : d < 3) (hm : mm < 10000) : Met l y_sm_next w_sm_next (rL 3 0 0) (va_Pc [.ref x, .int (nI d), .int (nI mm)] (gP D [(cJ, .long), (cZ, .boolean)] [oM x er (nI n) mw ms mk mg, aL mw cJ gw, aL ms cJ gs, aL mk cJ gk, aI mg cZ gg] sz)) (va_Qi (fun r _ => r = pu_nxR (pu_nx (pu_sh n w d mm) (pu_sh n w d (mm + 1)) n)) (gB D [(cJ, .long), (cZ, .boolean)] (va_A [oM x er (nI n) mw ms mk mg, aL mw cJ gw, aL ms cJ gs, aL mk cJ gk, aI mg cZ gg] sz) (fun u : (Nat → Int64) × (Nat → Int64) × (Nat → Int32) => [oM x (nI 0) (nI n) mw ms mk mg, aL mw cJ gw, aL ms cJ u.1, aL mk cJ u.2.1, aI mg cZ u.2.2])) (va_A [oM x er (nI n) mw ms mk mg, aL mw cJ gw, aL ms cJ gs, aL mk cJ gk, aI mg cZ gg] sz)) 0 0 (va_A [oM x er (nI n) mw ms mk mg, aL mw cJ gw, aL ms cJ gs, aL mk cJ gk, aI mg cZ gg] sz) := by
  refine Met.ofW (cc := b_sm_next) (maxL := 5) (ret := (some .int)) (by decide) rfl ?_
  intro p e s m args below meth c s₁ B hml hv
  obtain ⟨rfl, hsz, hP, hK, hD0⟩ := hv
  have hx := B.exec
  have hb := B.bytes
  have hr := B.returns
  have hts := atoms_spec (ws := w_sm_next) B.pre
  have hg : ∀ w ∈ gws, w.before ([.ref x, .int (nI d), .int (nI mm)] : List Value).toArray s = true := fun w hw => hts w (List.mem_cons_of_mem _ hw)
  have hown : s.vm.findClass "ShareDeskModel" = some m.cls := findClass_of_methodNamed B.named
  have hlk := B.notSynchronized
  subst hsz
  have hD := hD0.self (sz := s.heap.size)
  generalize hAe : va_A [oM x er (nI n) mw ms mk mg, aL mw cJ gw, aL ms cJ gs, aL mk cJ gk, aI mg cZ gg] s.heap.size = A at hD ⊢
  have hA : ∀ q : Nat, s.heap.size ≤ q → A q := fun q h => by rw [← hAe]; exact Or.inr h
  have hS : va_S A s.heap s.heap [] := va_S.rf
  have hP : va_P D cls2 [oM x er (nI n) mw ms mk mg, aL mw cJ gw, aL ms cJ gs, aL mk cJ gk, aI mg cZ gg] s.heap := hP
  have hl := lv_entry ([.ref x, .int (nI d), .int (nI mm)]) (n := 5) (Nat.le_of_ble_eq_true rfl)
  rw [lg_entry_eq]
  generalize (lg_sl ([.ref x, .int (nI d), .int (nI mm)]) ++ List.replicate (5 - (lg_sl ([.ref x, .int (nI d), .int (nI mm)])).length) Slot.unset).toArray = ls at hl ⊢
  have hl : lv_has ls 5 [(0, .ref x), (1, .int (nI d)), (2, .int (nI mm))] := hl
  have hWb := pu_sum_bd hn8 hw
  refine lv_aload_n hx hb d_sm_next_0 rfl (lv_at hl 0 rfl) ?_
  refine lv_iconst (v := nI 0) hx hb d_sm_next_1 (by decide) ?_
  refine sm_put hx hb hg hown hK hP hD hS 0 rfl 0 (by decide) k_202 rfl (by decide +kernel) (Nat.le_of_ble_eq_true rfl) d_sm_next_2 (fun H locs hP hD hS => ?_)
  have hP : va_P D cls2 [oM x (nI 0) (nI n) mw ms mk mg, aL mw cJ gw, aL ms cJ gs, aL mk cJ gk, aI mg cZ gg] H := hP
  have hD : va_D A [oM x (nI 0) (nI n) mw ms mk mg, aL mw cJ gw, aL ms cJ gs, aL mk cJ gk, aI mg cZ gg] := hD
  refine lv_aload_n hx hb d_sm_next_5 rfl (lv_at hl 0 rfl) ?_
  refine lv_iload_n hx hb d_sm_next_6 rfl (lv_at hl 1 rfl) ?_
  refine ps_i hx hb hml hown hg (c_sm_isWay l (nI d)) ⟨k_252, k_253, k_2, k_254⟩ n_sm_isWay ⟨rfl, rfl, by decide, by decide⟩ hl.1 rfl (Nat.le_of_ble_eq_true rfl) d_sm_next_7 ⟨by decide, by decide⟩ (fun r1 h1 => ?_)
  obtain rfl := qIn_nat h1 (by omega) (by omega) (by omega)
  refine xz_eq (tgt := 25) hx hb d_sm_next_10 (by decide) (by omega) (fun hc9 => ?_) (fun hc9 => ?_)
  · exact absurd hc9 (by decide)
  · refine lv_iload_n hx hb d_sm_next_13 rfl (lv_at hl 2 rfl) ?_
    refine lv_i2l (v := lN mm) hx hb d_sm_next_14 (nI_l (by omega)) ?_
    refine lv_lconst (v := lN 0) hx hb d_sm_next_15 (by decide) ?_
    refine lv_ldc2 hx hb hown (hg _ k_281) d_sm_next_16 ?_
    refine xr_l (show (9999 : Int64) = lN 9999 by decide) ?_
    refine ps_i hx hb hml hown hg (c_sm_in l (lN mm) (lN 0) (lN 9999)) ⟨k_232, k_233, k_2, k_234⟩ n_sm_in ⟨rfl, rfl, by decide, by decide⟩ hl.1 rfl (Nat.le_of_ble_eq_true rfl) d_sm_next_19 ⟨by decide, by decide⟩ (fun r2 h2 => ?_)
    obtain rfl := in_nat h2 (by omega) (by omega) (by omega)
    refine xz_ne (tgt := 29) hx hb d_sm_next_22 (by decide) (by omega) (fun hc9 => ?_) (fun hc9 => ?_)
    · refine lv_iconst (v := nI 0) hx hb d_sm_next_29 (by decide) ?_
      refine lv_iconst (v := nI 1) hx hb d_sm_next_30 (by decide) ?_
      refine pv_i (C := "ShareDeskModel") hx hb hml hown hg (c_sm_fails0 l D [(cJ, .long), (cZ, .boolean)] x mw ms mk mg H.size 1 (nI n)) ⟨k_235, k_237, ks_6, k_2, k_238⟩ n_sm_fails ⟨rfl, rfl, by decide, by decide⟩ hK (hP.sub [0] rfl) (hD.sub [0] rfl rfl) (va_recv (q0 := 0) (ci := 1) hK hP rfl rfl) hl.1 rfl (Nat.le_of_ble_eq_true rfl) d_sm_next_31 ⟨by decide, by decide⟩ (fun rf hf => ?_)
      subst hf
      refine xz_ne (tgt := 59) hx hb d_sm_next_34 (by decide) (by omega) (fun hc9 => ?_) (fun hc9 => ?_)
      · exact absurd hc9 (by decide)
      · refine lv_aload_n hx hb d_sm_next_37 rfl (lv_at hl 0 rfl) ?_
        refine lv_aload_n hx hb d_sm_next_38 rfl (lv_at hl 0 rfl) ?_
        refine pv_l (C := "ShareDeskModel") hx hb hml hown hg (c_sm_all l D cJ cZ x mw ms mk mg H.size n (nI 0) gw w hn8 hgw) ⟨k_257, k_259, ks_8, k_2, k_260⟩ n_sm_all ⟨rfl, rfl, by decide, by decide⟩ hK (hP.sub [0, 1] rfl) (hD.sub [0, 1] rfl rfl) (va_recv (q0 := 0) (ci := 1) hK hP rfl rfl) hl.1 rfl (Nat.le_of_ble_eq_true rfl) d_sm_next_39 ⟨by decide, by decide⟩ (fun ra hra => ?_)
        subst hra
        refine lv_lconst (v := lN 0) hx hb d_sm_next_42 (by decide) ?_
        refine xl_ne (tgt := 51) hx hb d_sm_next_43 d_sm_next_44 (by decide) (by omega) (by omega) (fun hz => ?_) (fun hz => ?_)
        · refine lv_iconst (v := nI 0) hx hb d_sm_next_51 (by decide) ?_
          refine lv_iconst (v := nI 2) hx hb d_sm_next_52 (by decide) ?_
          refine pv_i (C := "ShareDeskModel") hx hb hml hown hg (c_sm_fails0 l D [(cJ, .long), (cZ, .boolean)] x mw ms mk mg H.size 2 (nI n)) ⟨k_235, k_237, ks_6, k_2, k_238⟩ n_sm_fails ⟨rfl, rfl, by decide, by decide⟩ hK (hP.sub [0] rfl) (hD.sub [0] rfl rfl) (va_recv (q0 := 0) (ci := 1) hK hP rfl rfl) hl.1 rfl (Nat.le_of_ble_eq_true rfl) d_sm_next_53 ⟨by decide, by decide⟩ (fun rf hf => ?_)
          subst hf
          refine xz_eq (tgt := 61) hx hb d_sm_next_56 (by decide) (by omega) (fun hc9 => ?_) (fun hc9 => ?_)
          · refine lv_aload_n hx hb d_sm_next_61 rfl (lv_at hl 0 rfl) ?_
            refine lv_iload_n hx hb d_sm_next_62 rfl (lv_at hl 1 rfl) ?_
            refine lv_iload_n hx hb d_sm_next_63 rfl (lv_at hl 2 rfl) ?_
            refine ev_v (C := "ShareDeskModel") hx hb hml hown hg (c_sm_give l D cJ cZ x mw ms mk mg H.size n d mm (nI 0) gw gs gg w hn1 hn8 hw hgw hW hd (by omega)) ⟨k_261, k_263, ks_9, k_2, k_264⟩ n_sm_give ⟨rfl, rfl, by decide, by decide⟩ hK hP hD hS hA [0, 1, 2, 4] [3] rfl rfl (wr := [aL mk cJ gk]) rfl rfl (by decide) (va_recv (q0 := 0) (ci := 1) hK hP rfl rfl) hl.1 rfl (Nat.le_of_ble_eq_true rfl) d_sm_next_64 ⟨by decide, by decide⟩ (fun ug H locs hug hP hD hS => ?_)
            have hP : va_P D cls2 [oM x (nI 0) (nI n) mw ms mk mg, aL mw cJ gw, aL ms cJ ug.1, aL mk cJ gk, aI mg cZ ug.2] H := hP.sub [1, 2, 3, 0, 4] rfl
            have hD : va_D A [oM x (nI 0) (nI n) mw ms mk mg, aL mw cJ gw, aL ms cJ ug.1, aL mk cJ gk, aI mg cZ ug.2] := hD.sub [1, 2, 3, 0, 4] rfl rfl
            refine lv_iconst (v := nI 0) hx hb d_sm_next_67 (by decide) ?_
            refine lv_istore_n (lv' := [(3, .int (nI 0)), (0, .ref x), (1, .int (nI d)), (2, .int (nI mm))]) hx hb d_sm_next_68 rfl hl (by decide) rfl (fun ls hl => ?_)
            refine lp_mnext1 hx hb hg hown hK hn1 hn8 hw hgw hug (fun H locs ls gk hgk hP hD hS hl => ?_) n 0 _ _ ls gk (by omega) (fun q hq => absurd hq (by omega)) hP hD hS (lv_sub hl [0, 3, 2, 1] rfl)
            refine lv_aload_n hx hb d_sm_next_95 rfl (lv_at hl 2 rfl) ?_
            refine lv_iload_n hx hb d_sm_next_96 rfl (lv_at hl 1 rfl) ?_
            refine lv_iload_n hx hb d_sm_next_97 rfl (lv_at hl 0 rfl) ?_
            refine lv_iconst (v := nI 1) hx hb d_sm_next_98 (by decide) ?_
            refine lv_iadd hx hb d_sm_next_99 ?_
            refine xr_i (nI_add _ _) ?_
            refine ev_v (C := "ShareDeskModel") hx hb hml hown hg (c_sm_give l D cJ cZ x mw ms mk mg H.size n d (mm + 1) (nI 0) gw ug.1 ug.2 w hn1 hn8 hw hgw hW hd (by omega)) ⟨k_261, k_263, ks_9, k_2, k_264⟩ n_sm_give ⟨rfl, rfl, by decide, by decide⟩ hK hP hD hS hA [0, 1, 2, 4] [3] rfl rfl (wr := [aL mk cJ gk]) rfl rfl (by decide) (va_recv (q0 := 0) (ci := 1) hK hP rfl rfl) hl.1 rfl (Nat.le_of_ble_eq_true rfl) d_sm_next_100 ⟨by decide, by decide⟩ (fun uh H locs huh hP hD hS => ?_)
            have hP : va_P D cls2 [oM x (nI 0) (nI n) mw ms mk mg, aL mw cJ gw, aL ms cJ uh.1, aL mk cJ gk, aI mg cZ uh.2] H := hP.sub [1, 2, 3, 0, 4] rfl
            have hD : va_D A [oM x (nI 0) (nI n) mw ms mk mg, aL mw cJ gw, aL ms cJ uh.1, aL mk cJ gk, aI mg cZ uh.2] := hD.sub [1, 2, 3, 0, 4] rfl rfl
            refine lv_iconst (v := -1) hx hb d_sm_next_103 (by decide) ?_
            refine lv_istore_n (lv' := [(3, .int (-1)), (2, .int (nI mm)), (1, .int (nI d)), (0, .ref x)]) hx hb d_sm_next_104 rfl hl (by decide) rfl (fun ls hl => ?_)
            refine lv_iconst (v := nI 0) hx hb d_sm_next_105 (by decide) ?_
            refine lv_istore (lv' := [(4, .int (nI 0)), (3, .int (-1)), (2, .int (nI mm)), (1, .int (nI d)), (0, .ref x)]) hx hb d_sm_next_106 hl (by decide) rfl (fun ls hl => ?_)
            refine lp_mnext2 hx hb hg hown hK hn1 hn8 hw hgw hW hm huh hgk hP (fun ls h9 => ?_) (fun ls o h9 => ?_) n 0 ls none (by omega) rfl (fun p hp => by cases hp) (lv_sub hl [0, 1, 4] rfl)
            · exact en_gi (uh.1, gk, uh.2) hx hb hr hlk h9.symm hP hK hD hS d_sm_next_163
            · exact en_gi (uh.1, gk, uh.2) hx hb hr hlk (by rw [h9]; cases o <;> rfl) hP hK hD hS d_sm_next_174
          · exact absurd hc9 (by decide)
        · exact absurd hz (by omega)
    · exact absurd hc9 (by decide)
set_option maxRecDepth 10000 in
set_option maxHeartbeats 4000000 in
theorem c_sm_next1 (l : Launch) (D : va_G) (cJ cZ : ClassId) (x mw ms mk mg sz n : Nat) (er v t : Int32) (gw : Nat → Int64) (h : ¬ (0 ≤ v.toInt ∧ v.toInt < 3 ∧ 0 ≤ t.toInt ∧ t.toInt ≤ 9999)) : Met l y_sm_next w_sm_next (rL 3 0 0) (va_Pc [.ref x, .int v, .int t] (gP D [(cJ, .long), (cZ, .boolean)] [oM x er (nI n) mw ms mk mg, aL mw cJ gw] sz)) (va_Qi (fun _ _ => True) (gB D [(cJ, .long), (cZ, .boolean)] (va_A [oM x er (nI n) mw ms mk mg, aL mw cJ gw] sz) (fun u : Unit => [oM x (nI 1) (nI n) mw ms mk mg, aL mw cJ gw])) (va_A [oM x er (nI n) mw ms mk mg, aL mw cJ gw] sz)) 0 0 (va_A [oM x er (nI n) mw ms mk mg, aL mw cJ gw] sz) := by
  refine Met.ofW (cc := b_sm_next) (maxL := 5) (ret := (some .int)) (by decide) rfl ?_
  intro p e s m args below meth c s₁ B hml hv
  obtain ⟨rfl, hsz, hP, hK, hD0⟩ := hv
  have hx := B.exec
  have hb := B.bytes
  have hr := B.returns
  have hts := atoms_spec (ws := w_sm_next) B.pre
  have hg : ∀ w ∈ gws, w.before ([.ref x, .int v, .int t] : List Value).toArray s = true := fun w hw => hts w (List.mem_cons_of_mem _ hw)
  have hown : s.vm.findClass "ShareDeskModel" = some m.cls := findClass_of_methodNamed B.named
  have hlk := B.notSynchronized
  subst hsz
  have hD := hD0.self (sz := s.heap.size)
  generalize hAe : va_A [oM x er (nI n) mw ms mk mg, aL mw cJ gw] s.heap.size = A at hD ⊢
  have hA : ∀ q : Nat, s.heap.size ≤ q → A q := fun q h => by rw [← hAe]; exact Or.inr h
  have hS : va_S A s.heap s.heap [] := va_S.rf
  have hP : va_P D cls2 [oM x er (nI n) mw ms mk mg, aL mw cJ gw] s.heap := hP
  have hl := lv_entry ([.ref x, .int v, .int t]) (n := 5) (Nat.le_of_ble_eq_true rfl)
  rw [lg_entry_eq]
  generalize (lg_sl ([.ref x, .int v, .int t]) ++ List.replicate (5 - (lg_sl ([.ref x, .int v, .int t])).length) Slot.unset).toArray = ls at hl ⊢
  have hl : lv_has ls 5 [(0, .ref x), (1, .int v), (2, .int t)] := hl
  refine lv_aload_n hx hb d_sm_next_0 rfl (lv_at hl 0 rfl) ?_
  refine lv_iconst (v := nI 0) hx hb d_sm_next_1 (by decide) ?_
  refine sm_put hx hb hg hown hK hP hD hS 0 rfl 0 (by decide) k_202 rfl (by decide +kernel) (Nat.le_of_ble_eq_true rfl) d_sm_next_2 (fun H locs hP hD hS => ?_)
  have hP : va_P D cls2 [oM x (nI 0) (nI n) mw ms mk mg, aL mw cJ gw] H := hP
  have hD : va_D A [oM x (nI 0) (nI n) mw ms mk mg, aL mw cJ gw] := hD
  refine lv_aload_n hx hb d_sm_next_5 rfl (lv_at hl 0 rfl) ?_
  refine lv_iload_n hx hb d_sm_next_6 rfl (lv_at hl 1 rfl) ?_
  refine ps_i hx hb hml hown hg (c_sm_isWay l v) ⟨k_252, k_253, k_2, k_254⟩ n_sm_isWay ⟨rfl, rfl, by decide, by decide⟩ hl.1 rfl (Nat.le_of_ble_eq_true rfl) d_sm_next_7 ⟨by decide, by decide⟩ (fun r1 hq1 => ?_)
  refine lv_if_eq (tgt := 25) hx hb d_sm_next_10 (by decide) (fun b1 => ?_) (fun b1 => ?_)
  · refine lv_iconst (v := nI 1) hx hb d_sm_next_25 (by decide) ?_
    refine lv_goto (tgt := 30) hx hb d_sm_next_26 (by decide) ?_
    refine lv_iconst (v := nI 1) hx hb d_sm_next_30 (by decide) ?_
    refine ev_i (C := "ShareDeskModel") hx hb hml hown hg (c_sm_fails1 l D [(cJ, .long), (cZ, .boolean)] x mw ms mk mg H.size 1 (nI n) (by decide) (by decide)) ⟨k_235, k_237, ks_6, k_2, k_238⟩ n_sm_fails ⟨rfl, rfl, by decide, by decide⟩ hK hP hD hS hA [0] [1] rfl rfl (wr := [aL mw cJ gw]) rfl rfl (by decide) (va_recv (q0 := 0) (ci := 1) hK hP rfl rfl) hl.1 rfl (Nat.le_of_ble_eq_true rfl) d_sm_next_31 ⟨by decide, by decide⟩ (fun rf _u H locs hf hP hD hS => ?_)
    have hP : va_P D cls2 [oM x (nI 1) (nI n) mw ms mk mg, aL mw cJ gw] H := hP.sub [1, 0] rfl
    have hD : va_D A [oM x (nI 1) (nI n) mw ms mk mg, aL mw cJ gw] := hD.sub [1, 0] rfl rfl
    subst hf
    refine xz_ne (tgt := 59) hx hb d_sm_next_34 (by decide) (by omega) (fun hc9 => ?_) (fun hc9 => ?_)
    · refine lv_iconst (v := nI 0) hx hb d_sm_next_59 (by decide) ?_
      exact en_gi () hx hb hr hlk trivial hP hK hD hS d_sm_next_60
    · exact absurd hc9 (by decide)
  · refine lv_iload_n hx hb d_sm_next_13 rfl (lv_at hl 2 rfl) ?_
    refine lv_i2l hx hb d_sm_next_14 rfl ?_
    refine lv_lconst (v := lN 0) hx hb d_sm_next_15 (by decide) ?_
    refine lv_ldc2 hx hb hown (hg _ k_281) d_sm_next_16 ?_
    refine xr_l (show (9999 : Int64) = lN 9999 by decide) ?_
    refine ps_i hx hb hml hown hg (c_sm_in l t.toInt64 (lN 0) (lN 9999)) ⟨k_232, k_233, k_2, k_234⟩ n_sm_in ⟨rfl, rfl, by decide, by decide⟩ hl.1 rfl (Nat.le_of_ble_eq_true rfl) d_sm_next_19 ⟨by decide, by decide⟩ (fun r2 hq2 => ?_)
    have hq2 := qIn_of (v := t) (a := 0) (b := 9999) (by decide) (by decide) hq2
    refine lv_if_ne (tgt := 29) hx hb d_sm_next_22 (by decide) (fun b2 => ?_) (fun b2 => ?_)
    · have a1 : ¬ (v.toInt < ((0 : Nat) : Int) ∨ ((2 : Nat) : Int) < v.toInt) := fun z => b1 (by rw [hq1.2 z]; exact nI_0)
      have a2 : ¬ (t.toInt < ((0 : Nat) : Int) ∨ ((9999 : Nat) : Int) < t.toInt) := fun z => b2 (by rw [hq2.2 z]; exact nI_0)
      omega
    · refine lv_iconst (v := nI 1) hx hb d_sm_next_25 (by decide) ?_
      refine lv_goto (tgt := 30) hx hb d_sm_next_26 (by decide) ?_
      refine lv_iconst (v := nI 1) hx hb d_sm_next_30 (by decide) ?_
      refine ev_i (C := "ShareDeskModel") hx hb hml hown hg (c_sm_fails1 l D [(cJ, .long), (cZ, .boolean)] x mw ms mk mg H.size 1 (nI n) (by decide) (by decide)) ⟨k_235, k_237, ks_6, k_2, k_238⟩ n_sm_fails ⟨rfl, rfl, by decide, by decide⟩ hK hP hD hS hA [0] [1] rfl rfl (wr := [aL mw cJ gw]) rfl rfl (by decide) (va_recv (q0 := 0) (ci := 1) hK hP rfl rfl) hl.1 rfl (Nat.le_of_ble_eq_true rfl) d_sm_next_31 ⟨by decide, by decide⟩ (fun rf _u H locs hf hP hD hS => ?_)
      have hP : va_P D cls2 [oM x (nI 1) (nI n) mw ms mk mg, aL mw cJ gw] H := hP.sub [1, 0] rfl
      have hD : va_D A [oM x (nI 1) (nI n) mw ms mk mg, aL mw cJ gw] := hD.sub [1, 0] rfl rfl
      subst hf
      refine xz_ne (tgt := 59) hx hb d_sm_next_34 (by decide) (by omega) (fun hc9 => ?_) (fun hc9 => ?_)
      · refine lv_iconst (v := nI 0) hx hb d_sm_next_59 (by decide) ?_
        exact en_gi () hx hb hr hlk trivial hP hK hD hS d_sm_next_60
      · exact absurd hc9 (by decide)
set_option maxRecDepth 10000 in
set_option maxHeartbeats 4000000 in
theorem c_sm_next2 (l : Launch) (D : va_G) (cJ cZ : ClassId) (x mw ms mk mg sz n d mm : Nat) (er : Int32) (gw : Nat → Int64) (w : Nat → Nat) (hn1 : 1 ≤ n) (hn8 : n ≤ 8) (hw : ∀ q, w q ≤ 100000) (hgw : ∀ q, q < 8 → gw q = lN (w q)) (hW0 : pu_sum w n = 0) (hd : d < 3) (hm : mm < 10000) : Met l y_sm_next w_sm_next (rL 3 0 0) (va_Pc [.ref x, .int (nI d), .int (nI mm)] (gP D [(cJ, .long), (cZ, .boolean)] [oM x er (nI n) mw ms mk mg, aL mw cJ gw] sz)) (va_Qi (fun _ _ => True) (gB D [(cJ, .long), (cZ, .boolean)] (va_A [oM x er (nI n) mw ms mk mg, aL mw cJ gw] sz) (fun u : Unit => [oM x (nI 2) (nI n) mw ms mk mg, aL mw cJ gw])) (va_A [oM x er (nI n) mw ms mk mg, aL mw cJ gw] sz)) 0 0 (va_A [oM x er (nI n) mw ms mk mg, aL mw cJ gw] sz) := by
  refine Met.ofW (cc := b_sm_next) (maxL := 5) (ret := (some .int)) (by decide) rfl ?_
  intro p e s m args below meth c s₁ B hml hv
  obtain ⟨rfl, hsz, hP, hK, hD0⟩ := hv
  have hx := B.exec
  have hb := B.bytes
  have hr := B.returns
  have hts := atoms_spec (ws := w_sm_next) B.pre
  have hg : ∀ w ∈ gws, w.before ([.ref x, .int (nI d), .int (nI mm)] : List Value).toArray s = true := fun w hw => hts w (List.mem_cons_of_mem _ hw)
  have hown : s.vm.findClass "ShareDeskModel" = some m.cls := findClass_of_methodNamed B.named
  have hlk := B.notSynchronized
  subst hsz
  have hD := hD0.self (sz := s.heap.size)
  generalize hAe : va_A [oM x er (nI n) mw ms mk mg, aL mw cJ gw] s.heap.size = A at hD ⊢
  have hA : ∀ q : Nat, s.heap.size ≤ q → A q := fun q h => by rw [← hAe]; exact Or.inr h
  have hS : va_S A s.heap s.heap [] := va_S.rf
  have hP : va_P D cls2 [oM x er (nI n) mw ms mk mg, aL mw cJ gw] s.heap := hP
  have hl := lv_entry ([.ref x, .int (nI d), .int (nI mm)]) (n := 5) (Nat.le_of_ble_eq_true rfl)
  rw [lg_entry_eq]
  generalize (lg_sl ([.ref x, .int (nI d), .int (nI mm)]) ++ List.replicate (5 - (lg_sl ([.ref x, .int (nI d), .int (nI mm)])).length) Slot.unset).toArray = ls at hl ⊢
  have hl : lv_has ls 5 [(0, .ref x), (1, .int (nI d)), (2, .int (nI mm))] := hl
  refine lv_aload_n hx hb d_sm_next_0 rfl (lv_at hl 0 rfl) ?_
  refine lv_iconst (v := nI 0) hx hb d_sm_next_1 (by decide) ?_
  refine sm_put hx hb hg hown hK hP hD hS 0 rfl 0 (by decide) k_202 rfl (by decide +kernel) (Nat.le_of_ble_eq_true rfl) d_sm_next_2 (fun H locs hP hD hS => ?_)
  have hP : va_P D cls2 [oM x (nI 0) (nI n) mw ms mk mg, aL mw cJ gw] H := hP
  have hD : va_D A [oM x (nI 0) (nI n) mw ms mk mg, aL mw cJ gw] := hD
  refine lv_aload_n hx hb d_sm_next_5 rfl (lv_at hl 0 rfl) ?_
  refine lv_iload_n hx hb d_sm_next_6 rfl (lv_at hl 1 rfl) ?_
  refine ps_i hx hb hml hown hg (c_sm_isWay l (nI d)) ⟨k_252, k_253, k_2, k_254⟩ n_sm_isWay ⟨rfl, rfl, by decide, by decide⟩ hl.1 rfl (Nat.le_of_ble_eq_true rfl) d_sm_next_7 ⟨by decide, by decide⟩ (fun r1 h1 => ?_)
  obtain rfl := qIn_nat h1 (by omega) (by omega) (by omega)
  refine xz_eq (tgt := 25) hx hb d_sm_next_10 (by decide) (by omega) (fun hc9 => ?_) (fun hc9 => ?_)
  · exact absurd hc9 (by decide)
  · refine lv_iload_n hx hb d_sm_next_13 rfl (lv_at hl 2 rfl) ?_
    refine lv_i2l (v := lN mm) hx hb d_sm_next_14 (nI_l (by omega)) ?_
    refine lv_lconst (v := lN 0) hx hb d_sm_next_15 (by decide) ?_
    refine lv_ldc2 hx hb hown (hg _ k_281) d_sm_next_16 ?_
    refine xr_l (show (9999 : Int64) = lN 9999 by decide) ?_
    refine ps_i hx hb hml hown hg (c_sm_in l (lN mm) (lN 0) (lN 9999)) ⟨k_232, k_233, k_2, k_234⟩ n_sm_in ⟨rfl, rfl, by decide, by decide⟩ hl.1 rfl (Nat.le_of_ble_eq_true rfl) d_sm_next_19 ⟨by decide, by decide⟩ (fun r2 h2 => ?_)
    obtain rfl := in_nat h2 (by omega) (by omega) (by omega)
    refine xz_ne (tgt := 29) hx hb d_sm_next_22 (by decide) (by omega) (fun hc9 => ?_) (fun hc9 => ?_)
    · refine lv_iconst (v := nI 0) hx hb d_sm_next_29 (by decide) ?_
      refine lv_iconst (v := nI 1) hx hb d_sm_next_30 (by decide) ?_
      refine pv_i (C := "ShareDeskModel") hx hb hml hown hg (c_sm_fails0 l D [(cJ, .long), (cZ, .boolean)] x mw ms mk mg H.size 1 (nI n)) ⟨k_235, k_237, ks_6, k_2, k_238⟩ n_sm_fails ⟨rfl, rfl, by decide, by decide⟩ hK (hP.sub [0] rfl) (hD.sub [0] rfl rfl) (va_recv (q0 := 0) (ci := 1) hK hP rfl rfl) hl.1 rfl (Nat.le_of_ble_eq_true rfl) d_sm_next_31 ⟨by decide, by decide⟩ (fun rf hf => ?_)
      subst hf
      refine xz_ne (tgt := 59) hx hb d_sm_next_34 (by decide) (by omega) (fun hc9 => ?_) (fun hc9 => ?_)
      · exact absurd hc9 (by decide)
      · refine lv_aload_n hx hb d_sm_next_37 rfl (lv_at hl 0 rfl) ?_
        refine lv_aload_n hx hb d_sm_next_38 rfl (lv_at hl 0 rfl) ?_
        refine pv_l (C := "ShareDeskModel") hx hb hml hown hg (c_sm_all l D cJ cZ x mw ms mk mg H.size n (nI 0) gw w hn8 hgw) ⟨k_257, k_259, ks_8, k_2, k_260⟩ n_sm_all ⟨rfl, rfl, by decide, by decide⟩ hK (hP.sub [0, 1] rfl) (hD.sub [0, 1] rfl rfl) (va_recv (q0 := 0) (ci := 1) hK hP rfl rfl) hl.1 rfl (Nat.le_of_ble_eq_true rfl) d_sm_next_39 ⟨by decide, by decide⟩ (fun ra hra => ?_)
        subst hra
        refine lv_lconst (v := lN 0) hx hb d_sm_next_42 (by decide) ?_
        refine xl_ne (tgt := 51) hx hb d_sm_next_43 d_sm_next_44 (by decide) (by omega) (by omega) (fun hz => ?_) (fun hz => ?_)
        · exact absurd hW0 (by omega)
        · refine lv_iconst (v := nI 1) hx hb d_sm_next_47 (by decide) ?_
          refine lv_goto (tgt := 52) hx hb d_sm_next_48 (by decide) ?_
          refine lv_iconst (v := nI 2) hx hb d_sm_next_52 (by decide) ?_
          refine ev_i (C := "ShareDeskModel") hx hb hml hown hg (c_sm_fails1 l D [(cJ, .long), (cZ, .boolean)] x mw ms mk mg H.size 2 (nI n) (by decide) (by decide)) ⟨k_235, k_237, ks_6, k_2, k_238⟩ n_sm_fails ⟨rfl, rfl, by decide, by decide⟩ hK hP hD hS hA [0] [1] rfl rfl (wr := [aL mw cJ gw]) rfl rfl (by decide) (va_recv (q0 := 0) (ci := 1) hK hP rfl rfl) hl.1 rfl (Nat.le_of_ble_eq_true rfl) d_sm_next_53 ⟨by decide, by decide⟩ (fun rf _u H locs hf hP hD hS => ?_)
          have hP : va_P D cls2 [oM x (nI 2) (nI n) mw ms mk mg, aL mw cJ gw] H := hP.sub [1, 0] rfl
          have hD : va_D A [oM x (nI 2) (nI n) mw ms mk mg, aL mw cJ gw] := hD.sub [1, 0] rfl rfl
          subst hf
          refine xz_eq (tgt := 61) hx hb d_sm_next_56 (by decide) (by omega) (fun hc9 => ?_) (fun hc9 => ?_)
          · exact absurd hc9 (by decide)
          · refine lv_iconst (v := nI 0) hx hb d_sm_next_59 (by decide) ?_
            exact en_gi () hx hb hr hlk trivial hP hK hD hS d_sm_next_60
    · exact absurd hc9 (by decide)
section MLS
variable {p : Program} {l : Launch} {e : Env} {R : Room} {s : State} {m : MethodId} {args : Array Value} {below : List Frame} {meth : Method} {c : Code} {cells slots : Nat} {Q : State → Prop}
variable {D : va_G} {A : Nat → Prop} {x mw ms mk mg n mm d pp k : Nat} {er : Int32} {cJ cZ : ClassId} {gw : Nat → Int64} {w : Nat → Nat}
set_option maxRecDepth 10000 in
set_option maxHeartbeats 4000000 in
theorem lp_mleast0 {gk : Nat → Int64} (hx : p.tables.exec = Jvm.exec) (hb : c.code = b_sm_least) (hg : ∀ w ∈ gws, w.before args s = true) (hown : s.vm.findClass "ShareDeskModel" = some m.cls) (hK : va_K D cls2 [(cJ, .long), (cZ, .boolean)] s) (hml : c.maxLocals = 5) (hA : ∀ q, s.heap.size ≤ q → A q) (hn1 : 1 ≤ n) (hn8 : n ≤ 8) (hw : ∀ q, w q ≤ 100000) (hgw : ∀ q, q < 8 → gw q = lN (w q)) (hW : 0 < pu_sum w n) (hp : pp < n) (hk : k < 2 ^ 31)
    (k1 : ∀ (H : Heap) (locs : List Loc) (ls : Array Slot) (gs : Nat → Int64) (gg : Nat → Int32), (∀ i, i ≤ 10000 → pu_sh n w 0 i pp < k) → va_P D cls2 [oM x (nI 0) (nI n) mw ms mk mg, aL mw cJ gw, aL ms cJ gs, aL mk cJ gk, aI mg cZ gg] H → va_D A [oM x (nI 0) (nI n) mw ms mk mg, aL mw cJ gw, aL ms cJ gs, aL mk cJ gk, aI mg cZ gg] → va_S A s.heap H locs → W p l e (rL 3 0 0) s m args below meth c H locs 0 0 Q (F0 m 119 ls [.int (-1)]))
    (k2 : ∀ (H : Heap) (locs : List Loc) (ls : Array Slot) (gs : Nat → Int64) (gg : Nat → Int32) (r : Int32), pu_isL (fun m => pu_sh n w 0 m pp) k r → va_P D cls2 [oM x (nI 0) (nI n) mw ms mk mg, aL mw cJ gw, aL ms cJ gs, aL mk cJ gk, aI mg cZ gg] H → va_D A [oM x (nI 0) (nI n) mw ms mk mg, aL mw cJ gw, aL ms cJ gs, aL mk cJ gk, aI mg cZ gg] → va_S A s.heap H locs → W p l e (rL 3 0 0) s m args below meth c H locs 0 0 Q (F0 m 102 ls [.int r])) :
    ∀ (j i : Nat) (H : Heap) (locs : List Loc) (ls : Array Slot) (gs : Nat → Int64) (gg : Nat → Int32), 10001 = i + j → (∀ q, q < i → pu_sh n w 0 q pp < k) → va_P D cls2 [oM x (nI 0) (nI n) mw ms mk mg, aL mw cJ gw, aL ms cJ gs, aL mk cJ gk, aI mg cZ gg] H → va_D A [oM x (nI 0) (nI n) mw ms mk mg, aL mw cJ gw, aL ms cJ gs, aL mk cJ gk, aI mg cZ gg] → va_S A s.heap H locs → lv_has ls 5 [(4, .int (nI i)), (3, .int (nI pp)), (2, .int (nI k)), (1, .int (nI 0)), (0, .ref x)] → W p l e (rL 3 0 0) s m args below meth c H locs 0 0 Q (F0 m 70 ls []) := by
  intro j
  induction j with
  | zero =>
    intro i H locs ls gs gg hj hlo hP hD hS hl
    refine lv_iload hx hb d_sm_least_70 (lv_at hl 0 rfl) ?_
    refine lv_sipush (v := nI 10000) hx hb d_sm_least_72 (by decide) ?_
    refine xc_gt (tgt := 118) hx hb d_sm_least_75 (by decide) (by omega) (by omega) (fun hc => ?_) (fun hc => ?_)
    · refine lv_iconst (v := -1) hx hb d_sm_least_118 (by decide) ?_
      exact k1 H locs ls gs gg (fun q hq => hlo q (by omega)) hP hD hS
    · exact absurd hc (by omega)
  | succ j ih =>
    intro i H locs ls gs gg hj hlo hP hD hS hl
    refine lv_iload hx hb d_sm_least_70 (lv_at hl 0 rfl) ?_
    refine lv_sipush (v := nI 10000) hx hb d_sm_least_72 (by decide) ?_
    refine xc_gt (tgt := 118) hx hb d_sm_least_75 (by decide) (by omega) (by omega) (fun hc => ?_) (fun hc => ?_)
    · refine lv_iconst (v := -1) hx hb d_sm_least_118 (by decide) ?_
      exact k1 H locs ls gs gg (fun q hq => hlo q (by omega)) hP hD hS
    · have hsi := pu_sh_le (d := 0) (m := i) hW hp
      refine lv_iload_n hx hb d_sm_least_78 rfl (lv_at hl 3 rfl) ?_
      refine xz_ne (tgt := 88) hx hb d_sm_least_79 (by decide) (by omega) (fun hc9 => ?_) (fun hc9 => ?_)
      · exact absurd hc9 (by decide)
      · refine lv_aload_n hx hb d_sm_least_82 rfl (lv_at hl 4 rfl) ?_
        refine lv_iload hx hb d_sm_least_83 (lv_at hl 0 rfl) ?_
        refine ev_v (C := "ShareDeskModel") hx hb hml hown hg (c_sm_parts l D cJ cZ x mw ms mk mg H.size n i (nI 0) gw gs gg w hn1 hn8 hw hgw hW (by omega)) ⟨k_265, k_267, ks_10, k_2, k_268⟩ n_sm_parts ⟨rfl, rfl, by decide, by decide⟩ hK hP hD hS hA [0, 1, 2, 4] [3] rfl rfl (wr := [aL mk cJ gk]) rfl rfl (by decide) (va_recv (q0 := 0) (ci := 1) hK hP rfl rfl) hl.1 rfl (Nat.le_of_ble_eq_true rfl) d_sm_least_85 ⟨by decide, by decide⟩ (fun up H locs hup hP hD hS => ?_)
        have hP : va_P D cls2 [oM x (nI 0) (nI n) mw ms mk mg, aL mw cJ gw, aL ms cJ up.1, aL mk cJ gk, aI mg cZ up.2] H := hP.sub [1, 2, 3, 0, 4] rfl
        have hD : va_D A [oM x (nI 0) (nI n) mw ms mk mg, aL mw cJ gw, aL ms cJ up.1, aL mk cJ gk, aI mg cZ up.2] := hD.sub [1, 2, 3, 0, 4] rfl rfl
        have hgi : ∀ q, q < n → up.1 q = lN (pu_sh n w 0 i q) := fun q hq => by rw [hup q hq, pu_sh0]
        refine lv_aload_n hx hb d_sm_least_88 rfl (lv_at hl 4 rfl) ?_
        refine sm_get hx hb hg hown hK hP 0 rfl 3 (by decide) k_205 rfl d_sm_least_89 ?_
        refine lv_iload_n hx hb d_sm_least_92 rfl (lv_at hl 1 rfl) ?_
        refine xa_lald hx hb hK hP 2 0 rfl rfl (by omega) d_sm_least_93 (v := lN (pu_sh n w 0 i pp)) (hgi pp hp) ?_
        refine lv_iload_n hx hb d_sm_least_94 rfl (lv_at hl 2 rfl) ?_
        refine lv_i2l (v := lN k) hx hb d_sm_least_95 (nI_l (by omega)) ?_
        refine xl_lt (tgt := 103) hx hb d_sm_least_96 d_sm_least_97 (by decide) (by omega) (by omega) (fun h2 => ?_) (fun h2 => ?_)
        · refine lv_iload_n hx hb d_sm_least_103 rfl (lv_at hl 3 rfl) ?_
          refine xz_le (tgt := 112) hx hb d_sm_least_104 (by decide) (by omega) (fun hc9 => ?_) (fun hc9 => ?_)
          · refine lv_iinc (k := 0) (v := nI (i + 1)) (lv' := [(4, .int (nI (i + 1))), (3, .int (nI pp)), (2, .int (nI k)), (1, .int (nI 0)), (0, .ref x)]) hx hb d_sm_least_112 hl rfl (xinc _) (by decide) rfl (fun ls hl => ?_)
            refine lv_goto (tgt := 70) hx hb d_sm_least_115 (by decide) ?_
            exact ih (i + 1) H locs ls _ _ (by omega) (fun q hq => by
              rcases Nat.lt_or_ge q i with z | z
              · exact hlo q z
              · have : q = i := by omega
                subst this; exact h2) hP hD hS (lv_sub hl [0, 1, 2, 3, 4] rfl)
          · exact absurd hc9 (by decide)
        · refine lv_iload hx hb d_sm_least_100 (lv_at hl 0 rfl) ?_
          exact k2 H locs ls _ _ _ (Or.inl ⟨i, by omega, h2, hlo, rfl⟩) hP hD hS
set_option maxRecDepth 10000 in
set_option maxHeartbeats 4000000 in
theorem lp_mleast1 {gk : Nat → Int64} (hx : p.tables.exec = Jvm.exec) (hb : c.code = b_sm_least) (hg : ∀ w ∈ gws, w.before args s = true) (hown : s.vm.findClass "ShareDeskModel" = some m.cls) (hK : va_K D cls2 [(cJ, .long), (cZ, .boolean)] s) (hml : c.maxLocals = 5) (hA : ∀ q, s.heap.size ≤ q → A q) (hn1 : 1 ≤ n) (hn8 : n ≤ 8) (hw : ∀ q, w q ≤ 100000) (hgw : ∀ q, q < 8 → gw q = lN (w q)) (hW : 0 < pu_sum w n) (hp : pp < n) (hk : k < 2 ^ 31) (hd : d = 1 ∨ d = 2)
    (k1 : ∀ (H : Heap) (locs : List Loc) (ls : Array Slot) (gs : Nat → Int64) (gg : Nat → Int32), (∀ i, i ≤ 10000 → pu_sh n w d i pp < k) → va_P D cls2 [oM x (nI 0) (nI n) mw ms mk mg, aL mw cJ gw, aL ms cJ gs, aL mk cJ gk, aI mg cZ gg] H → va_D A [oM x (nI 0) (nI n) mw ms mk mg, aL mw cJ gw, aL ms cJ gs, aL mk cJ gk, aI mg cZ gg] → va_S A s.heap H locs → W p l e (rL 3 0 0) s m args below meth c H locs 0 0 Q (F0 m 119 ls [.int (-1)]))
    (k2 : ∀ (H : Heap) (locs : List Loc) (ls : Array Slot) (gs : Nat → Int64) (gg : Nat → Int32) (r : Int32), pu_isL (fun m => pu_sh n w d m pp) k r → va_P D cls2 [oM x (nI 0) (nI n) mw ms mk mg, aL mw cJ gw, aL ms cJ gs, aL mk cJ gk, aI mg cZ gg] H → va_D A [oM x (nI 0) (nI n) mw ms mk mg, aL mw cJ gw, aL ms cJ gs, aL mk cJ gk, aI mg cZ gg] → va_S A s.heap H locs → W p l e (rL 3 0 0) s m args below meth c H locs 0 0 Q (F0 m 102 ls [.int r])) :
    ∀ (j i : Nat) (H : Heap) (locs : List Loc) (ls : Array Slot) (gs : Nat → Int64) (gg : Nat → Int32), 10001 = i + j → (∀ q, q < n → gs q = lN (pu_G n w d i q)) → (∀ q, q < i → pu_sh n w d q pp < k) → va_P D cls2 [oM x (nI 0) (nI n) mw ms mk mg, aL mw cJ gw, aL ms cJ gs, aL mk cJ gk, aI mg cZ gg] H → va_D A [oM x (nI 0) (nI n) mw ms mk mg, aL mw cJ gw, aL ms cJ gs, aL mk cJ gk, aI mg cZ gg] → va_S A s.heap H locs → lv_has ls 5 [(4, .int (nI i)), (3, .int (nI pp)), (2, .int (nI k)), (1, .int (nI d)), (0, .ref x)] → W p l e (rL 3 0 0) s m args below meth c H locs 0 0 Q (F0 m 70 ls []) := by
  intro j
  induction j with
  | zero =>
    intro i H locs ls gs gg hj hgs hlo hP hD hS hl
    refine lv_iload hx hb d_sm_least_70 (lv_at hl 0 rfl) ?_
    refine lv_sipush (v := nI 10000) hx hb d_sm_least_72 (by decide) ?_
    refine xc_gt (tgt := 118) hx hb d_sm_least_75 (by decide) (by omega) (by omega) (fun hc => ?_) (fun hc => ?_)
    · refine lv_iconst (v := -1) hx hb d_sm_least_118 (by decide) ?_
      exact k1 H locs ls gs gg (fun q hq => hlo q (by omega)) hP hD hS
    · exact absurd hc (by omega)
  | succ j ih =>
    intro i H locs ls gs gg hj hgs hlo hP hD hS hl
    refine lv_iload hx hb d_sm_least_70 (lv_at hl 0 rfl) ?_
    refine lv_sipush (v := nI 10000) hx hb d_sm_least_72 (by decide) ?_
    refine xc_gt (tgt := 118) hx hb d_sm_least_75 (by decide) (by omega) (by omega) (fun hc => ?_) (fun hc => ?_)
    · refine lv_iconst (v := -1) hx hb d_sm_least_118 (by decide) ?_
      exact k1 H locs ls gs gg (fun q hq => hlo q (by omega)) hP hD hS
    · have hsi := pu_sh_le (d := d) (m := i) hW hp
      refine lv_iload_n hx hb d_sm_least_78 rfl (lv_at hl 3 rfl) ?_
      refine xz_ne (tgt := 88) hx hb d_sm_least_79 (by decide) (by omega) (fun hc9 => ?_) (fun hc9 => ?_)
      · have hgi : ∀ q, q < n → gs q = lN (pu_sh n w d i q) := fun q hq => by rw [hgs q hq, pu_sh, if_neg (by omega)]
        refine lv_aload_n hx hb d_sm_least_88 rfl (lv_at hl 4 rfl) ?_
        refine sm_get hx hb hg hown hK hP 0 rfl 3 (by decide) k_205 rfl d_sm_least_89 ?_
        refine lv_iload_n hx hb d_sm_least_92 rfl (lv_at hl 1 rfl) ?_
        refine xa_lald hx hb hK hP 2 0 rfl rfl (by omega) d_sm_least_93 (v := lN (pu_sh n w d i pp)) (hgi pp hp) ?_
        refine lv_iload_n hx hb d_sm_least_94 rfl (lv_at hl 2 rfl) ?_
        refine lv_i2l (v := lN k) hx hb d_sm_least_95 (nI_l (by omega)) ?_
        refine xl_lt (tgt := 103) hx hb d_sm_least_96 d_sm_least_97 (by decide) (by omega) (by omega) (fun h2 => ?_) (fun h2 => ?_)
        · refine lv_iload_n hx hb d_sm_least_103 rfl (lv_at hl 3 rfl) ?_
          refine xz_le (tgt := 112) hx hb d_sm_least_104 (by decide) (by omega) (fun hc9 => ?_) (fun hc9 => ?_)
          · exact absurd hc9 (by omega)
          · refine lv_aload_n hx hb d_sm_least_107 rfl (lv_at hl 4 rfl) ?_
            refine lv_iload_n hx hb d_sm_least_108 rfl (lv_at hl 3 rfl) ?_
            refine ev_v (C := "ShareDeskModel") hx hb hml hown hg (c_sm_one l D cJ cZ x mw ms mk mg H.size n d (nI 0) gw gs w (pu_G n w d i) hn1 hn8 hw hgw hW hd (fun q hq => Nat.le_trans (pu_G_le hW hq) (by omega)) hgs) ⟨k_269, k_271, ks_11, k_2, k_272⟩ n_sm_one ⟨rfl, rfl, by decide, by decide⟩ hK hP hD hS hA [0, 1, 2] [3, 4] rfl rfl (wr := [aL mk cJ gk, aI mg cZ gg]) rfl rfl (by decide) (va_recv (q0 := 0) (ci := 1) hK hP rfl rfl) hl.1 rfl (Nat.le_of_ble_eq_true rfl) d_sm_least_109 ⟨by decide, by decide⟩ (fun u H locs hu hP hD hS => ?_)
            have hP : va_P D cls2 [oM x (nI 0) (nI n) mw ms mk mg, aL mw cJ gw, aL ms cJ u, aL mk cJ gk, aI mg cZ gg] H := hP.sub [2, 3, 4, 0, 1] rfl
            have hD : va_D A [oM x (nI 0) (nI n) mw ms mk mg, aL mw cJ gw, aL ms cJ u, aL mk cJ gk, aI mg cZ gg] := hD.sub [2, 3, 4, 0, 1] rfl rfl
            obtain ⟨b, hb1, hb2⟩ := pu_qm_ex (pu_G n w d i) d hW
            refine lv_iinc (k := 0) (v := nI (i + 1)) (lv' := [(4, .int (nI (i + 1))), (3, .int (nI pp)), (2, .int (nI k)), (1, .int (nI d)), (0, .ref x)]) hx hb d_sm_least_112 hl rfl (xinc _) (by decide) rfl (fun ls hl => ?_)
            refine lv_goto (tgt := 70) hx hb d_sm_least_115 (by decide) ?_
            exact ih (i + 1) H locs ls _ _ (by omega) (fun q hq => by rw [hu b hb1 q hq, show pu_G n w d (i + 1) = pu_inc (pu_G n w d i) b from pu_gs_s hb1]) (fun q hq => by
              rcases Nat.lt_or_ge q i with z | z
              · exact hlo q z
              · have : q = i := by omega
                subst this; exact h2) hP hD hS (lv_sub hl [0, 1, 2, 3, 4] rfl)
        · refine lv_iload hx hb d_sm_least_100 (lv_at hl 0 rfl) ?_
          exact k2 H locs ls _ _ _ (Or.inl ⟨i, by omega, h2, hlo, rfl⟩) hP hD hS
      · exact absurd hc9 (by omega)
end MLS
set_option maxRecDepth 10000 in
set_option maxHeartbeats 4000000 in
theorem c_sm_least (l : Launch) (D : va_G) (cJ cZ : ClassId) (x mw ms mk mg sz n d k pp : Nat) (er : Int32) (gw gs gk : Nat → Int64) (gg : Nat → Int32) (w : Nat → Nat) (hn1 : 1 ≤ n) (hn8 : n ≤ 8) (hw : ∀ q, w q ≤ 100000) (hgw : ∀ q, q < 8 → gw q = lN (w q)) (hW : 0 < pu_sum w n) (hd : d < 3) (hk : k < 2 ^ 31) (hp : pp < n) : Met l y_sm_least w_sm_least (rL 3 0 0) (va_Pc [.ref x, .int (nI d), .int (nI k), .int (nI pp)] (gP D [(cJ, .long), (cZ, .boolean)] [oM x er (nI n) mw ms mk mg, aL mw cJ gw, aL ms cJ gs, aL mk cJ gk, aI mg cZ gg] sz)) (va_Qi (fun r _ => pu_isL (fun m => pu_sh n w d m pp) k r) (gB D [(cJ, .long), (cZ, .boolean)] (va_A [oM x er (nI n) mw ms mk mg, aL mw cJ gw, aL ms cJ gs, aL mk cJ gk, aI mg cZ gg] sz) (fun u : (Nat → Int64) × (Nat → Int64) × (Nat → Int32) => [oM x (nI 0) (nI n) mw ms mk mg, aL mw cJ gw, aL ms cJ u.1, aL mk cJ u.2.1, aI mg cZ u.2.2])) (va_A [oM x er (nI n) mw ms mk mg, aL mw cJ gw, aL ms cJ gs, aL mk cJ gk, aI mg cZ gg] sz)) 0 0 (va_A [oM x er (nI n) mw ms mk mg, aL mw cJ gw, aL ms cJ gs, aL mk cJ gk, aI mg cZ gg] sz) := by
  refine Met.ofW (cc := b_sm_least) (maxL := 5) (ret := (some .int)) (by decide) rfl ?_
  intro p e s m args below meth c s₁ B hml hv
  obtain ⟨rfl, hsz, hP, hK, hD0⟩ := hv
  have hx := B.exec
  have hb := B.bytes
  have hr := B.returns
  have hts := atoms_spec (ws := w_sm_least) B.pre
  have hg : ∀ w ∈ gws, w.before ([.ref x, .int (nI d), .int (nI k), .int (nI pp)] : List Value).toArray s = true := fun w hw => hts w (List.mem_cons_of_mem _ hw)
  have hown : s.vm.findClass "ShareDeskModel" = some m.cls := findClass_of_methodNamed B.named
  have hlk := B.notSynchronized
  subst hsz
  have hD := hD0.self (sz := s.heap.size)
  generalize hAe : va_A [oM x er (nI n) mw ms mk mg, aL mw cJ gw, aL ms cJ gs, aL mk cJ gk, aI mg cZ gg] s.heap.size = A at hD ⊢
  have hA : ∀ q : Nat, s.heap.size ≤ q → A q := fun q h => by rw [← hAe]; exact Or.inr h
  have hS : va_S A s.heap s.heap [] := va_S.rf
  have hP : va_P D cls2 [oM x er (nI n) mw ms mk mg, aL mw cJ gw, aL ms cJ gs, aL mk cJ gk, aI mg cZ gg] s.heap := hP
  have hl := lv_entry ([.ref x, .int (nI d), .int (nI k), .int (nI pp)]) (n := 5) (Nat.le_of_ble_eq_true rfl)
  rw [lg_entry_eq]
  generalize (lg_sl ([.ref x, .int (nI d), .int (nI k), .int (nI pp)]) ++ List.replicate (5 - (lg_sl ([.ref x, .int (nI d), .int (nI k), .int (nI pp)])).length) Slot.unset).toArray = ls at hl ⊢
  have hl : lv_has ls 5 [(0, .ref x), (1, .int (nI d)), (2, .int (nI k)), (3, .int (nI pp))] := hl
  have hWb := pu_sum_bd hn8 hw
  refine lv_aload_n hx hb d_sm_least_0 rfl (lv_at hl 0 rfl) ?_
  refine lv_iconst (v := nI 0) hx hb d_sm_least_1 (by decide) ?_
  refine sm_put hx hb hg hown hK hP hD hS 0 rfl 0 (by decide) k_202 rfl (by decide +kernel) (Nat.le_of_ble_eq_true rfl) d_sm_least_2 (fun H locs hP hD hS => ?_)
  have hP : va_P D cls2 [oM x (nI 0) (nI n) mw ms mk mg, aL mw cJ gw, aL ms cJ gs, aL mk cJ gk, aI mg cZ gg] H := hP
  have hD : va_D A [oM x (nI 0) (nI n) mw ms mk mg, aL mw cJ gw, aL ms cJ gs, aL mk cJ gk, aI mg cZ gg] := hD
  refine lv_aload_n hx hb d_sm_least_5 rfl (lv_at hl 0 rfl) ?_
  refine lv_iload_n hx hb d_sm_least_6 rfl (lv_at hl 1 rfl) ?_
  refine ps_i hx hb hml hown hg (c_sm_isWay l (nI d)) ⟨k_252, k_253, k_2, k_254⟩ n_sm_isWay ⟨rfl, rfl, by decide, by decide⟩ hl.1 rfl (Nat.le_of_ble_eq_true rfl) d_sm_least_7 ⟨by decide, by decide⟩ (fun r1 h1 => ?_)
  obtain rfl := qIn_nat h1 (by omega) (by omega) (by omega)
  refine xz_eq (tgt := 25) hx hb d_sm_least_10 (by decide) (by omega) (fun hc9 => ?_) (fun hc9 => ?_)
  · exact absurd hc9 (by decide)
  · refine lv_iload_n hx hb d_sm_least_13 rfl (lv_at hl 2 rfl) ?_
    refine xz_lt (tgt := 25) hx hb d_sm_least_14 (by decide) (by omega) ?_
    refine lv_aload_n hx hb d_sm_least_17 rfl (lv_at hl 0 rfl) ?_
    refine lv_iload_n hx hb d_sm_least_18 rfl (lv_at hl 3 rfl) ?_
    refine pv_i (C := "ShareDeskModel") hx hb hml hown hg (c_sm_isParty l D [(cJ, .long), (cZ, .boolean)] x mw ms mk mg H.size n (nI 0) (nI pp) hn1 hn8) ⟨k_243, k_245, ks_7, k_2, k_246⟩ n_sm_isParty ⟨rfl, rfl, by decide, by decide⟩ hK (hP.sub [0] rfl) (hD.sub [0] rfl rfl) (va_recv (q0 := 0) (ci := 1) hK hP rfl rfl) hl.1 rfl (Nat.le_of_ble_eq_true rfl) d_sm_least_19 ⟨by decide, by decide⟩ (fun r3 h3 => ?_)
    obtain rfl := qIn_nat h3 (by omega) (by omega) (by omega)
    refine xz_ne (tgt := 29) hx hb d_sm_least_22 (by decide) (by omega) (fun hc9 => ?_) (fun hc9 => ?_)
    · refine lv_iconst (v := nI 0) hx hb d_sm_least_29 (by decide) ?_
      refine lv_iconst (v := nI 1) hx hb d_sm_least_30 (by decide) ?_
      refine pv_i (C := "ShareDeskModel") hx hb hml hown hg (c_sm_fails0 l D [(cJ, .long), (cZ, .boolean)] x mw ms mk mg H.size 1 (nI n)) ⟨k_235, k_237, ks_6, k_2, k_238⟩ n_sm_fails ⟨rfl, rfl, by decide, by decide⟩ hK (hP.sub [0] rfl) (hD.sub [0] rfl rfl) (va_recv (q0 := 0) (ci := 1) hK hP rfl rfl) hl.1 rfl (Nat.le_of_ble_eq_true rfl) d_sm_least_31 ⟨by decide, by decide⟩ (fun rf hf => ?_)
      subst hf
      refine xz_ne (tgt := 59) hx hb d_sm_least_34 (by decide) (by omega) (fun hc9 => ?_) (fun hc9 => ?_)
      · exact absurd hc9 (by decide)
      · refine lv_aload_n hx hb d_sm_least_37 rfl (lv_at hl 0 rfl) ?_
        refine lv_aload_n hx hb d_sm_least_38 rfl (lv_at hl 0 rfl) ?_
        refine pv_l (C := "ShareDeskModel") hx hb hml hown hg (c_sm_all l D cJ cZ x mw ms mk mg H.size n (nI 0) gw w hn8 hgw) ⟨k_257, k_259, ks_8, k_2, k_260⟩ n_sm_all ⟨rfl, rfl, by decide, by decide⟩ hK (hP.sub [0, 1] rfl) (hD.sub [0, 1] rfl rfl) (va_recv (q0 := 0) (ci := 1) hK hP rfl rfl) hl.1 rfl (Nat.le_of_ble_eq_true rfl) d_sm_least_39 ⟨by decide, by decide⟩ (fun ra hra => ?_)
        subst hra
        refine lv_lconst (v := lN 0) hx hb d_sm_least_42 (by decide) ?_
        refine xl_ne (tgt := 51) hx hb d_sm_least_43 d_sm_least_44 (by decide) (by omega) (by omega) (fun hz => ?_) (fun hz => ?_)
        · refine lv_iconst (v := nI 0) hx hb d_sm_least_51 (by decide) ?_
          refine lv_iconst (v := nI 2) hx hb d_sm_least_52 (by decide) ?_
          refine pv_i (C := "ShareDeskModel") hx hb hml hown hg (c_sm_fails0 l D [(cJ, .long), (cZ, .boolean)] x mw ms mk mg H.size 2 (nI n)) ⟨k_235, k_237, ks_6, k_2, k_238⟩ n_sm_fails ⟨rfl, rfl, by decide, by decide⟩ hK (hP.sub [0] rfl) (hD.sub [0] rfl rfl) (va_recv (q0 := 0) (ci := 1) hK hP rfl rfl) hl.1 rfl (Nat.le_of_ble_eq_true rfl) d_sm_least_53 ⟨by decide, by decide⟩ (fun rf hf => ?_)
          subst hf
          refine xz_eq (tgt := 61) hx hb d_sm_least_56 (by decide) (by omega) (fun hc9 => ?_) (fun hc9 => ?_)
          · refine lv_aload_n hx hb d_sm_least_61 rfl (lv_at hl 0 rfl) ?_
            refine lv_iload_n hx hb d_sm_least_62 rfl (lv_at hl 1 rfl) ?_
            refine lv_iconst (v := nI 0) hx hb d_sm_least_63 (by decide) ?_
            refine ev_v (C := "ShareDeskModel") hx hb hml hown hg (c_sm_give l D cJ cZ x mw ms mk mg H.size n d 0 (nI 0) gw gs gg w hn1 hn8 hw hgw hW hd (by decide)) ⟨k_261, k_263, ks_9, k_2, k_264⟩ n_sm_give ⟨rfl, rfl, by decide, by decide⟩ hK hP hD hS hA [0, 1, 2, 4] [3] rfl rfl (wr := [aL mk cJ gk]) rfl rfl (by decide) (va_recv (q0 := 0) (ci := 1) hK hP rfl rfl) hl.1 rfl (Nat.le_of_ble_eq_true rfl) d_sm_least_64 ⟨by decide, by decide⟩ (fun ug H locs hug hP hD hS => ?_)
            have hP : va_P D cls2 [oM x (nI 0) (nI n) mw ms mk mg, aL mw cJ gw, aL ms cJ ug.1, aL mk cJ gk, aI mg cZ ug.2] H := hP.sub [1, 2, 3, 0, 4] rfl
            have hD : va_D A [oM x (nI 0) (nI n) mw ms mk mg, aL mw cJ gw, aL ms cJ ug.1, aL mk cJ gk, aI mg cZ ug.2] := hD.sub [1, 2, 3, 0, 4] rfl rfl
            refine lv_iconst (v := nI 0) hx hb d_sm_least_67 (by decide) ?_
            refine lv_istore (lv' := [(4, .int (nI 0)), (0, .ref x), (1, .int (nI d)), (2, .int (nI k)), (3, .int (nI pp))]) hx hb d_sm_least_68 hl (by decide) rfl (fun ls hl => ?_)
            by_cases hd0 : d = 0
            · subst hd0
              exact lp_mleast0 hx hb hg hown hK hml hA hn1 hn8 hw hgw hW hp hk (fun H locs ls gs gg h9 hP hD hS => en_gi (gs, gk, gg) hx hb hr hlk (Or.inr ⟨h9, rfl⟩) hP hK hD hS d_sm_least_119) (fun H locs ls gs gg r h9 hP hD hS => en_gi (gs, gk, gg) hx hb hr hlk h9 hP hK hD hS d_sm_least_102) 10001 0 _ _ ls _ _ (by omega) (fun q hq => absurd hq (by omega)) hP hD hS (lv_sub hl [0, 4, 3, 2, 1] rfl)
            · exact lp_mleast1 hx hb hg hown hK hml hA hn1 hn8 hw hgw hW hp hk (by omega) (fun H locs ls gs gg h9 hP hD hS => en_gi (gs, gk, gg) hx hb hr hlk (Or.inr ⟨h9, rfl⟩) hP hK hD hS d_sm_least_119) (fun H locs ls gs gg r h9 hP hD hS => en_gi (gs, gk, gg) hx hb hr hlk h9 hP hK hD hS d_sm_least_102) 10001 0 _ _ ls _ _ (by omega) (fun q hq => by rw [hug q hq, pu_sh, if_neg hd0]) (fun q hq => absurd hq (by omega)) hP hD hS (lv_sub hl [0, 4, 3, 2, 1] rfl)
          · exact absurd hc9 (by decide)
        · exact absurd hz (by omega)
    · exact absurd hc9 (by decide)
set_option maxRecDepth 10000 in
set_option maxHeartbeats 4000000 in
theorem c_sm_least1 (l : Launch) (D : va_G) (cJ cZ : ClassId) (x mw ms mk mg sz n : Nat) (er v t y : Int32) (gw : Nat → Int64) (hn1 : 1 ≤ n) (hn8 : n ≤ 8) (h : ¬ (0 ≤ v.toInt ∧ v.toInt < 3 ∧ 0 ≤ t.toInt ∧ 0 ≤ y.toInt ∧ y.toInt < (n : Int))) : Met l y_sm_least w_sm_least (rL 3 0 0) (va_Pc [.ref x, .int v, .int t, .int y] (gP D [(cJ, .long), (cZ, .boolean)] [oM x er (nI n) mw ms mk mg, aL mw cJ gw] sz)) (va_Qi (fun _ _ => True) (gB D [(cJ, .long), (cZ, .boolean)] (va_A [oM x er (nI n) mw ms mk mg, aL mw cJ gw] sz) (fun u : Unit => [oM x (nI 1) (nI n) mw ms mk mg, aL mw cJ gw])) (va_A [oM x er (nI n) mw ms mk mg, aL mw cJ gw] sz)) 0 0 (va_A [oM x er (nI n) mw ms mk mg, aL mw cJ gw] sz) := by
  refine Met.ofW (cc := b_sm_least) (maxL := 5) (ret := (some .int)) (by decide) rfl ?_
  intro p e s m args below meth c s₁ B hml hv
  obtain ⟨rfl, hsz, hP, hK, hD0⟩ := hv
  have hx := B.exec
  have hb := B.bytes
  have hr := B.returns
  have hts := atoms_spec (ws := w_sm_least) B.pre
  have hg : ∀ w ∈ gws, w.before ([.ref x, .int v, .int t, .int y] : List Value).toArray s = true := fun w hw => hts w (List.mem_cons_of_mem _ hw)
  have hown : s.vm.findClass "ShareDeskModel" = some m.cls := findClass_of_methodNamed B.named
  have hlk := B.notSynchronized
  subst hsz
  have hD := hD0.self (sz := s.heap.size)
  generalize hAe : va_A [oM x er (nI n) mw ms mk mg, aL mw cJ gw] s.heap.size = A at hD ⊢
  have hA : ∀ q : Nat, s.heap.size ≤ q → A q := fun q h => by rw [← hAe]; exact Or.inr h
  have hS : va_S A s.heap s.heap [] := va_S.rf
  have hP : va_P D cls2 [oM x er (nI n) mw ms mk mg, aL mw cJ gw] s.heap := hP
  have hl := lv_entry ([.ref x, .int v, .int t, .int y]) (n := 5) (Nat.le_of_ble_eq_true rfl)
  rw [lg_entry_eq]
  generalize (lg_sl ([.ref x, .int v, .int t, .int y]) ++ List.replicate (5 - (lg_sl ([.ref x, .int v, .int t, .int y])).length) Slot.unset).toArray = ls at hl ⊢
  have hl : lv_has ls 5 [(0, .ref x), (1, .int v), (2, .int t), (3, .int y)] := hl
  refine lv_aload_n hx hb d_sm_least_0 rfl (lv_at hl 0 rfl) ?_
  refine lv_iconst (v := nI 0) hx hb d_sm_least_1 (by decide) ?_
  refine sm_put hx hb hg hown hK hP hD hS 0 rfl 0 (by decide) k_202 rfl (by decide +kernel) (Nat.le_of_ble_eq_true rfl) d_sm_least_2 (fun H locs hP hD hS => ?_)
  have hP : va_P D cls2 [oM x (nI 0) (nI n) mw ms mk mg, aL mw cJ gw] H := hP
  have hD : va_D A [oM x (nI 0) (nI n) mw ms mk mg, aL mw cJ gw] := hD
  refine lv_aload_n hx hb d_sm_least_5 rfl (lv_at hl 0 rfl) ?_
  refine lv_iload_n hx hb d_sm_least_6 rfl (lv_at hl 1 rfl) ?_
  refine ps_i hx hb hml hown hg (c_sm_isWay l v) ⟨k_252, k_253, k_2, k_254⟩ n_sm_isWay ⟨rfl, rfl, by decide, by decide⟩ hl.1 rfl (Nat.le_of_ble_eq_true rfl) d_sm_least_7 ⟨by decide, by decide⟩ (fun r1 hq1 => ?_)
  refine lv_if_eq (tgt := 25) hx hb d_sm_least_10 (by decide) (fun b1 => ?_) (fun b1 => ?_)
  · refine lv_iconst (v := nI 1) hx hb d_sm_least_25 (by decide) ?_
    refine lv_goto (tgt := 30) hx hb d_sm_least_26 (by decide) ?_
    refine lv_iconst (v := nI 1) hx hb d_sm_least_30 (by decide) ?_
    refine ev_i (C := "ShareDeskModel") hx hb hml hown hg (c_sm_fails1 l D [(cJ, .long), (cZ, .boolean)] x mw ms mk mg H.size 1 (nI n) (by decide) (by decide)) ⟨k_235, k_237, ks_6, k_2, k_238⟩ n_sm_fails ⟨rfl, rfl, by decide, by decide⟩ hK hP hD hS hA [0] [1] rfl rfl (wr := [aL mw cJ gw]) rfl rfl (by decide) (va_recv (q0 := 0) (ci := 1) hK hP rfl rfl) hl.1 rfl (Nat.le_of_ble_eq_true rfl) d_sm_least_31 ⟨by decide, by decide⟩ (fun rf _u H locs hf hP hD hS => ?_)
    have hP : va_P D cls2 [oM x (nI 1) (nI n) mw ms mk mg, aL mw cJ gw] H := hP.sub [1, 0] rfl
    have hD : va_D A [oM x (nI 1) (nI n) mw ms mk mg, aL mw cJ gw] := hD.sub [1, 0] rfl rfl
    subst hf
    refine xz_ne (tgt := 59) hx hb d_sm_least_34 (by decide) (by omega) (fun hc9 => ?_) (fun hc9 => ?_)
    · refine lv_iconst (v := nI 0) hx hb d_sm_least_59 (by decide) ?_
      exact en_gi () hx hb hr hlk trivial hP hK hD hS d_sm_least_60
    · exact absurd hc9 (by decide)
  · refine lv_iload_n hx hb d_sm_least_13 rfl (lv_at hl 2 rfl) ?_
    refine lv_if_lt (tgt := 25) hx hb d_sm_least_14 (by decide) (fun b2 => ?_) (fun b2 => ?_)
    · refine lv_iconst (v := nI 1) hx hb d_sm_least_25 (by decide) ?_
      refine lv_goto (tgt := 30) hx hb d_sm_least_26 (by decide) ?_
      refine lv_iconst (v := nI 1) hx hb d_sm_least_30 (by decide) ?_
      refine ev_i (C := "ShareDeskModel") hx hb hml hown hg (c_sm_fails1 l D [(cJ, .long), (cZ, .boolean)] x mw ms mk mg H.size 1 (nI n) (by decide) (by decide)) ⟨k_235, k_237, ks_6, k_2, k_238⟩ n_sm_fails ⟨rfl, rfl, by decide, by decide⟩ hK hP hD hS hA [0] [1] rfl rfl (wr := [aL mw cJ gw]) rfl rfl (by decide) (va_recv (q0 := 0) (ci := 1) hK hP rfl rfl) hl.1 rfl (Nat.le_of_ble_eq_true rfl) d_sm_least_31 ⟨by decide, by decide⟩ (fun rf _u H locs hf hP hD hS => ?_)
      have hP : va_P D cls2 [oM x (nI 1) (nI n) mw ms mk mg, aL mw cJ gw] H := hP.sub [1, 0] rfl
      have hD : va_D A [oM x (nI 1) (nI n) mw ms mk mg, aL mw cJ gw] := hD.sub [1, 0] rfl rfl
      subst hf
      refine xz_ne (tgt := 59) hx hb d_sm_least_34 (by decide) (by omega) (fun hc9 => ?_) (fun hc9 => ?_)
      · refine lv_iconst (v := nI 0) hx hb d_sm_least_59 (by decide) ?_
        exact en_gi () hx hb hr hlk trivial hP hK hD hS d_sm_least_60
      · exact absurd hc9 (by decide)
    · refine lv_aload_n hx hb d_sm_least_17 rfl (lv_at hl 0 rfl) ?_
      refine lv_iload_n hx hb d_sm_least_18 rfl (lv_at hl 3 rfl) ?_
      refine pv_i (C := "ShareDeskModel") hx hb hml hown hg (c_sm_isParty l D [(cJ, .long), (cZ, .boolean)] x mw ms mk mg H.size n (nI 0) y hn1 hn8) ⟨k_243, k_245, ks_7, k_2, k_246⟩ n_sm_isParty ⟨rfl, rfl, by decide, by decide⟩ hK (hP.sub [0] rfl) (hD.sub [0] rfl rfl) (va_recv (q0 := 0) (ci := 1) hK hP rfl rfl) hl.1 rfl (Nat.le_of_ble_eq_true rfl) d_sm_least_19 ⟨by decide, by decide⟩ (fun r3 hq3 => ?_)
      refine lv_if_ne (tgt := 29) hx hb d_sm_least_22 (by decide) (fun b3 => ?_) (fun b3 => ?_)
      · have a1 : ¬ (v.toInt < ((0 : Nat) : Int) ∨ ((2 : Nat) : Int) < v.toInt) := fun z => b1 (by rw [hq1.2 z]; exact nI_0)
        have a2 : ¬ t.toInt < 0 := fun z => b2 (ti_neg.mpr z)
        have a3 : ¬ (y.toInt < ((0 : Nat) : Int) ∨ ((n - 1 : Nat) : Int) < y.toInt) := fun z => b3 (by rw [hq3.2 z]; exact nI_0)
        omega
      · refine lv_iconst (v := nI 1) hx hb d_sm_least_25 (by decide) ?_
        refine lv_goto (tgt := 30) hx hb d_sm_least_26 (by decide) ?_
        refine lv_iconst (v := nI 1) hx hb d_sm_least_30 (by decide) ?_
        refine ev_i (C := "ShareDeskModel") hx hb hml hown hg (c_sm_fails1 l D [(cJ, .long), (cZ, .boolean)] x mw ms mk mg H.size 1 (nI n) (by decide) (by decide)) ⟨k_235, k_237, ks_6, k_2, k_238⟩ n_sm_fails ⟨rfl, rfl, by decide, by decide⟩ hK hP hD hS hA [0] [1] rfl rfl (wr := [aL mw cJ gw]) rfl rfl (by decide) (va_recv (q0 := 0) (ci := 1) hK hP rfl rfl) hl.1 rfl (Nat.le_of_ble_eq_true rfl) d_sm_least_31 ⟨by decide, by decide⟩ (fun rf _u H locs hf hP hD hS => ?_)
        have hP : va_P D cls2 [oM x (nI 1) (nI n) mw ms mk mg, aL mw cJ gw] H := hP.sub [1, 0] rfl
        have hD : va_D A [oM x (nI 1) (nI n) mw ms mk mg, aL mw cJ gw] := hD.sub [1, 0] rfl rfl
        subst hf
        refine xz_ne (tgt := 59) hx hb d_sm_least_34 (by decide) (by omega) (fun hc9 => ?_) (fun hc9 => ?_)
        · refine lv_iconst (v := nI 0) hx hb d_sm_least_59 (by decide) ?_
          exact en_gi () hx hb hr hlk trivial hP hK hD hS d_sm_least_60
        · exact absurd hc9 (by decide)
set_option maxRecDepth 10000 in
set_option maxHeartbeats 4000000 in
theorem c_sm_least2 (l : Launch) (D : va_G) (cJ cZ : ClassId) (x mw ms mk mg sz n d k pp : Nat) (er : Int32) (gw : Nat → Int64) (w : Nat → Nat) (hn1 : 1 ≤ n) (hn8 : n ≤ 8) (hw : ∀ q, w q ≤ 100000) (hgw : ∀ q, q < 8 → gw q = lN (w q)) (hW0 : pu_sum w n = 0) (hd : d < 3) (hk : k < 2 ^ 31) (hp : pp < n) : Met l y_sm_least w_sm_least (rL 3 0 0) (va_Pc [.ref x, .int (nI d), .int (nI k), .int (nI pp)] (gP D [(cJ, .long), (cZ, .boolean)] [oM x er (nI n) mw ms mk mg, aL mw cJ gw] sz)) (va_Qi (fun _ _ => True) (gB D [(cJ, .long), (cZ, .boolean)] (va_A [oM x er (nI n) mw ms mk mg, aL mw cJ gw] sz) (fun u : Unit => [oM x (nI 2) (nI n) mw ms mk mg, aL mw cJ gw])) (va_A [oM x er (nI n) mw ms mk mg, aL mw cJ gw] sz)) 0 0 (va_A [oM x er (nI n) mw ms mk mg, aL mw cJ gw] sz) := by
  refine Met.ofW (cc := b_sm_least) (maxL := 5) (ret := (some .int)) (by decide) rfl ?_
  intro p e s m args below meth c s₁ B hml hv
  obtain ⟨rfl, hsz, hP, hK, hD0⟩ := hv
  have hx := B.exec
  have hb := B.bytes
  have hr := B.returns
  have hts := atoms_spec (ws := w_sm_least) B.pre
  have hg : ∀ w ∈ gws, w.before ([.ref x, .int (nI d), .int (nI k), .int (nI pp)] : List Value).toArray s = true := fun w hw => hts w (List.mem_cons_of_mem _ hw)
  have hown : s.vm.findClass "ShareDeskModel" = some m.cls := findClass_of_methodNamed B.named
  have hlk := B.notSynchronized
  subst hsz
  have hD := hD0.self (sz := s.heap.size)
  generalize hAe : va_A [oM x er (nI n) mw ms mk mg, aL mw cJ gw] s.heap.size = A at hD ⊢
  have hA : ∀ q : Nat, s.heap.size ≤ q → A q := fun q h => by rw [← hAe]; exact Or.inr h
  have hS : va_S A s.heap s.heap [] := va_S.rf
  have hP : va_P D cls2 [oM x er (nI n) mw ms mk mg, aL mw cJ gw] s.heap := hP
  have hl := lv_entry ([.ref x, .int (nI d), .int (nI k), .int (nI pp)]) (n := 5) (Nat.le_of_ble_eq_true rfl)
  rw [lg_entry_eq]
  generalize (lg_sl ([.ref x, .int (nI d), .int (nI k), .int (nI pp)]) ++ List.replicate (5 - (lg_sl ([.ref x, .int (nI d), .int (nI k), .int (nI pp)])).length) Slot.unset).toArray = ls at hl ⊢
  have hl : lv_has ls 5 [(0, .ref x), (1, .int (nI d)), (2, .int (nI k)), (3, .int (nI pp))] := hl
  refine lv_aload_n hx hb d_sm_least_0 rfl (lv_at hl 0 rfl) ?_
  refine lv_iconst (v := nI 0) hx hb d_sm_least_1 (by decide) ?_
  refine sm_put hx hb hg hown hK hP hD hS 0 rfl 0 (by decide) k_202 rfl (by decide +kernel) (Nat.le_of_ble_eq_true rfl) d_sm_least_2 (fun H locs hP hD hS => ?_)
  have hP : va_P D cls2 [oM x (nI 0) (nI n) mw ms mk mg, aL mw cJ gw] H := hP
  have hD : va_D A [oM x (nI 0) (nI n) mw ms mk mg, aL mw cJ gw] := hD
  refine lv_aload_n hx hb d_sm_least_5 rfl (lv_at hl 0 rfl) ?_
  refine lv_iload_n hx hb d_sm_least_6 rfl (lv_at hl 1 rfl) ?_
  refine ps_i hx hb hml hown hg (c_sm_isWay l (nI d)) ⟨k_252, k_253, k_2, k_254⟩ n_sm_isWay ⟨rfl, rfl, by decide, by decide⟩ hl.1 rfl (Nat.le_of_ble_eq_true rfl) d_sm_least_7 ⟨by decide, by decide⟩ (fun r1 h1 => ?_)
  obtain rfl := qIn_nat h1 (by omega) (by omega) (by omega)
  refine xz_eq (tgt := 25) hx hb d_sm_least_10 (by decide) (by omega) (fun hc9 => ?_) (fun hc9 => ?_)
  · exact absurd hc9 (by decide)
  · refine lv_iload_n hx hb d_sm_least_13 rfl (lv_at hl 2 rfl) ?_
    refine xz_lt (tgt := 25) hx hb d_sm_least_14 (by decide) (by omega) ?_
    refine lv_aload_n hx hb d_sm_least_17 rfl (lv_at hl 0 rfl) ?_
    refine lv_iload_n hx hb d_sm_least_18 rfl (lv_at hl 3 rfl) ?_
    refine pv_i (C := "ShareDeskModel") hx hb hml hown hg (c_sm_isParty l D [(cJ, .long), (cZ, .boolean)] x mw ms mk mg H.size n (nI 0) (nI pp) hn1 hn8) ⟨k_243, k_245, ks_7, k_2, k_246⟩ n_sm_isParty ⟨rfl, rfl, by decide, by decide⟩ hK (hP.sub [0] rfl) (hD.sub [0] rfl rfl) (va_recv (q0 := 0) (ci := 1) hK hP rfl rfl) hl.1 rfl (Nat.le_of_ble_eq_true rfl) d_sm_least_19 ⟨by decide, by decide⟩ (fun r3 h3 => ?_)
    obtain rfl := qIn_nat h3 (by omega) (by omega) (by omega)
    refine xz_ne (tgt := 29) hx hb d_sm_least_22 (by decide) (by omega) (fun hc9 => ?_) (fun hc9 => ?_)
    · refine lv_iconst (v := nI 0) hx hb d_sm_least_29 (by decide) ?_
      refine lv_iconst (v := nI 1) hx hb d_sm_least_30 (by decide) ?_
      refine pv_i (C := "ShareDeskModel") hx hb hml hown hg (c_sm_fails0 l D [(cJ, .long), (cZ, .boolean)] x mw ms mk mg H.size 1 (nI n)) ⟨k_235, k_237, ks_6, k_2, k_238⟩ n_sm_fails ⟨rfl, rfl, by decide, by decide⟩ hK (hP.sub [0] rfl) (hD.sub [0] rfl rfl) (va_recv (q0 := 0) (ci := 1) hK hP rfl rfl) hl.1 rfl (Nat.le_of_ble_eq_true rfl) d_sm_least_31 ⟨by decide, by decide⟩ (fun rf hf => ?_)
      subst hf
      refine xz_ne (tgt := 59) hx hb d_sm_least_34 (by decide) (by omega) (fun hc9 => ?_) (fun hc9 => ?_)
      · exact absurd hc9 (by decide)
      · refine lv_aload_n hx hb d_sm_least_37 rfl (lv_at hl 0 rfl) ?_
        refine lv_aload_n hx hb d_sm_least_38 rfl (lv_at hl 0 rfl) ?_
        refine pv_l (C := "ShareDeskModel") hx hb hml hown hg (c_sm_all l D cJ cZ x mw ms mk mg H.size n (nI 0) gw w hn8 hgw) ⟨k_257, k_259, ks_8, k_2, k_260⟩ n_sm_all ⟨rfl, rfl, by decide, by decide⟩ hK (hP.sub [0, 1] rfl) (hD.sub [0, 1] rfl rfl) (va_recv (q0 := 0) (ci := 1) hK hP rfl rfl) hl.1 rfl (Nat.le_of_ble_eq_true rfl) d_sm_least_39 ⟨by decide, by decide⟩ (fun ra hra => ?_)
        subst hra
        refine lv_lconst (v := lN 0) hx hb d_sm_least_42 (by decide) ?_
        refine xl_ne (tgt := 51) hx hb d_sm_least_43 d_sm_least_44 (by decide) (by omega) (by omega) (fun hz => ?_) (fun hz => ?_)
        · exact absurd hW0 (by omega)
        · refine lv_iconst (v := nI 1) hx hb d_sm_least_47 (by decide) ?_
          refine lv_goto (tgt := 52) hx hb d_sm_least_48 (by decide) ?_
          refine lv_iconst (v := nI 2) hx hb d_sm_least_52 (by decide) ?_
          refine ev_i (C := "ShareDeskModel") hx hb hml hown hg (c_sm_fails1 l D [(cJ, .long), (cZ, .boolean)] x mw ms mk mg H.size 2 (nI n) (by decide) (by decide)) ⟨k_235, k_237, ks_6, k_2, k_238⟩ n_sm_fails ⟨rfl, rfl, by decide, by decide⟩ hK hP hD hS hA [0] [1] rfl rfl (wr := [aL mw cJ gw]) rfl rfl (by decide) (va_recv (q0 := 0) (ci := 1) hK hP rfl rfl) hl.1 rfl (Nat.le_of_ble_eq_true rfl) d_sm_least_53 ⟨by decide, by decide⟩ (fun rf _u H locs hf hP hD hS => ?_)
          have hP : va_P D cls2 [oM x (nI 2) (nI n) mw ms mk mg, aL mw cJ gw] H := hP.sub [1, 0] rfl
          have hD : va_D A [oM x (nI 2) (nI n) mw ms mk mg, aL mw cJ gw] := hD.sub [1, 0] rfl rfl
          subst hf
          refine xz_eq (tgt := 61) hx hb d_sm_least_56 (by decide) (by omega) (fun hc9 => ?_) (fun hc9 => ?_)
          · exact absurd hc9 (by decide)
          · refine lv_iconst (v := nI 0) hx hb d_sm_least_59 (by decide) ?_
            exact en_gi () hx hb hr hlk trivial hP hK hD hS d_sm_least_60
    · exact absurd hc9 (by decide)
section MCN
variable {p : Program} {l : Launch} {e : Env} {R : Room} {s : State} {m : MethodId} {args : Array Value} {below : List Frame} {meth : Method} {c : Code} {cells slots : Nat} {Q : State → Prop}
variable {D : va_G} {A : Nat → Prop} {x mw ms mk mg n mm d pp k : Nat} {er : Int32} {cJ cZ : ClassId} {gw : Nat → Int64} {w : Nat → Nat}
variable {H : Heap} {locs : List Loc} {t : Nat}
set_option maxRecDepth 10000 in
set_option maxHeartbeats 4000000 in
theorem lp_mcount (hx : p.tables.exec = Jvm.exec) (hb : c.code = b_sm_count) (hg : ∀ w ∈ gws, w.before args s = true) (hown : s.vm.findClass "ShareDeskModel" = some m.cls) (hK : va_K D cls2 [(cJ, .long), (cZ, .boolean)] s) (hn1 : 1 ≤ n) (hn8 : n ≤ 8) (hw : ∀ q, w q ≤ 100000) (hgw : ∀ q, q < 8 → gw q = lN (w q)) (hP : va_P D cls2 [oM x (nI 0) (nI n) mw ms mk mg, aL mw cJ gw] H) (kk : ∀ (ls : Array Slot), lv_has ls 4 [(2, .int (nI (pu_cnt w n))), (1, .int (nI t)), (0, .ref x)] → W p l e R s m args below meth c H locs cells slots Q (F0 m 64 ls [])) : ∀ (j i : Nat) (ls : Array Slot), i + j = n → lv_has ls 4 [(3, .int (nI i)), (2, .int (nI (pu_cnt w i))), (1, .int (nI t)), (0, .ref x)] → W p l e R s m args below meth c H locs cells slots Q (F0 m 36 ls []) := by
  intro j
  induction j with
  | zero =>
    intro i ls hi hl
    refine lv_iload_n hx hb d_sm_count_36 rfl (lv_at hl 0 rfl) ?_
    refine lv_aload_n hx hb d_sm_count_37 rfl (lv_at hl 3 rfl) ?_
    refine sm_get hx hb hg hown hK hP 0 rfl 1 (by decide) k_203 rfl d_sm_count_38 ?_
    refine xc_ge (tgt := 64) hx hb d_sm_count_41 (by decide) (by omega) (by omega) (fun hc => ?_) (fun hc => ?_)
    · have : i = n := by omega
      subst this
      exact kk ls (lv_sub hl [1, 2, 3] rfl)
    · exact absurd hc (by omega)
  | succ j ih =>
    intro i ls hi hl
    refine lv_iload_n hx hb d_sm_count_36 rfl (lv_at hl 0 rfl) ?_
    refine lv_aload_n hx hb d_sm_count_37 rfl (lv_at hl 3 rfl) ?_
    refine sm_get hx hb hg hown hK hP 0 rfl 1 (by decide) k_203 rfl d_sm_count_38 ?_
    refine xc_ge (tgt := 64) hx hb d_sm_count_41 (by decide) (by omega) (by omega) (fun hc => ?_) (fun hc => ?_)
    · exact absurd hc (by omega)
    · have hwi := hw i
      refine lv_aload_n hx hb d_sm_count_44 rfl (lv_at hl 3 rfl) ?_
      refine sm_get hx hb hg hown hK hP 0 rfl 2 (by decide) k_204 rfl d_sm_count_45 ?_
      refine lv_iload_n hx hb d_sm_count_48 rfl (lv_at hl 0 rfl) ?_
      refine xa_lald hx hb hK hP 1 0 rfl rfl (by omega) d_sm_count_49 (v := lN (w i)) (hgw i (by omega)) ?_
      refine lv_lconst (v := lN 0) hx hb d_sm_count_50 (by decide) ?_
      refine xl_le (tgt := 58) hx hb d_sm_count_51 d_sm_count_52 (by decide) (by omega) (by omega) (fun h1 => ?_) (fun h1 => ?_)
      · refine lv_iinc (k := 0) (v := nI (i + 1)) (lv' := [(3, .int (nI (i + 1))), (2, .int (nI (pu_cnt w i))), (1, .int (nI t)), (0, .ref x)]) hx hb d_sm_count_58 hl rfl (xinc _) (by decide) rfl (fun ls hl => ?_)
        refine lv_goto (tgt := 36) hx hb d_sm_count_61 (by decide) ?_
        have hq : pu_cnt w (i + 1) = pu_cnt w i := by rw [pu_cnt, if_neg (by omega)]
        exact ih (i + 1) ls (by omega) (by rw [hq]; exact lv_sub hl [0, 1, 2, 3] rfl)
      · refine lv_iinc (k := 1) (v := nI (pu_cnt w i + 1)) (lv' := [(2, .int (nI (pu_cnt w i + 1))), (3, .int (nI i)), (1, .int (nI t)), (0, .ref x)]) hx hb d_sm_count_55 hl rfl (xinc _) (by decide) rfl (fun ls hl => ?_)
        refine lv_iinc (k := 1) (v := nI (i + 1)) (lv' := [(3, .int (nI (i + 1))), (2, .int (nI (pu_cnt w i + 1))), (1, .int (nI t)), (0, .ref x)]) hx hb d_sm_count_58 hl rfl (xinc _) (by decide) rfl (fun ls hl => ?_)
        refine lv_goto (tgt := 36) hx hb d_sm_count_61 (by decide) ?_
        have hq : pu_cnt w (i + 1) = pu_cnt w i + 1 := by rw [pu_cnt, if_pos h1]
        exact ih (i + 1) ls (by omega) (by rw [hq]; exact lv_sub hl [0, 1, 2, 3] rfl)
end MCN
set_option maxRecDepth 10000 in
set_option maxHeartbeats 4000000 in
theorem c_sm_count (l : Launch) (D : va_G) (cJ cZ : ClassId) (x mw ms mk mg sz n t : Nat) (er : Int32) (gw : Nat → Int64) (w : Nat → Nat) (hn1 : 1 ≤ n) (hn8 : n ≤ 8) (hw : ∀ q, w q ≤ 100000) (hgw : ∀ q, q < 8 → gw q = lN (w q)) (ht : t < 3) : Met l y_sm_count w_sm_count (rL 3 0 0) (va_Pc [.ref x, .int (nI t)] (gP D [(cJ, .long), (cZ, .boolean)] [oM x er (nI n) mw ms mk mg, aL mw cJ gw] sz)) (va_Qi (fun r _ => r = nI (if t = 0 then n else if t = 1 then pu_sum w n else pu_cnt w n)) (gB D [(cJ, .long), (cZ, .boolean)] (va_A [oM x er (nI n) mw ms mk mg, aL mw cJ gw] sz) (fun u : Unit => [oM x (nI 0) (nI n) mw ms mk mg, aL mw cJ gw])) (va_A [oM x er (nI n) mw ms mk mg, aL mw cJ gw] sz)) 0 0 (va_A [oM x er (nI n) mw ms mk mg, aL mw cJ gw] sz) := by
  refine Met.ofW (cc := b_sm_count) (maxL := 4) (ret := (some .int)) (by decide) rfl ?_
  intro p e s m args below meth c s₁ B hml hv
  obtain ⟨rfl, hsz, hP, hK, hD0⟩ := hv
  have hx := B.exec
  have hb := B.bytes
  have hr := B.returns
  have hts := atoms_spec (ws := w_sm_count) B.pre
  have hg : ∀ w ∈ gws, w.before ([.ref x, .int (nI t)] : List Value).toArray s = true := fun w hw => hts w (List.mem_cons_of_mem _ hw)
  have hown : s.vm.findClass "ShareDeskModel" = some m.cls := findClass_of_methodNamed B.named
  have hlk := B.notSynchronized
  subst hsz
  have hD := hD0.self (sz := s.heap.size)
  generalize hAe : va_A [oM x er (nI n) mw ms mk mg, aL mw cJ gw] s.heap.size = A at hD ⊢
  have hA : ∀ q : Nat, s.heap.size ≤ q → A q := fun q h => by rw [← hAe]; exact Or.inr h
  have hS : va_S A s.heap s.heap [] := va_S.rf
  have hP : va_P D cls2 [oM x er (nI n) mw ms mk mg, aL mw cJ gw] s.heap := hP
  have hl := lv_entry ([.ref x, .int (nI t)]) (n := 4) (Nat.le_of_ble_eq_true rfl)
  rw [lg_entry_eq]
  generalize (lg_sl ([.ref x, .int (nI t)]) ++ List.replicate (4 - (lg_sl ([.ref x, .int (nI t)])).length) Slot.unset).toArray = ls at hl ⊢
  have hl : lv_has ls 4 [(0, .ref x), (1, .int (nI t))] := hl
  refine lv_aload_n hx hb d_sm_count_0 rfl (lv_at hl 0 rfl) ?_
  refine lv_iconst (v := nI 0) hx hb d_sm_count_1 (by decide) ?_
  refine sm_put hx hb hg hown hK hP hD hS 0 rfl 0 (by decide) k_202 rfl (by decide +kernel) (Nat.le_of_ble_eq_true rfl) d_sm_count_2 (fun H locs hP hD hS => ?_)
  have hP : va_P D cls2 [oM x (nI 0) (nI n) mw ms mk mg, aL mw cJ gw] H := hP
  have hD : va_D A [oM x (nI 0) (nI n) mw ms mk mg, aL mw cJ gw] := hD
  refine lv_aload_n hx hb d_sm_count_5 rfl (lv_at hl 0 rfl) ?_
  refine lv_iload_n hx hb d_sm_count_6 rfl (lv_at hl 1 rfl) ?_
  refine lv_i2l (v := lN t) hx hb d_sm_count_7 (nI_l (by omega)) ?_
  refine lv_lconst (v := lN 0) hx hb d_sm_count_8 (by decide) ?_
  refine lv_ldc2 hx hb hown (hg _ k_255) d_sm_count_9 ?_
  refine xr_l (show (2 : Int64) = lN 2 by decide) ?_
  refine ps_i hx hb hml hown hg (c_sm_in l (lN t) (lN 0) (lN 2)) ⟨k_232, k_233, k_2, k_234⟩ n_sm_in ⟨rfl, rfl, by decide, by decide⟩ hl.1 rfl (Nat.le_of_ble_eq_true rfl) d_sm_count_12 ⟨by decide, by decide⟩ (fun r2 h2 => ?_)
  obtain rfl := in_nat h2 (by omega) (by omega) (by omega)
  refine xz_ne (tgt := 22) hx hb d_sm_count_15 (by decide) (by omega) (fun hc9 => ?_) (fun hc9 => ?_)
  · refine lv_iconst (v := nI 0) hx hb d_sm_count_22 (by decide) ?_
    refine lv_iconst (v := nI 1) hx hb d_sm_count_23 (by decide) ?_
    refine pv_i (C := "ShareDeskModel") hx hb hml hown hg (c_sm_fails0 l D [(cJ, .long), (cZ, .boolean)] x mw ms mk mg H.size 1 (nI n)) ⟨k_235, k_237, ks_6, k_2, k_238⟩ n_sm_fails ⟨rfl, rfl, by decide, by decide⟩ hK (hP.sub [0] rfl) (hD.sub [0] rfl rfl) (va_recv (q0 := 0) (ci := 1) hK hP rfl rfl) hl.1 rfl (Nat.le_of_ble_eq_true rfl) d_sm_count_24 ⟨by decide, by decide⟩ (fun rf hf => ?_)
    subst hf
    refine xz_eq (tgt := 32) hx hb d_sm_count_27 (by decide) (by omega) (fun hc9 => ?_) (fun hc9 => ?_)
    · refine lv_iconst (v := nI 0) hx hb d_sm_count_32 (by decide) ?_
      refine lv_istore_n (lv' := [(2, .int (nI 0)), (0, .ref x), (1, .int (nI t))]) hx hb d_sm_count_33 rfl hl (by decide) rfl (fun ls hl => ?_)
      refine lv_iconst (v := nI 0) hx hb d_sm_count_34 (by decide) ?_
      refine lv_istore_n (lv' := [(3, .int (nI 0)), (2, .int (nI 0)), (0, .ref x), (1, .int (nI t))]) hx hb d_sm_count_35 rfl hl (by decide) rfl (fun ls hl => ?_)
      refine lp_mcount hx hb hg hown hK hn1 hn8 hw hgw hP (fun ls hl => ?_) n 0 ls (by omega) (lv_sub hl [0, 1, 3, 2] rfl)
      refine lv_iload_n hx hb d_sm_count_64 rfl (lv_at hl 1 rfl) ?_
      refine xz_ne (tgt := 75) hx hb d_sm_count_65 (by decide) (by omega) (fun h1 => ?_) (fun h1 => ?_)
      · refine lv_iload_n hx hb d_sm_count_75 rfl (lv_at hl 1 rfl) ?_
        refine lv_iconst (v := nI 1) hx hb d_sm_count_76 (by decide) ?_
        refine xc_ne (tgt := 88) hx hb d_sm_count_77 (by decide) (by omega) (by omega) (fun h2 => ?_) (fun h2 => ?_)
        · refine lv_iload_n hx hb d_sm_count_88 rfl (lv_at hl 0 rfl) ?_
          exact en_gi () hx hb hr hlk (by rw [if_neg (by omega), if_neg h2]) hP hK hD hS d_sm_count_89
        · refine lv_aload_n hx hb d_sm_count_80 rfl (lv_at hl 2 rfl) ?_
          refine pv_l (C := "ShareDeskModel") hx hb hml hown hg (c_sm_all l D cJ cZ x mw ms mk mg H.size n (nI 0) gw w hn8 hgw) ⟨k_257, k_259, ks_8, k_2, k_260⟩ n_sm_all ⟨rfl, rfl, by decide, by decide⟩ hK (hP.sub [0, 1] rfl) (hD.sub [0, 1] rfl rfl) (va_recv (q0 := 0) (ci := 1) hK hP rfl rfl) hl.1 rfl (Nat.le_of_ble_eq_true rfl) d_sm_count_81 ⟨by decide, by decide⟩ (fun ra hra => ?_)
          subst hra
          refine lv_l2i (v := nI (pu_sum w n)) hx hb d_sm_count_84 (lN_i _) ?_
          refine lv_goto (tgt := 89) hx hb d_sm_count_85 (by decide) ?_
          exact en_gi () hx hb hr hlk (by rw [if_neg (by omega), if_pos h2]) hP hK hD hS d_sm_count_89
      · refine lv_aload_n hx hb d_sm_count_68 rfl (lv_at hl 2 rfl) ?_
        refine sm_get hx hb hg hown hK hP 0 rfl 1 (by decide) k_203 rfl d_sm_count_69 ?_
        refine lv_goto (tgt := 89) hx hb d_sm_count_72 (by decide) ?_
        exact en_gi () hx hb hr hlk (by rw [if_pos h1]) hP hK hD hS d_sm_count_89
    · exact absurd hc9 (by decide)
  · exact absurd hc9 (by decide)
set_option maxRecDepth 10000 in
set_option maxHeartbeats 4000000 in
theorem c_sm_count1 (l : Launch) (D : va_G) (cJ cZ : ClassId) (x mw ms mk mg sz n : Nat) (er v : Int32) (gw : Nat → Int64) (h : v.toInt < 0 ∨ 3 ≤ v.toInt) : Met l y_sm_count w_sm_count (rL 3 0 0) (va_Pc [.ref x, .int v] (gP D [(cJ, .long), (cZ, .boolean)] [oM x er (nI n) mw ms mk mg, aL mw cJ gw] sz)) (va_Qi (fun _ _ => True) (gB D [(cJ, .long), (cZ, .boolean)] (va_A [oM x er (nI n) mw ms mk mg, aL mw cJ gw] sz) (fun u : Unit => [oM x (nI 1) (nI n) mw ms mk mg, aL mw cJ gw])) (va_A [oM x er (nI n) mw ms mk mg, aL mw cJ gw] sz)) 0 0 (va_A [oM x er (nI n) mw ms mk mg, aL mw cJ gw] sz) := by
  refine Met.ofW (cc := b_sm_count) (maxL := 4) (ret := (some .int)) (by decide) rfl ?_
  intro p e s m args below meth c s₁ B hml hv
  obtain ⟨rfl, hsz, hP, hK, hD0⟩ := hv
  have hx := B.exec
  have hb := B.bytes
  have hr := B.returns
  have hts := atoms_spec (ws := w_sm_count) B.pre
  have hg : ∀ w ∈ gws, w.before ([.ref x, .int v] : List Value).toArray s = true := fun w hw => hts w (List.mem_cons_of_mem _ hw)
  have hown : s.vm.findClass "ShareDeskModel" = some m.cls := findClass_of_methodNamed B.named
  have hlk := B.notSynchronized
  subst hsz
  have hD := hD0.self (sz := s.heap.size)
  generalize hAe : va_A [oM x er (nI n) mw ms mk mg, aL mw cJ gw] s.heap.size = A at hD ⊢
  have hA : ∀ q : Nat, s.heap.size ≤ q → A q := fun q h => by rw [← hAe]; exact Or.inr h
  have hS : va_S A s.heap s.heap [] := va_S.rf
  have hP : va_P D cls2 [oM x er (nI n) mw ms mk mg, aL mw cJ gw] s.heap := hP
  have hl := lv_entry ([.ref x, .int v]) (n := 4) (Nat.le_of_ble_eq_true rfl)
  rw [lg_entry_eq]
  generalize (lg_sl ([.ref x, .int v]) ++ List.replicate (4 - (lg_sl ([.ref x, .int v])).length) Slot.unset).toArray = ls at hl ⊢
  have hl : lv_has ls 4 [(0, .ref x), (1, .int v)] := hl
  refine lv_aload_n hx hb d_sm_count_0 rfl (lv_at hl 0 rfl) ?_
  refine lv_iconst (v := nI 0) hx hb d_sm_count_1 (by decide) ?_
  refine sm_put hx hb hg hown hK hP hD hS 0 rfl 0 (by decide) k_202 rfl (by decide +kernel) (Nat.le_of_ble_eq_true rfl) d_sm_count_2 (fun H locs hP hD hS => ?_)
  have hP : va_P D cls2 [oM x (nI 0) (nI n) mw ms mk mg, aL mw cJ gw] H := hP
  have hD : va_D A [oM x (nI 0) (nI n) mw ms mk mg, aL mw cJ gw] := hD
  refine lv_aload_n hx hb d_sm_count_5 rfl (lv_at hl 0 rfl) ?_
  refine lv_iload_n hx hb d_sm_count_6 rfl (lv_at hl 1 rfl) ?_
  refine lv_i2l hx hb d_sm_count_7 rfl ?_
  refine lv_lconst (v := lN 0) hx hb d_sm_count_8 (by decide) ?_
  refine lv_ldc2 hx hb hown (hg _ k_255) d_sm_count_9 ?_
  refine xr_l (show (2 : Int64) = lN 2 by decide) ?_
  refine ps_i hx hb hml hown hg (c_sm_in l v.toInt64 (lN 0) (lN 2)) ⟨k_232, k_233, k_2, k_234⟩ n_sm_in ⟨rfl, rfl, by decide, by decide⟩ hl.1 rfl (Nat.le_of_ble_eq_true rfl) d_sm_count_12 ⟨by decide, by decide⟩ (fun r2 hq2 => ?_)
  have hq2 := qIn_of (v := v) (a := 0) (b := 2) (by decide) (by decide) hq2
  obtain rfl := hq2.2 (by omega)
  refine xz_ne (tgt := 22) hx hb d_sm_count_15 (by decide) (by omega) (fun hc9 => ?_) (fun hc9 => ?_)
  · exact absurd hc9 (by decide)
  · refine lv_iconst (v := nI 1) hx hb d_sm_count_18 (by decide) ?_
    refine lv_goto (tgt := 23) hx hb d_sm_count_19 (by decide) ?_
    refine lv_iconst (v := nI 1) hx hb d_sm_count_23 (by decide) ?_
    refine ev_i (C := "ShareDeskModel") hx hb hml hown hg (c_sm_fails1 l D [(cJ, .long), (cZ, .boolean)] x mw ms mk mg H.size 1 (nI n) (by decide) (by decide)) ⟨k_235, k_237, ks_6, k_2, k_238⟩ n_sm_fails ⟨rfl, rfl, by decide, by decide⟩ hK hP hD hS hA [0] [1] rfl rfl (wr := [aL mw cJ gw]) rfl rfl (by decide) (va_recv (q0 := 0) (ci := 1) hK hP rfl rfl) hl.1 rfl (Nat.le_of_ble_eq_true rfl) d_sm_count_24 ⟨by decide, by decide⟩ (fun rf _u H locs hf hP hD hS => ?_)
    have hP : va_P D cls2 [oM x (nI 1) (nI n) mw ms mk mg, aL mw cJ gw] H := hP.sub [1, 0] rfl
    have hD : va_D A [oM x (nI 1) (nI n) mw ms mk mg, aL mw cJ gw] := hD.sub [1, 0] rfl rfl
    subst hf
    refine xz_eq (tgt := 32) hx hb d_sm_count_27 (by decide) (by omega) (fun hc9 => ?_) (fun hc9 => ?_)
    · exact absurd hc9 (by decide)
    · refine lv_iconst (v := nI 0) hx hb d_sm_count_30 (by decide) ?_
      exact en_gi () hx hb hr hlk trivial hP hK hD hS d_sm_count_31
end
section
/-! the two constructors -/
def gB2 {S : Type} (D : va_G) (tyf : S → List (ClassId × FieldType)) (A : Nat → Prop) (f : S → va_W) : S → State → Prop := fun u t => va_P D cls2 (f u) t.heap ∧ va_K D cls2 (tyf u) t ∧ va_D A (f u)
theorem ka_eq {D : va_G} {tys : List (ClassId × FieldType)} {U : State} {a b : ClassId} (h : va_K D cls2 tys U) (i j : Nat) (hi : tys[i]? = some (a, .int)) (hj : tys[j]? = some (b, .int)) : a = b := Option.some.inj (((h.2 i _ hi).2 : U.vm.findClass ("[" ++ FieldType.int.toString) = some a).symm.trans ((h.2 j _ hj).2 : U.vm.findClass ("[" ++ FieldType.int.toString) = some b))
theorem kl_eq {D : va_G} {tys : List (ClassId × FieldType)} {U : State} {a b : ClassId} (h : va_K D cls2 tys U) (i j : Nat) (hi : tys[i]? = some (a, .long)) (hj : tys[j]? = some (b, .long)) : a = b := Option.some.inj (((h.2 i _ hi).2 : U.vm.findClass ("[" ++ FieldType.long.toString) = some a).symm.trans ((h.2 j _ hj).2 : U.vm.findClass ("[" ++ FieldType.long.toString) = some b))
section XI
variable {p : Program} {l : Launch} {e : Env} {R : Room} {s : State} {m : MethodId} {args : Array Value} {below : List Frame} {meth : Method} {c : Code} {H : Heap} {locs : List Loc} {cells slots : Nat} {Q : State → Prop}
variable {cc : ByteArray} {pc : Nat} {ls : Array Slot} {rest st0 : List Value} {D : va_G} {A : Nat → Prop} {tys : List (ClassId × FieldType)} {ws wc wr : va_W} {H0 : Heap}
variable {y : MethodName} {bytes : ByteArray} {maxL nL mc ms index : Nat} {rm : Room} {own C : String} {b : Nat} {As : List Value}
theorem en_g2 {S : Type} {post : S → Prop} {tyf : S → List (ClassId × FieldType)} {f : S → va_W} (u : S) (hx : p.tables.exec = Jvm.exec) (hb : c.code = cc) (hr : meth.sig.returnType = none) (hlocks : meth.locks = false) (hp : post u) (hP : va_P D cls2 (f u) H) (hK : va_K D cls2 (tyf u) s) (hD : va_D A (f u)) (hS : va_S A s.heap H locs) (hdg : decode cc pc = .ok (.return_, 1)) :
    W p l e R s m args below meth c H locs cells slots (MQ below (va_Qv post (gB2 D tyf A f) A) args s cells slots A) (F0 m pc ls []) :=
  W.vret hx hb hr (fun t ht hW => ⟨⟨u, rfl, hp, by rw [ht]; exact hP, va_K.moved hW.alike hK, hD⟩, hS.F ht⟩) hS.2.2 hdg hlocks
/-- a constructor call -/
theorem ev_I {S : Type} {post : S → Prop} {tyf : S → List (ClassId × FieldType)} {f : S → va_W} {tyc : List (ClassId × FieldType)} (hx : p.tables.exec = Jvm.exec) (hb : c.code = cc) (hml : c.maxLocals = nL) (hown : s.vm.findClass own = some m.cls) (hg : ∀ w ∈ gws, w.before args s = true)
    (hM : Met l y (.code y bytes maxL none :: gws) rm (va_Pc (.ref b :: As) (gP D tyc wc H.size)) (va_Qv post (gB2 D tyf (va_A wc H.size) f) (va_A wc H.size)) mc ms (va_A wc H.size)) (ks : Cond.methodLink own index y ∈ gws ∧ Cond.instanceMethod y ∈ gws ∧ Cond.initialized y.cls ∈ gws ∧ Cond.code y bytes maxL none ∈ gws) (hy1 : y.name = "<init>") (hd : kN y.cls y As.length) (hR : kR R rm maxL mc ms)
    (hK : va_K D cls2 tyc s) (hP : va_P D cls2 ws H) (hD : va_D A ws) (hS : va_S A s.heap H locs) (hA : ∀ q, s.heap.size ≤ q → A q) (isC isR : List Nat) (hC : isC.map (fun i => ws[i]?) = wc.map some) (hnC : va_nd isC = true) (hRr : isR.map (fun i => ws[i]?) = wr.map some) (hnR : va_nd isR = true) (hdis : ∀ i ∈ isR, i ∉ isC)
    (hls : ls.size = nL) (hst : st0 = As.reverse ++ .ref b :: rest) (hW : (rest.map fun v => v.category).sum ≤ 8) (hdg : decode cc pc = .ok (.invokespecial index, 3)) (hf : cells + mc ≤ R.cells ∧ slots + ms ≤ R.slots)
    (kk : ∀ (u : S) (H1 : Heap) (locs1 : List Loc), post u → va_K D cls2 (tyf u) s → va_P D cls2 (wr ++ f u) H1 → va_D A (wr ++ f u) → va_S A s.heap H1 locs1 → W p l e R s m args below meth c H1 locs1 (cells + mc) (slots + ms) Q (F0 m (pc + 3) ls rest)) : W p l e R s m args below meth c H locs cells slots Q (F0 m pc ls st0) := by
  have hPc : va_P D cls2 wc H := hP.sub isC (fm_of_map hC)
  have hDc : va_D A wc := hD.sub isC hnC hC
  have hFc := va_free hD hS hA isC hC
  refine va_callv (va_runI ⟨hx, hb, hml, hown, hg⟩ hM (cwI As.length hg (gw_all ks.2.2.2) rfl hR.1 hR.2.1 (hg _ ks.2.2.1) (hg _ ks.1) (hg _ ks.2.1) hy1 ⟨hd.2.1, hd.2.2.1, hd.2.2.2⟩ hR.2.2) ⟨gP_blind, gP_pre hK hPc hDc⟩ rfl rfl hls hst (lv_room hW) hdg hf) hS (fun q _ h => hFc q h) hFc (fun u t H1 locs1 ht hvm hw hB hz1 hk1 hS1 => ?_)
  obtain ⟨hP1, hK1, hD1⟩ := hB
  rw [ht] at hP1
  obtain ⟨hP2, hD2⟩ := va_join hP hD isC isR hC hRr hnR hdis hk1 hFc hP1 hD1
  exact kk u H1 locs1 hw (va_K.moved hvm.symm hK1) hP2 hD2 hS1
theorem sd_putF (hx : p.tables.exec = Jvm.exec) (hb : c.code = cc) (hg : ∀ w ∈ gws, w.before args s = true) (hown : s.vm.findClass "ShareDesk" = some m.cls) (hin : meth.name = "<init>") (hK : va_K D cls2 tys s) (hP : va_P D cls2 ws H) (hD : va_D A ws) (hS : va_S A H0 H locs) (q0 : Nat) {a index v : Nat} {fs : List Value} (he : ws[q0]? = some (a, .inr (0, fs))) (k : Nat) (hk : k < 5) (hlink : Cond.fieldLink "ShareDesk" index "ShareDesk" (F_sd k).2.1 (F_sd k).2.2.1 ∈ gws) (hfin : (F_sd k).2.2.2 = true) (hd : parseFieldDescriptor (F_sd k).2.2.1 = some (.array .int)) (hdc : (F_sd k).1 = "ShareDesk") (hl : k < fs.length) (hdg : decode cc pc = .ok (.putfield index, 3))
    (kk : ∀ (H1 : Heap) (locs1 : List Loc), va_P D cls2 (ws.set q0 (a, .inr (0, fs.set k (.ref v)))) H1 → va_D A (ws.set q0 (a, .inr (0, fs.set k (.ref v)))) → va_S A H0 H1 locs1 → W p l e R s m args below meth c H1 locs1 cells slots Q (F0 m (pc + 3) ls rest)) : W p l e R s m args below meth c H locs cells slots Q (F0 m pc ls (.ref v :: .ref a :: rest)) :=
  va_putF hx hb hg u_sd t_sd t_sd_ok n_sd hown hK hP hD hS q0 he rfl k hk (hg _ hlink) (sd_same k hk) hfin hin hdc hd rfl rfl hl hdg kk
theorem sm_putF (hx : p.tables.exec = Jvm.exec) (hb : c.code = cc) (hg : ∀ w ∈ gws, w.before args s = true) (hown : s.vm.findClass "ShareDeskModel" = some m.cls) (hin : meth.name = "<init>") (hK : va_K D cls2 tys s) (hP : va_P D cls2 ws H) (hD : va_D A ws) (hS : va_S A H0 H locs) (q0 : Nat) {a index v : Nat} {fs : List Value} (he : ws[q0]? = some (a, .inr (1, fs))) (k : Nat) (hk : k < 6) (hlink : Cond.fieldLink "ShareDeskModel" index "ShareDeskModel" (F_sm k).2.1 (F_sm k).2.2.1 ∈ gws) (hfin : (F_sm k).2.2.2 = true) {et : FieldType} (hd : parseFieldDescriptor (F_sm k).2.2.1 = some (.array et)) (hdc : (F_sm k).1 = "ShareDeskModel") (hl : k < fs.length) (hdg : decode cc pc = .ok (.putfield index, 3))
    (kk : ∀ (H1 : Heap) (locs1 : List Loc), va_P D cls2 (ws.set q0 (a, .inr (1, fs.set k (.ref v)))) H1 → va_D A (ws.set q0 (a, .inr (1, fs.set k (.ref v)))) → va_S A H0 H1 locs1 → W p l e R s m args below meth c H1 locs1 cells slots Q (F0 m (pc + 3) ls rest)) : W p l e R s m args below meth c H locs cells slots Q (F0 m pc ls (.ref v :: .ref a :: rest)) :=
  va_putF hx hb hg u_sm t_sm t_sm_ok n_sm hown hK hP hD hS q0 he rfl k hk (hg _ hlink) (sm_same k hk) hfin hin hdc hd rfl rfl hl hdg kk
end XI
set_option maxRecDepth 10000 in
set_option maxHeartbeats 4000000 in
theorem c_sd_init (l : Launch) (D : va_G) (x sz : Nat) : Met l y_sd_init w_sd_init (rL 1 3 24) (va_Pc [.ref x] (gP D [] [(x, .inr (0, [.null, .null, .null, .int 0, .int 0]))] sz)) (va_Qv (fun _ => True) (gB2 D (fun u : ClassId × Nat × Nat × Nat => [(u.1, .int)]) (va_A [(x, .inr (0, [.null, .null, .null, .int 0, .int 0]))] sz) (fun u => [oD x u.2.1 u.2.2.1 u.2.2.2 (nI 2) (nI 0), aI u.2.1 u.1 (fun _ => 0), aI u.2.2.1 u.1 (fun _ => 0), aI u.2.2.2 u.1 (fun _ => 0)])) (va_A [(x, .inr (0, [.null, .null, .null, .int 0, .int 0]))] sz)) 3 24 (va_A [(x, .inr (0, [.null, .null, .null, .int 0, .int 0]))] sz) := by
  refine Met.ofW (cc := b_sd_init) (maxL := 1) (ret := none) (by decide) rfl ?_
  intro p e s m args below meth c s₁ B hml hv
  obtain ⟨rfl, hsz, hP, hK, hD0⟩ := hv
  have hx := B.exec
  have hb := B.bytes
  have hr := B.returns
  have hts := atoms_spec (ws := w_sd_init) B.pre
  have hg : ∀ w ∈ gws, w.before ([.ref x] : List Value).toArray s = true := fun w hw => hts w (List.mem_cons_of_mem _ hw)
  have hown : s.vm.findClass "ShareDesk" = some m.cls := findClass_of_methodNamed B.named
  have hlk := B.notSynchronized
  subst hsz
  have hD := hD0.self (sz := s.heap.size)
  generalize hAe : va_A [(x, .inr (0, [.null, .null, .null, .int 0, .int 0]))] s.heap.size = A at hD ⊢
  have hA : ∀ q : Nat, s.heap.size ≤ q → A q := fun q h => by rw [← hAe]; exact Or.inr h
  have hS : va_S A s.heap s.heap [] := va_S.rf
  have hP : va_P D cls2 [(x, .inr (0, [.null, .null, .null, .int 0, .int 0]))] s.heap := hP
  have hl := lv_entry ([.ref x]) (n := 1) (Nat.le_of_ble_eq_true rfl)
  rw [lg_entry_eq]
  generalize (lg_sl ([.ref x]) ++ List.replicate (1 - (lg_sl ([.ref x])).length) Slot.unset).toArray = ls at hl ⊢
  have hl : lv_has ls 1 [(0, .ref x)] := hl
  have hin : meth.name = "<init>" := (name_of_methodNamed B.named B.method).1
  refine lv_aload_n hx hb d_sd_init_0 rfl (lv_at hl 0 rfl) ?_
  refine W.objInit hx hb hown (hg _ k_14) (hg _ k_15) (hg _ k_16) rfl (by rw [hml]; exact hl.1) rfl d_sd_init_1 (Nat.le_of_ble_eq_true rfl) (Nat.le_of_ble_eq_true rfl) ?_
  refine W.eq (g2 := F0 m 4 ls []) rfl ?_
  refine lv_aload_n hx hb d_sd_init_4 rfl (lv_at hl 0 rfl) ?_
  refine lv_bipush (v := nI 8) hx hb d_sd_init_5 (by decide) ?_
  refine va_newa (atype := .int) (a0 := (8, .inl (fun _ => 0))) (ty := .int) hx hb (hg _ k_33) rfl hK hP hD hS hA (fun _ => rfl) (n := nI 8) (N' := 8) (by decide) (by decide) (by decide) (by decide) (by decide) d_sd_init_7 (fun q1 c1 H hK hP hD hS => ?_)
  have hP : va_P D cls2 [(x, .inr (0, [.null, .null, .null, .int 0, .int 0])), (q1, .inl (c1, 8, .inl (fun _ => 0)))] H := hP
  have hD : va_D A [(x, .inr (0, [.null, .null, .null, .int 0, .int 0])), (q1, .inl (c1, 8, .inl (fun _ => 0)))] := hD
  refine sd_putF hx hb hg hown hin hK hP hD hS 0 rfl 0 (by decide) k_17 rfl (by decide +kernel) rfl (Nat.le_of_ble_eq_true rfl) d_sd_init_9 (fun H locs hP hD hS => ?_)
  have hP : va_P D cls2 [(x, .inr (0, [.ref q1, .null, .null, .int 0, .int 0])), (q1, .inl (c1, 8, .inl (fun _ => 0)))] H := hP
  have hD : va_D A [(x, .inr (0, [.ref q1, .null, .null, .int 0, .int 0])), (q1, .inl (c1, 8, .inl (fun _ => 0)))] := hD
  refine lv_aload_n hx hb d_sd_init_12 rfl (lv_at hl 0 rfl) ?_
  refine lv_bipush (v := nI 8) hx hb d_sd_init_13 (by decide) ?_
  refine va_newa (atype := .int) (a0 := (8, .inl (fun _ => 0))) (ty := .int) hx hb (hg _ k_33) rfl hK hP hD hS hA (fun _ => rfl) (n := nI 8) (N' := 8) (by decide) (by decide) (by decide) (by decide) (by decide) d_sd_init_15 (fun q2 c2 H hK hP hD hS => ?_)
  have hP : va_P D cls2 [(x, .inr (0, [.ref q1, .null, .null, .int 0, .int 0])), (q1, .inl (c1, 8, .inl (fun _ => 0))), (q2, .inl (c2, 8, .inl (fun _ => 0)))] H := hP
  have hD : va_D A [(x, .inr (0, [.ref q1, .null, .null, .int 0, .int 0])), (q1, .inl (c1, 8, .inl (fun _ => 0))), (q2, .inl (c2, 8, .inl (fun _ => 0)))] := hD
  refine sd_putF hx hb hg hown hin hK hP hD hS 0 rfl 1 (by decide) k_18 rfl (by decide +kernel) rfl (Nat.le_of_ble_eq_true rfl) d_sd_init_17 (fun H locs hP hD hS => ?_)
  have hP : va_P D cls2 [(x, .inr (0, [.ref q1, .ref q2, .null, .int 0, .int 0])), (q1, .inl (c1, 8, .inl (fun _ => 0))), (q2, .inl (c2, 8, .inl (fun _ => 0)))] H := hP
  have hD : va_D A [(x, .inr (0, [.ref q1, .ref q2, .null, .int 0, .int 0])), (q1, .inl (c1, 8, .inl (fun _ => 0))), (q2, .inl (c2, 8, .inl (fun _ => 0)))] := hD
  refine lv_aload_n hx hb d_sd_init_20 rfl (lv_at hl 0 rfl) ?_
  refine lv_bipush (v := nI 8) hx hb d_sd_init_21 (by decide) ?_
  refine va_newa (atype := .int) (a0 := (8, .inl (fun _ => 0))) (ty := .int) hx hb (hg _ k_33) rfl hK hP hD hS hA (fun _ => rfl) (n := nI 8) (N' := 8) (by decide) (by decide) (by decide) (by decide) (by decide) d_sd_init_23 (fun q3 c3 H hK hP hD hS => ?_)
  have hP : va_P D cls2 [(x, .inr (0, [.ref q1, .ref q2, .null, .int 0, .int 0])), (q1, .inl (c1, 8, .inl (fun _ => 0))), (q2, .inl (c2, 8, .inl (fun _ => 0))), (q3, .inl (c3, 8, .inl (fun _ => 0)))] H := hP
  have hD : va_D A [(x, .inr (0, [.ref q1, .ref q2, .null, .int 0, .int 0])), (q1, .inl (c1, 8, .inl (fun _ => 0))), (q2, .inl (c2, 8, .inl (fun _ => 0))), (q3, .inl (c3, 8, .inl (fun _ => 0)))] := hD
  refine sd_putF hx hb hg hown hin hK hP hD hS 0 rfl 2 (by decide) k_19 rfl (by decide +kernel) rfl (Nat.le_of_ble_eq_true rfl) d_sd_init_25 (fun H locs hP hD hS => ?_)
  have hP : va_P D cls2 [(x, .inr (0, [.ref q1, .ref q2, .ref q3, .int 0, .int 0])), (q1, .inl (c1, 8, .inl (fun _ => 0))), (q2, .inl (c2, 8, .inl (fun _ => 0))), (q3, .inl (c3, 8, .inl (fun _ => 0)))] H := hP
  have hD : va_D A [(x, .inr (0, [.ref q1, .ref q2, .ref q3, .int 0, .int 0])), (q1, .inl (c1, 8, .inl (fun _ => 0))), (q2, .inl (c2, 8, .inl (fun _ => 0))), (q3, .inl (c3, 8, .inl (fun _ => 0)))] := hD
  refine lv_aload_n hx hb d_sd_init_28 rfl (lv_at hl 0 rfl) ?_
  refine lv_iconst (v := nI 2) hx hb d_sd_init_29 (by decide) ?_
  refine sd_put hx hb hg hown hK hP hD hS 0 rfl 3 (by decide) k_20 rfl (by decide +kernel) (Nat.le_of_ble_eq_true rfl) d_sd_init_30 (fun H locs hP hD hS => ?_)
  obtain rfl := ka_eq hK 0 1 rfl rfl
  obtain rfl := ka_eq hK 0 2 rfl rfl
  exact en_g2 (c1, q1, q2, q3) hx hb hr hlk trivial hP (hK.sub [0] rfl) hD hS d_sd_init_33
set_option maxRecDepth 10000 in
set_option maxHeartbeats 4000000 in
theorem c_sm_init (l : Launch) (D : va_G) (x sz : Nat) : Met l y_sm_init w_sm_init (rL 1 4 32) (va_Pc [.ref x] (gP D [] [(x, .inr (1, [.int 0, .int 0, .null, .null, .null, .null]))] sz)) (va_Qv (fun _ => True) (gB2 D (fun u : ClassId × ClassId × Nat × Nat × Nat × Nat => [(u.1, .long), (u.2.1, .boolean)]) (va_A [(x, .inr (1, [.int 0, .int 0, .null, .null, .null, .null]))] sz) (fun u => [oM x (nI 0) (nI 2) u.2.2.1 u.2.2.2.1 u.2.2.2.2.1 u.2.2.2.2.2, aL u.2.2.1 u.1 (fun _ => 0), aL u.2.2.2.1 u.1 (fun _ => 0), aL u.2.2.2.2.1 u.1 (fun _ => 0), aI u.2.2.2.2.2 u.2.1 (fun _ => 0)])) (va_A [(x, .inr (1, [.int 0, .int 0, .null, .null, .null, .null]))] sz)) 4 32 (va_A [(x, .inr (1, [.int 0, .int 0, .null, .null, .null, .null]))] sz) := by
  refine Met.ofW (cc := b_sm_init) (maxL := 1) (ret := none) (by decide) rfl ?_
  intro p e s m args below meth c s₁ B hml hv
  obtain ⟨rfl, hsz, hP, hK, hD0⟩ := hv
  have hx := B.exec
  have hb := B.bytes
  have hr := B.returns
  have hts := atoms_spec (ws := w_sm_init) B.pre
  have hg : ∀ w ∈ gws, w.before ([.ref x] : List Value).toArray s = true := fun w hw => hts w (List.mem_cons_of_mem _ hw)
  have hown : s.vm.findClass "ShareDeskModel" = some m.cls := findClass_of_methodNamed B.named
  have hlk := B.notSynchronized
  subst hsz
  have hD := hD0.self (sz := s.heap.size)
  generalize hAe : va_A [(x, .inr (1, [.int 0, .int 0, .null, .null, .null, .null]))] s.heap.size = A at hD ⊢
  have hA : ∀ q : Nat, s.heap.size ≤ q → A q := fun q h => by rw [← hAe]; exact Or.inr h
  have hS : va_S A s.heap s.heap [] := va_S.rf
  have hP : va_P D cls2 [(x, .inr (1, [.int 0, .int 0, .null, .null, .null, .null]))] s.heap := hP
  have hl := lv_entry ([.ref x]) (n := 1) (Nat.le_of_ble_eq_true rfl)
  rw [lg_entry_eq]
  generalize (lg_sl ([.ref x]) ++ List.replicate (1 - (lg_sl ([.ref x])).length) Slot.unset).toArray = ls at hl ⊢
  have hl : lv_has ls 1 [(0, .ref x)] := hl
  have hin : meth.name = "<init>" := (name_of_methodNamed B.named B.method).1
  refine lv_aload_n hx hb d_sm_init_0 rfl (lv_at hl 0 rfl) ?_
  refine W.objInit hx hb hown (hg _ k_201) (hg _ k_15) (hg _ k_16) rfl (by rw [hml]; exact hl.1) rfl d_sm_init_1 (Nat.le_of_ble_eq_true rfl) (Nat.le_of_ble_eq_true rfl) ?_
  refine W.eq (g2 := F0 m 4 ls []) rfl ?_
  refine lv_aload_n hx hb d_sm_init_4 rfl (lv_at hl 0 rfl) ?_
  refine lv_iconst (v := nI 2) hx hb d_sm_init_5 (by decide) ?_
  refine sm_put hx hb hg hown hK hP hD hS 0 rfl 1 (by decide) k_203 rfl (by decide +kernel) (Nat.le_of_ble_eq_true rfl) d_sm_init_6 (fun H locs hP hD hS => ?_)
  have hP : va_P D cls2 [(x, .inr (1, [.int 0, .int (nI 2), .null, .null, .null, .null]))] H := hP
  have hD : va_D A [(x, .inr (1, [.int 0, .int (nI 2), .null, .null, .null, .null]))] := hD
  refine lv_aload_n hx hb d_sm_init_9 rfl (lv_at hl 0 rfl) ?_
  refine lv_bipush (v := nI 8) hx hb d_sm_init_10 (by decide) ?_
  refine va_newa (atype := .long) (a0 := (8, .inr (.inl (fun _ => 0)))) (ty := .long) hx hb (hg _ k_221) rfl hK hP hD hS hA (fun _ => rfl) (n := nI 8) (N' := 8) (by decide) (by decide) (by decide) (by decide) (by decide) d_sm_init_12 (fun q1 c1 H hK hP hD hS => ?_)
  have hP : va_P D cls2 [(x, .inr (1, [.int 0, .int (nI 2), .null, .null, .null, .null])), (q1, .inl (c1, 8, .inr (.inl (fun _ => 0))))] H := hP
  have hD : va_D A [(x, .inr (1, [.int 0, .int (nI 2), .null, .null, .null, .null])), (q1, .inl (c1, 8, .inr (.inl (fun _ => 0))))] := hD
  refine sm_putF (et := .long) hx hb hg hown hin hK hP hD hS 0 rfl 2 (by decide) k_204 rfl (by decide +kernel) rfl (Nat.le_of_ble_eq_true rfl) d_sm_init_14 (fun H locs hP hD hS => ?_)
  have hP : va_P D cls2 [(x, .inr (1, [.int 0, .int (nI 2), .ref q1, .null, .null, .null])), (q1, .inl (c1, 8, .inr (.inl (fun _ => 0))))] H := hP
  have hD : va_D A [(x, .inr (1, [.int 0, .int (nI 2), .ref q1, .null, .null, .null])), (q1, .inl (c1, 8, .inr (.inl (fun _ => 0))))] := hD
  refine lv_aload_n hx hb d_sm_init_17 rfl (lv_at hl 0 rfl) ?_
  refine lv_bipush (v := nI 8) hx hb d_sm_init_18 (by decide) ?_
  refine va_newa (atype := .long) (a0 := (8, .inr (.inl (fun _ => 0)))) (ty := .long) hx hb (hg _ k_221) rfl hK hP hD hS hA (fun _ => rfl) (n := nI 8) (N' := 8) (by decide) (by decide) (by decide) (by decide) (by decide) d_sm_init_20 (fun q2 c2 H hK hP hD hS => ?_)
  have hP : va_P D cls2 [(x, .inr (1, [.int 0, .int (nI 2), .ref q1, .null, .null, .null])), (q1, .inl (c1, 8, .inr (.inl (fun _ => 0)))), (q2, .inl (c2, 8, .inr (.inl (fun _ => 0))))] H := hP
  have hD : va_D A [(x, .inr (1, [.int 0, .int (nI 2), .ref q1, .null, .null, .null])), (q1, .inl (c1, 8, .inr (.inl (fun _ => 0)))), (q2, .inl (c2, 8, .inr (.inl (fun _ => 0))))] := hD
  refine sm_putF (et := .long) hx hb hg hown hin hK hP hD hS 0 rfl 3 (by decide) k_205 rfl (by decide +kernel) rfl (Nat.le_of_ble_eq_true rfl) d_sm_init_22 (fun H locs hP hD hS => ?_)
  have hP : va_P D cls2 [(x, .inr (1, [.int 0, .int (nI 2), .ref q1, .ref q2, .null, .null])), (q1, .inl (c1, 8, .inr (.inl (fun _ => 0)))), (q2, .inl (c2, 8, .inr (.inl (fun _ => 0))))] H := hP
  have hD : va_D A [(x, .inr (1, [.int 0, .int (nI 2), .ref q1, .ref q2, .null, .null])), (q1, .inl (c1, 8, .inr (.inl (fun _ => 0)))), (q2, .inl (c2, 8, .inr (.inl (fun _ => 0))))] := hD
  refine lv_aload_n hx hb d_sm_init_25 rfl (lv_at hl 0 rfl) ?_
  refine lv_bipush (v := nI 8) hx hb d_sm_init_26 (by decide) ?_
  refine va_newa (atype := .long) (a0 := (8, .inr (.inl (fun _ => 0)))) (ty := .long) hx hb (hg _ k_221) rfl hK hP hD hS hA (fun _ => rfl) (n := nI 8) (N' := 8) (by decide) (by decide) (by decide) (by decide) (by decide) d_sm_init_28 (fun q3 c3 H hK hP hD hS => ?_)
  have hP : va_P D cls2 [(x, .inr (1, [.int 0, .int (nI 2), .ref q1, .ref q2, .null, .null])), (q1, .inl (c1, 8, .inr (.inl (fun _ => 0)))), (q2, .inl (c2, 8, .inr (.inl (fun _ => 0)))), (q3, .inl (c3, 8, .inr (.inl (fun _ => 0))))] H := hP
  have hD : va_D A [(x, .inr (1, [.int 0, .int (nI 2), .ref q1, .ref q2, .null, .null])), (q1, .inl (c1, 8, .inr (.inl (fun _ => 0)))), (q2, .inl (c2, 8, .inr (.inl (fun _ => 0)))), (q3, .inl (c3, 8, .inr (.inl (fun _ => 0))))] := hD
  refine sm_putF (et := .long) hx hb hg hown hin hK hP hD hS 0 rfl 4 (by decide) k_206 rfl (by decide +kernel) rfl (Nat.le_of_ble_eq_true rfl) d_sm_init_30 (fun H locs hP hD hS => ?_)
  have hP : va_P D cls2 [(x, .inr (1, [.int 0, .int (nI 2), .ref q1, .ref q2, .ref q3, .null])), (q1, .inl (c1, 8, .inr (.inl (fun _ => 0)))), (q2, .inl (c2, 8, .inr (.inl (fun _ => 0)))), (q3, .inl (c3, 8, .inr (.inl (fun _ => 0))))] H := hP
  have hD : va_D A [(x, .inr (1, [.int 0, .int (nI 2), .ref q1, .ref q2, .ref q3, .null])), (q1, .inl (c1, 8, .inr (.inl (fun _ => 0)))), (q2, .inl (c2, 8, .inr (.inl (fun _ => 0)))), (q3, .inl (c3, 8, .inr (.inl (fun _ => 0))))] := hD
  refine lv_aload_n hx hb d_sm_init_33 rfl (lv_at hl 0 rfl) ?_
  refine lv_bipush (v := nI 8) hx hb d_sm_init_34 (by decide) ?_
  refine va_newa (atype := .boolean) (a0 := (8, .inl (fun _ => 0))) (ty := .boolean) hx hb (hg _ k_222) rfl hK hP hD hS hA (fun _ => rfl) (n := nI 8) (N' := 8) (by decide) (by decide) (by decide) (by decide) (by decide) d_sm_init_36 (fun q4 c4 H hK hP hD hS => ?_)
  have hP : va_P D cls2 [(x, .inr (1, [.int 0, .int (nI 2), .ref q1, .ref q2, .ref q3, .null])), (q1, .inl (c1, 8, .inr (.inl (fun _ => 0)))), (q2, .inl (c2, 8, .inr (.inl (fun _ => 0)))), (q3, .inl (c3, 8, .inr (.inl (fun _ => 0)))), (q4, .inl (c4, 8, .inl (fun _ => 0)))] H := hP
  have hD : va_D A [(x, .inr (1, [.int 0, .int (nI 2), .ref q1, .ref q2, .ref q3, .null])), (q1, .inl (c1, 8, .inr (.inl (fun _ => 0)))), (q2, .inl (c2, 8, .inr (.inl (fun _ => 0)))), (q3, .inl (c3, 8, .inr (.inl (fun _ => 0)))), (q4, .inl (c4, 8, .inl (fun _ => 0)))] := hD
  refine sm_putF (et := .boolean) hx hb hg hown hin hK hP hD hS 0 rfl 5 (by decide) k_207 rfl (by decide +kernel) rfl (Nat.le_of_ble_eq_true rfl) d_sm_init_38 (fun H locs hP hD hS => ?_)
  have hP : va_P D cls2 [(x, .inr (1, [.int 0, .int (nI 2), .ref q1, .ref q2, .ref q3, .ref q4])), (q1, .inl (c1, 8, .inr (.inl (fun _ => 0)))), (q2, .inl (c2, 8, .inr (.inl (fun _ => 0)))), (q3, .inl (c3, 8, .inr (.inl (fun _ => 0)))), (q4, .inl (c4, 8, .inl (fun _ => 0)))] H := hP
  have hD : va_D A [(x, .inr (1, [.int 0, .int (nI 2), .ref q1, .ref q2, .ref q3, .ref q4])), (q1, .inl (c1, 8, .inr (.inl (fun _ => 0)))), (q2, .inl (c2, 8, .inr (.inl (fun _ => 0)))), (q3, .inl (c3, 8, .inr (.inl (fun _ => 0)))), (q4, .inl (c4, 8, .inl (fun _ => 0)))] := hD
  obtain rfl := kl_eq hK 0 1 rfl rfl
  obtain rfl := kl_eq hK 0 2 rfl rfl
  have hP : va_P D cls2 [oM x (nI 0) (nI 2) q1 q2 q3 q4, aL q1 c1 (fun _ => 0), aL q2 c1 (fun _ => 0), aL q3 c1 (fun _ => 0), aI q4 c4 (fun _ => 0)] H := hP
  have hD : va_D A [oM x (nI 0) (nI 2) q1 q2 q3 q4, aL q1 c1 (fun _ => 0), aL q2 c1 (fun _ => 0), aL q3 c1 (fun _ => 0), aI q4 c4 (fun _ => 0)] := hD
  exact en_g2 (c1, c4, q1, q2, q3, q4) hx hb hr hlk trivial hP (hK.sub [0, 3] rfl) hD hS d_sm_init_41
end
section
/-! the law's own wrappers: they catch -/
abbrev aO (q : Nat) (c : ClassId) (f : Nat → Int64) : Nat × va_E := (q, .inl (c, 1, .inr (.inl f)))
def nc (U : State) : Prop := ∃ c1 c2 : ClassId, U.vm.findClass sISE = some c1 ∧ U.vm.findClass sIAE = some c2 ∧ U.vm.assignable c1 c2 = false
theorem nc.moved {u U : State} (hvm : u.vm.Alike U.vm) (h : nc u) : nc U := by
  obtain ⟨c1, c2, h1, h2, h3⟩ := h
  exact ⟨c1, c2, by rw [hvm.findClass]; exact h1, by rw [hvm.findClass]; exact h2, by rw [hvm.assignable]; exact h3⟩
theorem nc.cond {args : Array Value} {U : State} (h : nc U) : (Cond.not (.castable sISE sIAE)).before args U = true := by
  obtain ⟨c1, c2, h1, h2, h3⟩ := h
  simp [Cond.before, Cond.holds, Cond.value, h1, h2, h3]
theorem nc.of {args : Array Value} {U : State} (hi1 : (Cond.instantiable sISE 6).before args U = true) (hi2 : (Cond.instantiable sIAE 6).before args U = true) (h : (Cond.not (.castable sISE sIAE)).before args U = true) : nc U := by
  obtain ⟨c1, -, h1, -⟩ := Cond.instantiable_spec hi1
  obtain ⟨c2, -, h2, -⟩ := Cond.instantiable_spec hi2
  have hv := Cond.holds_not_iff.mp h
  simp only [Cond.value, h1, h2] at hv
  exact ⟨c1, c2, h1, h2, Option.some.inj hv⟩
def gY (D : va_G) (tys : List (ClassId × FieldType)) (ws : va_W) (sz : Nat) : State → Prop := fun U => gX D tys ws sz U ∧ nc U
theorem gY_blind {av : List Value} {D : va_G} {tys : List (ClassId × FieldType)} {ws : va_W} {sz : Nat} : FrameBlind (va_Pc av (gY D tys ws sz)) := fun a U g mk q => by
  obtain ⟨q0, q1, q2⟩ := q
  obtain ⟨-, q3⟩ := gX_blind a U g mk ⟨q0, q1⟩
  exact ⟨q0, q3, nc.moved (u := U) (U := U.calling g mk a) (Vm.Alike.refl U.vm) q2⟩
theorem B_table {p : Program} {l : Launch} {y : MethodName} {S : Spec} {cc : ByteArray} {maxL : Nat} {ret : Option FieldType} {hh : List (Nat × Nat × Nat × Nat)} {e : Env} {s : State} {m : MethodId} {args : Array Value} {below : List Frame} {meth : Method} {c : Code} {s₁ : State} (B : BodyLoose p l y S cc maxL ret e s m args below meth c s₁) (h : (Cond.codeWith y cc maxL ret hh).before args s = true) : c.exceptionTable.toList = tableOf hh := by
  obtain ⟨m', meth', c', hn', hm', hc', -, -, ht, -⟩ := Cond.codeWith_spec h
  cases B.named.symm.trans hn'
  cases B.method.symm.trans hm'
  cases (Stand.of_body B).code.symm.trans hc'
  rw [← ht, table_eq]
section XO
variable {p : Program} {l : Launch} {e : Env} {R : Room} {s : State} {m : MethodId} {args : Array Value} {below : List Frame} {meth : Method} {c : Code} {H : Heap} {locs : List Loc} {cells slots : Nat} {Q : State → Prop}
variable {cc : ByteArray} {pc : Nat} {ls : Array Slot} {rest st0 : List Value} {D : va_G} {A : Nat → Prop} {tys : List (ClassId × FieldType)} {ws : va_W} {H0 : Heap}
theorem xo_st (hx : p.tables.exec = Jvm.exec) (hb : c.code = cc) (hK : va_K D cls2 tys s) (hP : va_P D cls2 ws H) (hD : va_D A ws) (hS : va_S A H0 H locs) (q0 t0 : Nat) {a : Nat} {cA : ClassId} {f : Nat → Int64} {x : Int64} (ha : ws[q0]? = some (a, .inl (cA, 1, .inr (.inl f)))) (ht : tys[t0]? = some (cA, .long)) (hdg : decode cc pc = .ok (.lastore, 1))
    (kk : ∀ (H1 : Heap) (locs1 : List Loc), va_P D cls2 (ws.set q0 (a, .inl (cA, 1, .inr (.inl (vp_updL f 0 x))))) H1 → va_D A (ws.set q0 (a, .inl (cA, 1, .inr (.inl (vp_updL f 0 x))))) → va_S A H0 H1 locs1 → W p l e R s m args below meth c H1 locs1 cells slots Q (F0 m (pc + 1) ls rest)) : W p l e R s m args below meth c H locs cells slots Q (F0 m pc ls (.long x :: .int (nI 0) :: .ref a :: rest)) := by
  refine va_last hx hb hK hP hD hS q0 t0 ha ht (vp_in_nI (by decide) (by decide)) hdg ?_
  rw [nI_clamp (by decide)]
  exact kk
theorem xo_ld (hx : p.tables.exec = Jvm.exec) (hb : c.code = cc) (hK : va_K D cls2 tys s) (hP : va_P D cls2 ws H) (q0 t0 : Nat) {a : Nat} {cA : ClassId} {f : Nat → Int64} (ha : ws[q0]? = some (a, .inl (cA, 1, .inr (.inl f)))) (ht : tys[t0]? = some (cA, .long)) (hdg : decode cc pc = .ok (.laload, 1)) {v : Int64} (hv : f 0 = v)
    (kk : W p l e R s m args below meth c H locs cells slots Q (F0 m (pc + 1) ls (.long v :: rest))) : W p l e R s m args below meth c H locs cells slots Q (F0 m pc ls (.int (nI 0) :: .ref a :: rest)) := by
  refine va_lald hx hb hK hP q0 t0 ha ht (vp_in_nI (by decide) (by decide)) hdg ?_
  rw [nI_clamp (by decide), hv]
  exact kk
end XO
set_option maxRecDepth 10000 in
set_option maxHeartbeats 4000000 in
theorem c_sl_begin (l : Launch) (D : va_G) (cI cJ : ClassId) (x qw qs qo sz k : Nat) (Pz Wz : Int32) (fw : Nat → Int32) (hk1 : 1 ≤ k) (hk8 : k ≤ 8) : Met l y_sl_begin w_sl_begin (rL 5 0 0) (va_Pc [.ref x, .int (nI k)] (gP D [(cI, .int)] [oD x qw qs qo Pz Wz, aI qw cI fw] sz)) (va_Qi (fun r u => r = nI 0 ∧ ∀ q, q < 8 → u q = nI 0) (gB D [(cI, .int)] (va_A [oD x qw qs qo Pz Wz, aI qw cI fw] sz) (fun u : Nat → Int32 => [oD x qw qs qo (nI k) (nI 0), aI qw cI u])) (va_A [oD x qw qs qo Pz Wz, aI qw cI fw] sz)) 0 0 (va_A [oD x qw qs qo Pz Wz, aI qw cI fw] sz) := by
  refine va_MetW (hh := _) (cc := b_sl_begin) (maxL := 3) (ret := (some .int)) (by decide) rfl ?_
  intro p e s m args below meth c s₁ B hml hv
  obtain ⟨rfl, hsz, hP, hK, hD0⟩ := hv
  have hx := B.exec
  have hb := B.bytes
  have hr := B.returns
  have hts := atoms_spec (ws := w_sl_begin) B.pre
  have hg : ∀ w ∈ gws, w.before ([.ref x, .int (nI k)] : List Value).toArray s = true := fun w hw => hts w (List.mem_cons_of_mem _ hw)
  have hown : s.vm.findClass "ShareDeskLaw" = some m.cls := findClass_of_methodNamed B.named
  have hlk := B.notSynchronized
  subst hsz
  have hD := hD0.self (sz := s.heap.size)
  generalize hAe : va_A [oD x qw qs qo Pz Wz, aI qw cI fw] s.heap.size = A at hD ⊢
  have hA : ∀ q : Nat, s.heap.size ≤ q → A q := fun q h => by rw [← hAe]; exact Or.inr h
  have hS : va_S A s.heap s.heap [] := va_S.rf
  have hP : va_P D cls2 [oD x qw qs qo Pz Wz, aI qw cI fw] s.heap := hP
  have hl := lv_entry ([.ref x, .int (nI k)]) (n := 3) (Nat.le_of_ble_eq_true rfl)
  rw [lg_entry_eq]
  generalize (lg_sl ([.ref x, .int (nI k)]) ++ List.replicate (3 - (lg_sl ([.ref x, .int (nI k)])).length) Slot.unset).toArray = ls at hl ⊢
  have hl : lv_has ls 3 [(0, .ref x), (1, .int (nI k))] := hl
  refine lv_aload_n hx hb d_sl_begin_0 rfl (lv_at hl 0 rfl) ?_
  refine lv_iload_n hx hb d_sl_begin_1 rfl (lv_at hl 1 rfl) ?_
  refine ev_v (C := "ShareDesk") hx hb hml hown hg (c_sd_begin l D cI x qw qs qo s.heap.size k Pz Wz fw hk1 hk8) ⟨k_38, k_39, k_40, k_1, k_41⟩ n_sd_begin ⟨rfl, rfl, by decide, by decide⟩ (hK.sub (tys' := [(cI, .int)]) [0] rfl) hP hD hS hA [0, 1] [] rfl rfl (wr := []) rfl rfl (by decide) (va_recv (q0 := 0) (ci := 0) hK hP rfl rfl) hl.1 rfl (Nat.le_of_ble_eq_true rfl) d_sl_begin_2 ⟨by decide, by decide⟩ (fun u H locs hu hP hD hS => ?_)
  have hP : va_P D cls2 [oD x qw qs qo (nI k) (nI 0), aI qw cI u] H := hP.sub [0, 1] rfl
  have hD : va_D A [oD x qw qs qo (nI k) (nI 0), aI qw cI u] := hD.sub [0, 1] rfl rfl
  refine lv_goto (tgt := 11) hx hb d_sl_begin_5 (by decide) ?_
  refine lv_iconst (v := nI 0) hx hb d_sl_begin_11 (by decide) ?_
  exact en_gi u hx hb hr hlk ⟨rfl, hu⟩ hP hK hD hS d_sl_begin_12
set_option maxRecDepth 10000 in
set_option maxHeartbeats 4000000 in
theorem c_sl_weight (l : Launch) (D : va_G) (cI cJ : ClassId) (x qw qs qo qt sz n pp v : Nat) (fw : Nat → Int32) (fo : Nat → Int64) (w : Nat → Nat) (hn1 : 1 ≤ n) (hn8 : n ≤ 8) (hw : ∀ q, w q ≤ 100000) (hfw : ∀ q, q < 8 → fw q = nI (w q)) (hp : pp < n) (hv : v ≤ 100000) : Met l y_sl_weight w_sl_weight (rL 5 0 0) (va_Pc [.ref x, .int (nI pp), .int (nI v), .ref qt] (gP D [(cI, .int), (cJ, .long)] [oD x qw qs qo (nI n) (nI (pu_sum w n)), aI qw cI fw, aO qt cJ fo] sz)) (va_Qi (fun r _ => r = nI 0) (gB D [(cI, .int), (cJ, .long)] (va_A [oD x qw qs qo (nI n) (nI (pu_sum w n)), aI qw cI fw, aO qt cJ fo] sz) (fun u : Unit => [oD x qw qs qo (nI n) (nI (pu_sum (pu_up w pp v) n)), aI qw cI (upd fw pp (nI v)), aO qt cJ (vp_updL fo 0 (lN (w pp)))])) (va_A [oD x qw qs qo (nI n) (nI (pu_sum w n)), aI qw cI fw, aO qt cJ fo] sz)) 0 0 (va_A [oD x qw qs qo (nI n) (nI (pu_sum w n)), aI qw cI fw, aO qt cJ fo] sz) := by
  refine va_MetW (hh := _) (cc := b_sl_weight) (maxL := 5) (ret := (some .int)) (by decide) rfl ?_
  intro p e s m args below meth c s₁ B hml hv
  obtain ⟨rfl, hsz, hP, hK, hD0⟩ := hv
  have hx := B.exec
  have hb := B.bytes
  have hr := B.returns
  have hts := atoms_spec (ws := w_sl_weight) B.pre
  have hg : ∀ w ∈ gws, w.before ([.ref x, .int (nI pp), .int (nI v), .ref qt] : List Value).toArray s = true := fun w hw => hts w (List.mem_cons_of_mem _ hw)
  have hown : s.vm.findClass "ShareDeskLaw" = some m.cls := findClass_of_methodNamed B.named
  have hlk := B.notSynchronized
  subst hsz
  have hD := hD0.self (sz := s.heap.size)
  generalize hAe : va_A [oD x qw qs qo (nI n) (nI (pu_sum w n)), aI qw cI fw, aO qt cJ fo] s.heap.size = A at hD ⊢
  have hA : ∀ q : Nat, s.heap.size ≤ q → A q := fun q h => by rw [← hAe]; exact Or.inr h
  have hS : va_S A s.heap s.heap [] := va_S.rf
  have hP : va_P D cls2 [oD x qw qs qo (nI n) (nI (pu_sum w n)), aI qw cI fw, aO qt cJ fo] s.heap := hP
  have hl := lv_entry ([.ref x, .int (nI pp), .int (nI v), .ref qt]) (n := 5) (Nat.le_of_ble_eq_true rfl)
  rw [lg_entry_eq]
  generalize (lg_sl ([.ref x, .int (nI pp), .int (nI v), .ref qt]) ++ List.replicate (5 - (lg_sl ([.ref x, .int (nI pp), .int (nI v), .ref qt])).length) Slot.unset).toArray = ls at hl ⊢
  have hl : lv_has ls 5 [(0, .ref x), (1, .int (nI pp)), (2, .int (nI v)), (3, .ref qt)] := hl
  refine lv_aload_n hx hb d_sl_weight_0 rfl (lv_at hl 3 rfl) ?_
  refine lv_iconst (v := nI 0) hx hb d_sl_weight_1 (by decide) ?_
  refine lv_aload_n hx hb d_sl_weight_2 rfl (lv_at hl 0 rfl) ?_
  refine lv_iload_n hx hb d_sl_weight_3 rfl (lv_at hl 1 rfl) ?_
  refine lv_iload_n hx hb d_sl_weight_4 rfl (lv_at hl 2 rfl) ?_
  refine ev_i (C := "ShareDesk") hx hb hml hown hg (c_sd_weight l D cI x qw qs qo s.heap.size n pp v fw w hp hv hn1 hn8 hw hfw) ⟨k_110, k_111, k_112, k_1, k_113⟩ n_sd_weight ⟨rfl, rfl, by decide, by decide⟩ (hK.sub (tys' := [(cI, .int)]) [0] rfl) hP hD hS hA [0, 1] [2] rfl rfl (wr := [aO qt cJ fo]) rfl rfl (by decide) (va_recv (q0 := 0) (ci := 0) hK hP rfl rfl) hl.1 rfl (Nat.le_of_ble_eq_true rfl) d_sl_weight_5 ⟨by decide, by decide⟩ (fun r u H locs hu hP hD hS => ?_)
  have hP : va_P D cls2 [oD x qw qs qo (nI n) (nI (pu_sum (pu_up w pp v) n)), aI qw cI (upd fw pp (nI v)), aO qt cJ fo] H := hP.sub [1, 2, 0] rfl
  have hD : va_D A [oD x qw qs qo (nI n) (nI (pu_sum (pu_up w pp v) n)), aI qw cI (upd fw pp (nI v)), aO qt cJ fo] := hD.sub [1, 2, 0] rfl rfl
  subst hu
  have hwp := hw pp
  refine lv_i2l (v := lN (w pp)) hx hb d_sl_weight_8 (nI_l (by omega)) ?_
  refine xo_st hx hb hK hP hD hS 2 1 rfl rfl d_sl_weight_9 (fun H locs hP hD hS => ?_)
  have hP : va_P D cls2 [oD x qw qs qo (nI n) (nI (pu_sum (pu_up w pp v) n)), aI qw cI (upd fw pp (nI v)), aO qt cJ (vp_updL fo 0 (lN (w pp)))] H := hP
  have hD : va_D A [oD x qw qs qo (nI n) (nI (pu_sum (pu_up w pp v) n)), aI qw cI (upd fw pp (nI v)), aO qt cJ (vp_updL fo 0 (lN (w pp)))] := hD
  refine lv_goto (tgt := 17) hx hb d_sl_weight_10 (by decide) ?_
  refine lv_iconst (v := nI 0) hx hb d_sl_weight_17 (by decide) ?_
  exact en_gi () hx hb hr hlk rfl hP hK hD hS d_sl_weight_18
set_option maxRecDepth 10000 in
set_option maxHeartbeats 4000000 in
theorem c_sl_share (l : Launch) (D : va_G) (cI cJ : ClassId) (x qw qs qo qt sz n d mm pp : Nat) (fw fs : Nat → Int32) (fo : Nat → Int64) (w : Nat → Nat) (hn1 : 1 ≤ n) (hn8 : n ≤ 8) (hw : ∀ q, w q ≤ 100000) (hfw : ∀ q, q < 8 → fw q = nI (w q)) (hW : 0 < pu_sum w n) (hd : d < 3) (hm : mm ≤ 10000) (hp : pp < n) : Met l y_sl_share w_sl_share (rL 5 0 0) (va_Pc [.ref x, .int (nI d), .int (nI mm), .int (nI pp), .ref qt] (gP D [(cI, .int), (cJ, .long)] [oD x qw qs qo (nI n) (nI (pu_sum w n)), aI qw cI fw, aI qs cI fs, aO qt cJ fo] sz)) (va_Qi (fun r _ => r = nI 0) (gB D [(cI, .int), (cJ, .long)] (va_A [oD x qw qs qo (nI n) (nI (pu_sum w n)), aI qw cI fw, aI qs cI fs, aO qt cJ fo] sz) (fun u : Nat → Int32 => [oD x qw qs qo (nI n) (nI (pu_sum w n)), aI qw cI fw, aI qs cI u, aO qt cJ (vp_updL fo 0 (lN (pu_sh n w d mm pp)))])) (va_A [oD x qw qs qo (nI n) (nI (pu_sum w n)), aI qw cI fw, aI qs cI fs, aO qt cJ fo] sz)) 0 0 (va_A [oD x qw qs qo (nI n) (nI (pu_sum w n)), aI qw cI fw, aI qs cI fs, aO qt cJ fo] sz) := by
  refine va_MetW (hh := _) (cc := b_sl_share) (maxL := 6) (ret := (some .int)) (by decide) rfl ?_
  intro p e s m args below meth c s₁ B hml hv
  obtain ⟨rfl, hsz, hP, hK, hD0⟩ := hv
  have hx := B.exec
  have hb := B.bytes
  have hr := B.returns
  have hts := atoms_spec (ws := w_sl_share) B.pre
  have hg : ∀ w ∈ gws, w.before ([.ref x, .int (nI d), .int (nI mm), .int (nI pp), .ref qt] : List Value).toArray s = true := fun w hw => hts w (List.mem_cons_of_mem _ hw)
  have hown : s.vm.findClass "ShareDeskLaw" = some m.cls := findClass_of_methodNamed B.named
  have hlk := B.notSynchronized
  subst hsz
  have hD := hD0.self (sz := s.heap.size)
  generalize hAe : va_A [oD x qw qs qo (nI n) (nI (pu_sum w n)), aI qw cI fw, aI qs cI fs, aO qt cJ fo] s.heap.size = A at hD ⊢
  have hA : ∀ q : Nat, s.heap.size ≤ q → A q := fun q h => by rw [← hAe]; exact Or.inr h
  have hS : va_S A s.heap s.heap [] := va_S.rf
  have hP : va_P D cls2 [oD x qw qs qo (nI n) (nI (pu_sum w n)), aI qw cI fw, aI qs cI fs, aO qt cJ fo] s.heap := hP
  have hl := lv_entry ([.ref x, .int (nI d), .int (nI mm), .int (nI pp), .ref qt]) (n := 6) (Nat.le_of_ble_eq_true rfl)
  rw [lg_entry_eq]
  generalize (lg_sl ([.ref x, .int (nI d), .int (nI mm), .int (nI pp), .ref qt]) ++ List.replicate (6 - (lg_sl ([.ref x, .int (nI d), .int (nI mm), .int (nI pp), .ref qt])).length) Slot.unset).toArray = ls at hl ⊢
  have hl : lv_has ls 6 [(0, .ref x), (1, .int (nI d)), (2, .int (nI mm)), (3, .int (nI pp)), (4, .ref qt)] := hl
  refine lv_aload hx hb d_sl_share_0 (lv_at hl 4 rfl) ?_
  refine lv_iconst (v := nI 0) hx hb d_sl_share_2 (by decide) ?_
  refine lv_aload_n hx hb d_sl_share_3 rfl (lv_at hl 0 rfl) ?_
  refine lv_iload_n hx hb d_sl_share_4 rfl (lv_at hl 1 rfl) ?_
  refine lv_iload_n hx hb d_sl_share_5 rfl (lv_at hl 2 rfl) ?_
  refine lv_iload_n hx hb d_sl_share_6 rfl (lv_at hl 3 rfl) ?_
  refine ev_i (C := "ShareDesk") hx hb hml hown hg (c_sd_share l D cI x qw qs qo s.heap.size n mm d pp fw fs w hd hm hp hn1 hn8 hw hfw hW) ⟨k_123, k_124, k_125, k_1, k_126⟩ n_sd_share ⟨rfl, rfl, by decide, by decide⟩ (hK.sub (tys' := [(cI, .int)]) [0] rfl) hP hD hS hA [0, 1, 2] [3] rfl rfl (wr := [aO qt cJ fo]) rfl rfl (by decide) (va_recv (q0 := 0) (ci := 0) hK hP rfl rfl) hl.1 rfl (Nat.le_of_ble_eq_true rfl) d_sl_share_7 ⟨by decide, by decide⟩ (fun r u H locs hu hP hD hS => ?_)
  have hP : va_P D cls2 [oD x qw qs qo (nI n) (nI (pu_sum w n)), aI qw cI fw, aI qs cI u, aO qt cJ fo] H := hP.sub [1, 2, 3, 0] rfl
  have hD : va_D A [oD x qw qs qo (nI n) (nI (pu_sum w n)), aI qw cI fw, aI qs cI u, aO qt cJ fo] := hD.sub [1, 2, 3, 0] rfl rfl
  subst hu
  have hsh := Nat.le_trans (pu_sh_le (d := d) (m := mm) hW hp) hm
  refine lv_i2l (v := lN (pu_sh n w d mm pp)) hx hb d_sl_share_10 (nI_l (by omega)) ?_
  refine xo_st hx hb hK hP hD hS 3 1 rfl rfl d_sl_share_11 (fun H locs hP hD hS => ?_)
  have hP : va_P D cls2 [oD x qw qs qo (nI n) (nI (pu_sum w n)), aI qw cI fw, aI qs cI u, aO qt cJ (vp_updL fo 0 (lN (pu_sh n w d mm pp)))] H := hP
  have hD : va_D A [oD x qw qs qo (nI n) (nI (pu_sum w n)), aI qw cI fw, aI qs cI u, aO qt cJ (vp_updL fo 0 (lN (pu_sh n w d mm pp)))] := hD
  refine lv_goto (tgt := 23) hx hb d_sl_share_12 (by decide) ?_
  refine lv_iconst (v := nI 0) hx hb d_sl_share_23 (by decide) ?_
  exact en_gi u hx hb hr hlk rfl hP hK hD hS d_sl_share_24
set_option maxRecDepth 10000 in
set_option maxHeartbeats 4000000 in
theorem c_sl_over (l : Launch) (D : va_G) (cI cJ : ClassId) (x qw qs qo qt sz n d mm pp : Nat) (fw fs : Nat → Int32) (fo : Nat → Int64) (w : Nat → Nat) (hn1 : 1 ≤ n) (hn8 : n ≤ 8) (hw : ∀ q, w q ≤ 100000) (hfw : ∀ q, q < 8 → fw q = nI (w q)) (hW : 0 < pu_sum w n) (hd : d < 3) (hm : mm ≤ 10000) (hp : pp < n) : Met l y_sl_over w_sl_over (rL 5 0 0) (va_Pc [.ref x, .int (nI d), .int (nI mm), .int (nI pp), .ref qt] (gP D [(cI, .int), (cJ, .long)] [oD x qw qs qo (nI n) (nI (pu_sum w n)), aI qw cI fw, aI qs cI fs, aO qt cJ fo] sz)) (va_Qi (fun r _ => r = nI 0) (gB D [(cI, .int), (cJ, .long)] (va_A [oD x qw qs qo (nI n) (nI (pu_sum w n)), aI qw cI fw, aI qs cI fs, aO qt cJ fo] sz) (fun u : Nat → Int32 => [oD x qw qs qo (nI n) (nI (pu_sum w n)), aI qw cI fw, aI qs cI u, aO qt cJ (vp_updL fo 0 (lN (pu_sh n w d mm pp * pu_sum w n) - lN (mm * w pp)))])) (va_A [oD x qw qs qo (nI n) (nI (pu_sum w n)), aI qw cI fw, aI qs cI fs, aO qt cJ fo] sz)) 0 0 (va_A [oD x qw qs qo (nI n) (nI (pu_sum w n)), aI qw cI fw, aI qs cI fs, aO qt cJ fo] sz) := by
  refine va_MetW (hh := _) (cc := b_sl_over) (maxL := 6) (ret := (some .int)) (by decide) rfl ?_
  intro p e s m args below meth c s₁ B hml hv
  obtain ⟨rfl, hsz, hP, hK, hD0⟩ := hv
  have hx := B.exec
  have hb := B.bytes
  have hr := B.returns
  have hts := atoms_spec (ws := w_sl_over) B.pre
  have hg : ∀ w ∈ gws, w.before ([.ref x, .int (nI d), .int (nI mm), .int (nI pp), .ref qt] : List Value).toArray s = true := fun w hw => hts w (List.mem_cons_of_mem _ hw)
  have hown : s.vm.findClass "ShareDeskLaw" = some m.cls := findClass_of_methodNamed B.named
  have hlk := B.notSynchronized
  subst hsz
  have hD := hD0.self (sz := s.heap.size)
  generalize hAe : va_A [oD x qw qs qo (nI n) (nI (pu_sum w n)), aI qw cI fw, aI qs cI fs, aO qt cJ fo] s.heap.size = A at hD ⊢
  have hA : ∀ q : Nat, s.heap.size ≤ q → A q := fun q h => by rw [← hAe]; exact Or.inr h
  have hS : va_S A s.heap s.heap [] := va_S.rf
  have hP : va_P D cls2 [oD x qw qs qo (nI n) (nI (pu_sum w n)), aI qw cI fw, aI qs cI fs, aO qt cJ fo] s.heap := hP
  have hl := lv_entry ([.ref x, .int (nI d), .int (nI mm), .int (nI pp), .ref qt]) (n := 6) (Nat.le_of_ble_eq_true rfl)
  rw [lg_entry_eq]
  generalize (lg_sl ([.ref x, .int (nI d), .int (nI mm), .int (nI pp), .ref qt]) ++ List.replicate (6 - (lg_sl ([.ref x, .int (nI d), .int (nI mm), .int (nI pp), .ref qt])).length) Slot.unset).toArray = ls at hl ⊢
  have hl : lv_has ls 6 [(0, .ref x), (1, .int (nI d)), (2, .int (nI mm)), (3, .int (nI pp)), (4, .ref qt)] := hl
  refine lv_aload hx hb d_sl_over_0 (lv_at hl 4 rfl) ?_
  refine lv_iconst (v := nI 0) hx hb d_sl_over_2 (by decide) ?_
  refine lv_aload_n hx hb d_sl_over_3 rfl (lv_at hl 0 rfl) ?_
  refine lv_iload_n hx hb d_sl_over_4 rfl (lv_at hl 1 rfl) ?_
  refine lv_iload_n hx hb d_sl_over_5 rfl (lv_at hl 2 rfl) ?_
  refine lv_iload_n hx hb d_sl_over_6 rfl (lv_at hl 3 rfl) ?_
  refine ev_l (C := "ShareDesk") hx hb hml hown hg (c_sd_over l D cI x qw qs qo s.heap.size n mm d pp fw fs w hd hm hp hn1 hn8 hw hfw hW) ⟨k_169, k_170, k_171, k_1, k_172⟩ n_sd_over ⟨rfl, rfl, by decide, by decide⟩ (hK.sub (tys' := [(cI, .int)]) [0] rfl) hP hD hS hA [0, 1, 2] [3] rfl rfl (wr := [aO qt cJ fo]) rfl rfl (by decide) (va_recv (q0 := 0) (ci := 0) hK hP rfl rfl) hl.1 rfl (Nat.le_of_ble_eq_true rfl) d_sl_over_7 ⟨by decide, by decide⟩ (fun r u H locs hu hP hD hS => ?_)
  have hP : va_P D cls2 [oD x qw qs qo (nI n) (nI (pu_sum w n)), aI qw cI fw, aI qs cI u, aO qt cJ fo] H := hP.sub [1, 2, 3, 0] rfl
  have hD : va_D A [oD x qw qs qo (nI n) (nI (pu_sum w n)), aI qw cI fw, aI qs cI u, aO qt cJ fo] := hD.sub [1, 2, 3, 0] rfl rfl
  subst hu
  have hsh := Nat.le_trans (pu_sh_le (d := d) (m := mm) hW hp) hm
  refine xo_st hx hb hK hP hD hS 3 1 rfl rfl d_sl_over_10 (fun H locs hP hD hS => ?_)
  have hP : va_P D cls2 [oD x qw qs qo (nI n) (nI (pu_sum w n)), aI qw cI fw, aI qs cI u, aO qt cJ (vp_updL fo 0 (lN (pu_sh n w d mm pp * pu_sum w n) - lN (mm * w pp)))] H := hP
  have hD : va_D A [oD x qw qs qo (nI n) (nI (pu_sum w n)), aI qw cI fw, aI qs cI u, aO qt cJ (vp_updL fo 0 (lN (pu_sh n w d mm pp * pu_sum w n) - lN (mm * w pp)))] := hD
  refine lv_goto (tgt := 22) hx hb d_sl_over_11 (by decide) ?_
  refine lv_iconst (v := nI 0) hx hb d_sl_over_22 (by decide) ?_
  exact en_gi u hx hb hr hlk rfl hP hK hD hS d_sl_over_23
set_option maxRecDepth 10000 in
set_option maxHeartbeats 4000000 in
theorem c_sl_next (l : Launch) (D : va_G) (cI cJ : ClassId) (x qw qs qo qt sz n d mm : Nat) (fw fs fz : Nat → Int32) (fo : Nat → Int64) (w : Nat → Nat) (hn1 : 1 ≤ n) (hn8 : n ≤ 8) (hw : ∀ q, w q ≤ 100000) (hfw : ∀ q, q < 8 → fw q = nI (w q)) (hW : 0 < pu_sum w n) (hd : d < 3) (hm : mm < 10000) : Met l y_sl_next w_sl_next (rL 5 0 0) (va_Pc [.ref x, .int (nI d), .int (nI mm), .ref qt] (gP D [(cI, .int), (cJ, .long)] [oD x qw qs qo (nI n) (nI (pu_sum w n)), aI qw cI fw, aI qs cI fs, aI qo cI fz, aO qt cJ fo] sz)) (va_Qi (fun r _ => r = nI 0) (gB D [(cI, .int), (cJ, .long)] (va_A [oD x qw qs qo (nI n) (nI (pu_sum w n)), aI qw cI fw, aI qs cI fs, aI qo cI fz, aO qt cJ fo] sz) (fun u : (Nat → Int32) × (Nat → Int32) => [oD x qw qs qo (nI n) (nI (pu_sum w n)), aI qw cI fw, aI qs cI u.1, aI qo cI u.2, aO qt cJ (vp_updL fo 0 ((pu_nxR (pu_nx (pu_sh n w d mm) (pu_sh n w d (mm + 1)) n)).toInt64))])) (va_A [oD x qw qs qo (nI n) (nI (pu_sum w n)), aI qw cI fw, aI qs cI fs, aI qo cI fz, aO qt cJ fo] sz)) 0 0 (va_A [oD x qw qs qo (nI n) (nI (pu_sum w n)), aI qw cI fw, aI qs cI fs, aI qo cI fz, aO qt cJ fo] sz) := by
  refine va_MetW (hh := _) (cc := b_sl_next) (maxL := 5) (ret := (some .int)) (by decide) rfl ?_
  intro p e s m args below meth c s₁ B hml hv
  obtain ⟨rfl, hsz, hP, hK, hD0⟩ := hv
  have hx := B.exec
  have hb := B.bytes
  have hr := B.returns
  have hts := atoms_spec (ws := w_sl_next) B.pre
  have hg : ∀ w ∈ gws, w.before ([.ref x, .int (nI d), .int (nI mm), .ref qt] : List Value).toArray s = true := fun w hw => hts w (List.mem_cons_of_mem _ hw)
  have hown : s.vm.findClass "ShareDeskLaw" = some m.cls := findClass_of_methodNamed B.named
  have hlk := B.notSynchronized
  subst hsz
  have hD := hD0.self (sz := s.heap.size)
  generalize hAe : va_A [oD x qw qs qo (nI n) (nI (pu_sum w n)), aI qw cI fw, aI qs cI fs, aI qo cI fz, aO qt cJ fo] s.heap.size = A at hD ⊢
  have hA : ∀ q : Nat, s.heap.size ≤ q → A q := fun q h => by rw [← hAe]; exact Or.inr h
  have hS : va_S A s.heap s.heap [] := va_S.rf
  have hP : va_P D cls2 [oD x qw qs qo (nI n) (nI (pu_sum w n)), aI qw cI fw, aI qs cI fs, aI qo cI fz, aO qt cJ fo] s.heap := hP
  have hl := lv_entry ([.ref x, .int (nI d), .int (nI mm), .ref qt]) (n := 5) (Nat.le_of_ble_eq_true rfl)
  rw [lg_entry_eq]
  generalize (lg_sl ([.ref x, .int (nI d), .int (nI mm), .ref qt]) ++ List.replicate (5 - (lg_sl ([.ref x, .int (nI d), .int (nI mm), .ref qt])).length) Slot.unset).toArray = ls at hl ⊢
  have hl : lv_has ls 5 [(0, .ref x), (1, .int (nI d)), (2, .int (nI mm)), (3, .ref qt)] := hl
  refine lv_aload_n hx hb d_sl_next_0 rfl (lv_at hl 3 rfl) ?_
  refine lv_iconst (v := nI 0) hx hb d_sl_next_1 (by decide) ?_
  refine lv_aload_n hx hb d_sl_next_2 rfl (lv_at hl 0 rfl) ?_
  refine lv_iload_n hx hb d_sl_next_3 rfl (lv_at hl 1 rfl) ?_
  refine lv_iload_n hx hb d_sl_next_4 rfl (lv_at hl 2 rfl) ?_
  refine ev_i (C := "ShareDesk") hx hb hml hown hg (c_sd_next l D cI x qw qs qo s.heap.size n mm d fw fs fz w hd hm hn1 hn8 hw hfw hW) ⟨k_177, k_178, k_179, k_1, k_180⟩ n_sd_next ⟨rfl, rfl, by decide, by decide⟩ (hK.sub (tys' := [(cI, .int)]) [0] rfl) hP hD hS hA [0, 1, 2, 3] [4] rfl rfl (wr := [aO qt cJ fo]) rfl rfl (by decide) (va_recv (q0 := 0) (ci := 0) hK hP rfl rfl) hl.1 rfl (Nat.le_of_ble_eq_true rfl) d_sl_next_5 ⟨by decide, by decide⟩ (fun r u H locs hu hP hD hS => ?_)
  have hP : va_P D cls2 [oD x qw qs qo (nI n) (nI (pu_sum w n)), aI qw cI fw, aI qs cI u.1, aI qo cI u.2, aO qt cJ fo] H := hP.sub [1, 2, 3, 4, 0] rfl
  have hD : va_D A [oD x qw qs qo (nI n) (nI (pu_sum w n)), aI qw cI fw, aI qs cI u.1, aI qo cI u.2, aO qt cJ fo] := hD.sub [1, 2, 3, 4, 0] rfl rfl
  subst hu
  refine lv_i2l hx hb d_sl_next_8 rfl ?_
  refine xo_st hx hb hK hP hD hS 4 1 rfl rfl d_sl_next_9 (fun H locs hP hD hS => ?_)
  have hP : va_P D cls2 [oD x qw qs qo (nI n) (nI (pu_sum w n)), aI qw cI fw, aI qs cI u.1, aI qo cI u.2, aO qt cJ (vp_updL fo 0 ((pu_nxR (pu_nx (pu_sh n w d mm) (pu_sh n w d (mm + 1)) n)).toInt64))] H := hP
  have hD : va_D A [oD x qw qs qo (nI n) (nI (pu_sum w n)), aI qw cI fw, aI qs cI u.1, aI qo cI u.2, aO qt cJ (vp_updL fo 0 ((pu_nxR (pu_nx (pu_sh n w d mm) (pu_sh n w d (mm + 1)) n)).toInt64))] := hD
  refine lv_goto (tgt := 21) hx hb d_sl_next_10 (by decide) ?_
  refine lv_iconst (v := nI 0) hx hb d_sl_next_21 (by decide) ?_
  exact en_gi u hx hb hr hlk rfl hP hK hD hS d_sl_next_22
set_option maxRecDepth 10000 in
set_option maxHeartbeats 4000000 in
theorem c_sl_least (l : Launch) (D : va_G) (cI cJ : ClassId) (x qw qs qo qt sz n d k pp : Nat) (fw fs : Nat → Int32) (fo : Nat → Int64) (w : Nat → Nat) (hn1 : 1 ≤ n) (hn8 : n ≤ 8) (hw : ∀ q, w q ≤ 100000) (hfw : ∀ q, q < 8 → fw q = nI (w q)) (hW : 0 < pu_sum w n) (hd : d < 3) (hk : k < 2 ^ 31) (hp : pp < n) : Met l y_sl_least w_sl_least (rL 5 0 0) (va_Pc [.ref x, .int (nI d), .int (nI k), .int (nI pp), .ref qt] (gP D [(cI, .int), (cJ, .long)] [oD x qw qs qo (nI n) (nI (pu_sum w n)), aI qw cI fw, aI qs cI fs, aO qt cJ fo] sz)) (va_Qi (fun r u => r = nI 0 ∧ pu_isL (fun m => pu_sh n w d m pp) k u.2) (gB D [(cI, .int), (cJ, .long)] (va_A [oD x qw qs qo (nI n) (nI (pu_sum w n)), aI qw cI fw, aI qs cI fs, aO qt cJ fo] sz) (fun u : (Nat → Int32) × Int32 => [oD x qw qs qo (nI n) (nI (pu_sum w n)), aI qw cI fw, aI qs cI u.1, aO qt cJ (vp_updL fo 0 (u.2.toInt64))])) (va_A [oD x qw qs qo (nI n) (nI (pu_sum w n)), aI qw cI fw, aI qs cI fs, aO qt cJ fo] sz)) 0 0 (va_A [oD x qw qs qo (nI n) (nI (pu_sum w n)), aI qw cI fw, aI qs cI fs, aO qt cJ fo] sz) := by
  refine va_MetW (hh := _) (cc := b_sl_least) (maxL := 6) (ret := (some .int)) (by decide) rfl ?_
  intro p e s m args below meth c s₁ B hml hv
  obtain ⟨rfl, hsz, hP, hK, hD0⟩ := hv
  have hx := B.exec
  have hb := B.bytes
  have hr := B.returns
  have hts := atoms_spec (ws := w_sl_least) B.pre
  have hg : ∀ w ∈ gws, w.before ([.ref x, .int (nI d), .int (nI k), .int (nI pp), .ref qt] : List Value).toArray s = true := fun w hw => hts w (List.mem_cons_of_mem _ hw)
  have hown : s.vm.findClass "ShareDeskLaw" = some m.cls := findClass_of_methodNamed B.named
  have hlk := B.notSynchronized
  subst hsz
  have hD := hD0.self (sz := s.heap.size)
  generalize hAe : va_A [oD x qw qs qo (nI n) (nI (pu_sum w n)), aI qw cI fw, aI qs cI fs, aO qt cJ fo] s.heap.size = A at hD ⊢
  have hA : ∀ q : Nat, s.heap.size ≤ q → A q := fun q h => by rw [← hAe]; exact Or.inr h
  have hS : va_S A s.heap s.heap [] := va_S.rf
  have hP : va_P D cls2 [oD x qw qs qo (nI n) (nI (pu_sum w n)), aI qw cI fw, aI qs cI fs, aO qt cJ fo] s.heap := hP
  have hl := lv_entry ([.ref x, .int (nI d), .int (nI k), .int (nI pp), .ref qt]) (n := 6) (Nat.le_of_ble_eq_true rfl)
  rw [lg_entry_eq]
  generalize (lg_sl ([.ref x, .int (nI d), .int (nI k), .int (nI pp), .ref qt]) ++ List.replicate (6 - (lg_sl ([.ref x, .int (nI d), .int (nI k), .int (nI pp), .ref qt])).length) Slot.unset).toArray = ls at hl ⊢
  have hl : lv_has ls 6 [(0, .ref x), (1, .int (nI d)), (2, .int (nI k)), (3, .int (nI pp)), (4, .ref qt)] := hl
  refine lv_aload hx hb d_sl_least_0 (lv_at hl 4 rfl) ?_
  refine lv_iconst (v := nI 0) hx hb d_sl_least_2 (by decide) ?_
  refine lv_aload_n hx hb d_sl_least_3 rfl (lv_at hl 0 rfl) ?_
  refine lv_iload_n hx hb d_sl_least_4 rfl (lv_at hl 1 rfl) ?_
  refine lv_iload_n hx hb d_sl_least_5 rfl (lv_at hl 2 rfl) ?_
  refine lv_iload_n hx hb d_sl_least_6 rfl (lv_at hl 3 rfl) ?_
  refine ev_i (C := "ShareDesk") hx hb hml hown hg (c_sd_least l D cI x qw qs qo s.heap.size n k d pp fw fs w hd hk hp hn1 hn8 hw hfw hW) ⟨k_184, k_185, k_186, k_1, k_187⟩ n_sd_least ⟨rfl, rfl, by decide, by decide⟩ (hK.sub (tys' := [(cI, .int)]) [0] rfl) hP hD hS hA [0, 1, 2] [3] rfl rfl (wr := [aO qt cJ fo]) rfl rfl (by decide) (va_recv (q0 := 0) (ci := 0) hK hP rfl rfl) hl.1 rfl (Nat.le_of_ble_eq_true rfl) d_sl_least_7 ⟨by decide, by decide⟩ (fun r u H locs hu hP hD hS => ?_)
  have hP : va_P D cls2 [oD x qw qs qo (nI n) (nI (pu_sum w n)), aI qw cI fw, aI qs cI u, aO qt cJ fo] H := hP.sub [1, 2, 3, 0] rfl
  have hD : va_D A [oD x qw qs qo (nI n) (nI (pu_sum w n)), aI qw cI fw, aI qs cI u, aO qt cJ fo] := hD.sub [1, 2, 3, 0] rfl rfl
  refine lv_i2l hx hb d_sl_least_10 rfl ?_
  refine xo_st hx hb hK hP hD hS 3 1 rfl rfl d_sl_least_11 (fun H locs hP hD hS => ?_)
  have hP : va_P D cls2 [oD x qw qs qo (nI n) (nI (pu_sum w n)), aI qw cI fw, aI qs cI u, aO qt cJ (vp_updL fo 0 (r.toInt64))] H := hP
  have hD : va_D A [oD x qw qs qo (nI n) (nI (pu_sum w n)), aI qw cI fw, aI qs cI u, aO qt cJ (vp_updL fo 0 (r.toInt64))] := hD
  refine lv_goto (tgt := 23) hx hb d_sl_least_12 (by decide) ?_
  refine lv_iconst (v := nI 0) hx hb d_sl_least_23 (by decide) ?_
  exact en_gi (u, r) hx hb hr hlk ⟨rfl, hu⟩ hP hK hD hS d_sl_least_24
set_option maxRecDepth 10000 in
set_option maxHeartbeats 4000000 in
theorem c_sl_count (l : Launch) (D : va_G) (cI cJ : ClassId) (x qw qs qo qt sz n t : Nat) (fw : Nat → Int32) (fo : Nat → Int64) (w : Nat → Nat) (hn1 : 1 ≤ n) (hn8 : n ≤ 8) (hw : ∀ q, w q ≤ 100000) (hfw : ∀ q, q < 8 → fw q = nI (w q)) (ht : t < 3) : Met l y_sl_count w_sl_count (rL 5 0 0) (va_Pc [.ref x, .int (nI t), .ref qt] (gP D [(cI, .int), (cJ, .long)] [oD x qw qs qo (nI n) (nI (pu_sum w n)), aI qw cI fw, aO qt cJ fo] sz)) (va_Qi (fun r _ => r = nI 0) (gB D [(cI, .int), (cJ, .long)] (va_A [oD x qw qs qo (nI n) (nI (pu_sum w n)), aI qw cI fw, aO qt cJ fo] sz) (fun u : Unit => [oD x qw qs qo (nI n) (nI (pu_sum w n)), aI qw cI fw, aO qt cJ (vp_updL fo 0 (lN (if t = 0 then n else if t = 1 then pu_sum w n else pu_cnt w n)))])) (va_A [oD x qw qs qo (nI n) (nI (pu_sum w n)), aI qw cI fw, aO qt cJ fo] sz)) 0 0 (va_A [oD x qw qs qo (nI n) (nI (pu_sum w n)), aI qw cI fw, aO qt cJ fo] sz) := by
  refine va_MetW (hh := _) (cc := b_sl_count) (maxL := 4) (ret := (some .int)) (by decide) rfl ?_
  intro p e s m args below meth c s₁ B hml hv
  obtain ⟨rfl, hsz, hP, hK, hD0⟩ := hv
  have hx := B.exec
  have hb := B.bytes
  have hr := B.returns
  have hts := atoms_spec (ws := w_sl_count) B.pre
  have hg : ∀ w ∈ gws, w.before ([.ref x, .int (nI t), .ref qt] : List Value).toArray s = true := fun w hw => hts w (List.mem_cons_of_mem _ hw)
  have hown : s.vm.findClass "ShareDeskLaw" = some m.cls := findClass_of_methodNamed B.named
  have hlk := B.notSynchronized
  subst hsz
  have hD := hD0.self (sz := s.heap.size)
  generalize hAe : va_A [oD x qw qs qo (nI n) (nI (pu_sum w n)), aI qw cI fw, aO qt cJ fo] s.heap.size = A at hD ⊢
  have hA : ∀ q : Nat, s.heap.size ≤ q → A q := fun q h => by rw [← hAe]; exact Or.inr h
  have hS : va_S A s.heap s.heap [] := va_S.rf
  have hP : va_P D cls2 [oD x qw qs qo (nI n) (nI (pu_sum w n)), aI qw cI fw, aO qt cJ fo] s.heap := hP
  have hl := lv_entry ([.ref x, .int (nI t), .ref qt]) (n := 4) (Nat.le_of_ble_eq_true rfl)
  rw [lg_entry_eq]
  generalize (lg_sl ([.ref x, .int (nI t), .ref qt]) ++ List.replicate (4 - (lg_sl ([.ref x, .int (nI t), .ref qt])).length) Slot.unset).toArray = ls at hl ⊢
  have hl : lv_has ls 4 [(0, .ref x), (1, .int (nI t)), (2, .ref qt)] := hl
  refine lv_aload_n hx hb d_sl_count_0 rfl (lv_at hl 2 rfl) ?_
  refine lv_iconst (v := nI 0) hx hb d_sl_count_1 (by decide) ?_
  refine lv_aload_n hx hb d_sl_count_2 rfl (lv_at hl 0 rfl) ?_
  refine lv_iload_n hx hb d_sl_count_3 rfl (lv_at hl 1 rfl) ?_
  have hWb := pu_sum_bd hn8 hw
  have hcb := pu_cnt_le w n
  refine pv_i (C := "ShareDesk") hx hb hml hown hg (c_sd_count l D cI x qw qs qo s.heap.size n t fw w ht hn1 hn8 hw hfw) ⟨k_192, k_193, k_194, k_1, k_195⟩ n_sd_count ⟨rfl, rfl, by decide, by decide⟩ (hK.sub (tys' := [(cI, .int)]) [0] rfl) (hP.sub [0, 1] rfl) (hD.sub [0, 1] rfl rfl) (va_recv (q0 := 0) (ci := 0) hK hP rfl rfl) hl.1 rfl (Nat.le_of_ble_eq_true rfl) d_sl_count_4 ⟨by decide, by decide⟩ (fun r hr9 => ?_)
  subst hr9
  refine lv_i2l (v := lN (if t = 0 then n else if t = 1 then pu_sum w n else pu_cnt w n)) hx hb d_sl_count_7 (nI_l (by split <;> (try split) <;> omega)) ?_
  refine xo_st hx hb hK hP hD hS 2 1 rfl rfl d_sl_count_8 (fun H locs hP hD hS => ?_)
  have hP : va_P D cls2 [oD x qw qs qo (nI n) (nI (pu_sum w n)), aI qw cI fw, aO qt cJ (vp_updL fo 0 (lN (if t = 0 then n else if t = 1 then pu_sum w n else pu_cnt w n)))] H := hP
  have hD : va_D A [oD x qw qs qo (nI n) (nI (pu_sum w n)), aI qw cI fw, aO qt cJ (vp_updL fo 0 (lN (if t = 0 then n else if t = 1 then pu_sum w n else pu_cnt w n)))] := hD
  refine lv_goto (tgt := 15) hx hb d_sl_count_9 (by decide) ?_
  refine lv_iconst (v := nI 0) hx hb d_sl_count_15 (by decide) ?_
  exact en_gi () hx hb hr hlk rfl hP hK hD hS d_sl_count_16
set_option maxRecDepth 10000 in
set_option maxHeartbeats 4000000 in
theorem t_sl_begin1 (l : Launch) (htr : l.stackTraces = false) (D : va_G) (tys : List (ClassId × FieldType)) (x qw qs qo sz : Nat) (P Wh : Int32) (v : Int32) (h : v.toInt < 1 ∨ 8 < v.toInt) : Met l y_sl_begin w_sl_begin (rL 10 1 6) (va_Pc [.ref x, .int v] (gX D tys [oD x qw qs qo P Wh] sz)) (va_Qi (fun r (_ : Unit) => r = nI 1) (gB D tys (va_A [oD x qw qs qo P Wh] sz) (fun u : Unit => [oD x qw qs qo P Wh])) (va_A [oD x qw qs qo P Wh] sz)) 1 6 (va_A [oD x qw qs qo P Wh] sz) := by
  refine va_MetW (hh := _) (cc := b_sl_begin) (maxL := 3) (ret := (some .int)) (by decide) rfl ?_
  intro p e s m args below meth c s₁ B hml hv
  obtain ⟨rfl, ⟨hsz, hP, hK, hD0⟩, hxs⟩ := hv
  have hx := B.exec
  have hb := B.bytes
  have hr := B.returns
  have hts := atoms_spec (ws := w_sl_begin) B.pre
  have hg : ∀ w ∈ gws, w.before ([.ref x, .int v] : List Value).toArray s = true := fun w hw => hts w (List.mem_cons_of_mem _ hw)
  have hown : s.vm.findClass "ShareDeskLaw" = some m.cls := findClass_of_methodNamed B.named
  have hlk := B.notSynchronized
  have htab := B_table B (hts _ List.mem_cons_self)
  subst hsz
  have hD := hD0.self (sz := s.heap.size)
  generalize hAe : va_A [oD x qw qs qo P Wh] s.heap.size = A at hD ⊢
  have hP : va_P D cls2 [oD x qw qs qo P Wh] s.heap := hP
  have hl := lv_entry ([.ref x, .int v]) (n := 3) (Nat.le_of_ble_eq_true rfl)
  rw [lg_entry_eq]
  generalize (lg_sl ([.ref x, .int v]) ++ List.replicate (3 - (lg_sl ([.ref x, .int v])).length) Slot.unset).toArray = ls at hl ⊢
  have hl : lv_has ls 3 [(0, .ref x), (1, .int v)] := hl
  refine lv_aload_n hx hb d_sl_begin_0 rfl (lv_at hl 0 rfl) ?_
  refine lv_iload_n hx hb d_sl_begin_1 rfl (lv_at hl 1 rfl) ?_
  refine tv_catch (Cr := "ShareDesk") (hpc := 8) hx hb hml hown hg (t_sd_begin l htr D tys x qw qs qo s.heap.size P Wh v h) ⟨k_38, k_39, k_40, k_1, k_41⟩ n_sd_begin ⟨by decide, by decide, by decide, by decide⟩ gX_blind (gX_pre hK hP hD hxs) (va_recv (q0 := 0) (ci := 0) hK hP rfl rfl) hl.1 rfl (Nat.le_of_ble_eq_true rfl) d_sl_begin_2 (fh_ok1 hown htab (by decide) (by decide) (hg _ k_37)) (fun H x0 h1 h2 => ?_)
  have hP := hP.kept (fun k q hk => h2 q.1 (hP k q hk).lt)
  have hS : va_S A s.heap H [] := ⟨h1, fun q hq _ => h2 q hq, fun l h => by cases h⟩
  refine lv_astore_n (lv' := [(2, .ref x0), (0, .ref x), (1, .int v)]) hx hb d_sl_begin_8 rfl hl (by decide) rfl (fun ls hl => ?_)
  refine lv_iconst (v := nI 1) hx hb d_sl_begin_9 (by decide) ?_
  exact en_gi () hx hb hr hlk rfl hP hK hD hS d_sl_begin_10
set_option maxRecDepth 10000 in
set_option maxHeartbeats 4000000 in
theorem t_sl_weight1 (l : Launch) (htr : l.stackTraces = false) (D : va_G) (tys : List (ClassId × FieldType)) (x qw qs qo qt sz : Nat) (n W : Nat) (v u : Int32) (hn8 : n ≤ 8) (h : ¬ (0 ≤ v.toInt ∧ v.toInt < (n : Int) ∧ 0 ≤ u.toInt ∧ u.toInt ≤ 100000)) : Met l y_sl_weight w_sl_weight (rL 10 1 6) (va_Pc [.ref x, .int v, .int u, .ref qt] (gX D tys [oD x qw qs qo (nI n) (nI W)] sz)) (va_Qi (fun r (_ : Unit) => r = nI 1) (gB D tys (va_A [oD x qw qs qo (nI n) (nI W)] sz) (fun u : Unit => [oD x qw qs qo (nI n) (nI W)])) (va_A [oD x qw qs qo (nI n) (nI W)] sz)) 1 6 (va_A [oD x qw qs qo (nI n) (nI W)] sz) := by
  refine va_MetW (hh := _) (cc := b_sl_weight) (maxL := 5) (ret := (some .int)) (by decide) rfl ?_
  intro p e s m args below meth c s₁ B hml hv
  obtain ⟨rfl, ⟨hsz, hP, hK, hD0⟩, hxs⟩ := hv
  have hx := B.exec
  have hb := B.bytes
  have hr := B.returns
  have hts := atoms_spec (ws := w_sl_weight) B.pre
  have hg : ∀ w ∈ gws, w.before ([.ref x, .int v, .int u, .ref qt] : List Value).toArray s = true := fun w hw => hts w (List.mem_cons_of_mem _ hw)
  have hown : s.vm.findClass "ShareDeskLaw" = some m.cls := findClass_of_methodNamed B.named
  have hlk := B.notSynchronized
  have htab := B_table B (hts _ List.mem_cons_self)
  subst hsz
  have hD := hD0.self (sz := s.heap.size)
  generalize hAe : va_A [oD x qw qs qo (nI n) (nI W)] s.heap.size = A at hD ⊢
  have hP : va_P D cls2 [oD x qw qs qo (nI n) (nI W)] s.heap := hP
  have hl := lv_entry ([.ref x, .int v, .int u, .ref qt]) (n := 5) (Nat.le_of_ble_eq_true rfl)
  rw [lg_entry_eq]
  generalize (lg_sl ([.ref x, .int v, .int u, .ref qt]) ++ List.replicate (5 - (lg_sl ([.ref x, .int v, .int u, .ref qt])).length) Slot.unset).toArray = ls at hl ⊢
  have hl : lv_has ls 5 [(0, .ref x), (1, .int v), (2, .int u), (3, .ref qt)] := hl
  refine lv_aload_n hx hb d_sl_weight_0 rfl (lv_at hl 3 rfl) ?_
  refine lv_iconst (v := nI 0) hx hb d_sl_weight_1 (by decide) ?_
  refine lv_aload_n hx hb d_sl_weight_2 rfl (lv_at hl 0 rfl) ?_
  refine lv_iload_n hx hb d_sl_weight_3 rfl (lv_at hl 1 rfl) ?_
  refine lv_iload_n hx hb d_sl_weight_4 rfl (lv_at hl 2 rfl) ?_
  refine tv_catch (Cr := "ShareDesk") (hpc := 13) hx hb hml hown hg (t_sd_weight l htr D tys x qw qs qo s.heap.size n W v u hn8 h) ⟨k_110, k_111, k_112, k_1, k_113⟩ n_sd_weight ⟨by decide, by decide, by decide, by decide⟩ gX_blind (gX_pre hK hP hD hxs) (va_recv (q0 := 0) (ci := 0) hK hP rfl rfl) hl.1 rfl (Nat.le_of_ble_eq_true rfl) d_sl_weight_5 (fh_ok1 hown htab (by decide) (by decide) (hg _ k_37)) (fun H x0 h1 h2 => ?_)
  have hP := hP.kept (fun k q hk => h2 q.1 (hP k q hk).lt)
  have hS : va_S A s.heap H [] := ⟨h1, fun q hq _ => h2 q hq, fun l h => by cases h⟩
  refine lv_astore (lv' := [(4, .ref x0), (0, .ref x), (1, .int v), (2, .int u), (3, .ref qt)]) hx hb d_sl_weight_13 hl (by decide) rfl (fun ls hl => ?_)
  refine lv_iconst (v := nI 1) hx hb d_sl_weight_15 (by decide) ?_
  exact en_gi () hx hb hr hlk rfl hP hK hD hS d_sl_weight_16
set_option maxRecDepth 10000 in
set_option maxHeartbeats 4000000 in
theorem t_sl_share1 (l : Launch) (htr : l.stackTraces = false) (D : va_G) (tys : List (ClassId × FieldType)) (x qw qs qo qt sz : Nat) (n W : Nat) (v u t : Int32) (hn8 : n ≤ 8) (h : ¬ (0 ≤ v.toInt ∧ v.toInt < 3 ∧ 0 ≤ u.toInt ∧ u.toInt ≤ 10000 ∧ 0 ≤ t.toInt ∧ t.toInt < (n : Int))) : Met l y_sl_share w_sl_share (rL 10 1 6) (va_Pc [.ref x, .int v, .int u, .int t, .ref qt] (gX D tys [oD x qw qs qo (nI n) (nI W)] sz)) (va_Qi (fun r (_ : Unit) => r = nI 1) (gB D tys (va_A [oD x qw qs qo (nI n) (nI W)] sz) (fun u : Unit => [oD x qw qs qo (nI n) (nI W)])) (va_A [oD x qw qs qo (nI n) (nI W)] sz)) 1 6 (va_A [oD x qw qs qo (nI n) (nI W)] sz) := by
  refine va_MetW (hh := _) (cc := b_sl_share) (maxL := 6) (ret := (some .int)) (by decide) rfl ?_
  intro p e s m args below meth c s₁ B hml hv
  obtain ⟨rfl, ⟨hsz, hP, hK, hD0⟩, hxs⟩ := hv
  have hx := B.exec
  have hb := B.bytes
  have hr := B.returns
  have hts := atoms_spec (ws := w_sl_share) B.pre
  have hg : ∀ w ∈ gws, w.before ([.ref x, .int v, .int u, .int t, .ref qt] : List Value).toArray s = true := fun w hw => hts w (List.mem_cons_of_mem _ hw)
  have hown : s.vm.findClass "ShareDeskLaw" = some m.cls := findClass_of_methodNamed B.named
  have hlk := B.notSynchronized
  have htab := B_table B (hts _ List.mem_cons_self)
  subst hsz
  have hD := hD0.self (sz := s.heap.size)
  generalize hAe : va_A [oD x qw qs qo (nI n) (nI W)] s.heap.size = A at hD ⊢
  have hP : va_P D cls2 [oD x qw qs qo (nI n) (nI W)] s.heap := hP
  have hl := lv_entry ([.ref x, .int v, .int u, .int t, .ref qt]) (n := 6) (Nat.le_of_ble_eq_true rfl)
  rw [lg_entry_eq]
  generalize (lg_sl ([.ref x, .int v, .int u, .int t, .ref qt]) ++ List.replicate (6 - (lg_sl ([.ref x, .int v, .int u, .int t, .ref qt])).length) Slot.unset).toArray = ls at hl ⊢
  have hl : lv_has ls 6 [(0, .ref x), (1, .int v), (2, .int u), (3, .int t), (4, .ref qt)] := hl
  refine lv_aload hx hb d_sl_share_0 (lv_at hl 4 rfl) ?_
  refine lv_iconst (v := nI 0) hx hb d_sl_share_2 (by decide) ?_
  refine lv_aload_n hx hb d_sl_share_3 rfl (lv_at hl 0 rfl) ?_
  refine lv_iload_n hx hb d_sl_share_4 rfl (lv_at hl 1 rfl) ?_
  refine lv_iload_n hx hb d_sl_share_5 rfl (lv_at hl 2 rfl) ?_
  refine lv_iload_n hx hb d_sl_share_6 rfl (lv_at hl 3 rfl) ?_
  refine tv_catch (Cr := "ShareDesk") (hpc := 15) hx hb hml hown hg (t_sd_share1 l htr D tys x qw qs qo s.heap.size n W v u t hn8 h) ⟨k_123, k_124, k_125, k_1, k_126⟩ n_sd_share ⟨by decide, by decide, by decide, by decide⟩ gX_blind (gX_pre hK hP hD hxs) (va_recv (q0 := 0) (ci := 0) hK hP rfl rfl) hl.1 rfl (Nat.le_of_ble_eq_true rfl) d_sl_share_7 (fh_ok1 hown htab (by decide) (by decide) (hg _ k_37)) (fun H x0 h1 h2 => ?_)
  have hP := hP.kept (fun k q hk => h2 q.1 (hP k q hk).lt)
  have hS : va_S A s.heap H [] := ⟨h1, fun q hq _ => h2 q hq, fun l h => by cases h⟩
  refine lv_astore (lv' := [(5, .ref x0), (0, .ref x), (1, .int v), (2, .int u), (3, .int t), (4, .ref qt)]) hx hb d_sl_share_15 hl (by decide) rfl (fun ls hl => ?_)
  refine lv_iconst (v := nI 1) hx hb d_sl_share_17 (by decide) ?_
  exact en_gi () hx hb hr hlk rfl hP hK hD hS d_sl_share_18
set_option maxRecDepth 10000 in
set_option maxHeartbeats 4000000 in
theorem t_sl_over1 (l : Launch) (htr : l.stackTraces = false) (D : va_G) (tys : List (ClassId × FieldType)) (x qw qs qo qt sz : Nat) (n W : Nat) (v u t : Int32) (hn8 : n ≤ 8) (h : ¬ (0 ≤ v.toInt ∧ v.toInt < 3 ∧ 0 ≤ u.toInt ∧ u.toInt ≤ 10000 ∧ 0 ≤ t.toInt ∧ t.toInt < (n : Int))) : Met l y_sl_over w_sl_over (rL 10 1 6) (va_Pc [.ref x, .int v, .int u, .int t, .ref qt] (gX D tys [oD x qw qs qo (nI n) (nI W)] sz)) (va_Qi (fun r (_ : Unit) => r = nI 1) (gB D tys (va_A [oD x qw qs qo (nI n) (nI W)] sz) (fun u : Unit => [oD x qw qs qo (nI n) (nI W)])) (va_A [oD x qw qs qo (nI n) (nI W)] sz)) 1 6 (va_A [oD x qw qs qo (nI n) (nI W)] sz) := by
  refine va_MetW (hh := _) (cc := b_sl_over) (maxL := 6) (ret := (some .int)) (by decide) rfl ?_
  intro p e s m args below meth c s₁ B hml hv
  obtain ⟨rfl, ⟨hsz, hP, hK, hD0⟩, hxs⟩ := hv
  have hx := B.exec
  have hb := B.bytes
  have hr := B.returns
  have hts := atoms_spec (ws := w_sl_over) B.pre
  have hg : ∀ w ∈ gws, w.before ([.ref x, .int v, .int u, .int t, .ref qt] : List Value).toArray s = true := fun w hw => hts w (List.mem_cons_of_mem _ hw)
  have hown : s.vm.findClass "ShareDeskLaw" = some m.cls := findClass_of_methodNamed B.named
  have hlk := B.notSynchronized
  have htab := B_table B (hts _ List.mem_cons_self)
  subst hsz
  have hD := hD0.self (sz := s.heap.size)
  generalize hAe : va_A [oD x qw qs qo (nI n) (nI W)] s.heap.size = A at hD ⊢
  have hP : va_P D cls2 [oD x qw qs qo (nI n) (nI W)] s.heap := hP
  have hl := lv_entry ([.ref x, .int v, .int u, .int t, .ref qt]) (n := 6) (Nat.le_of_ble_eq_true rfl)
  rw [lg_entry_eq]
  generalize (lg_sl ([.ref x, .int v, .int u, .int t, .ref qt]) ++ List.replicate (6 - (lg_sl ([.ref x, .int v, .int u, .int t, .ref qt])).length) Slot.unset).toArray = ls at hl ⊢
  have hl : lv_has ls 6 [(0, .ref x), (1, .int v), (2, .int u), (3, .int t), (4, .ref qt)] := hl
  refine lv_aload hx hb d_sl_over_0 (lv_at hl 4 rfl) ?_
  refine lv_iconst (v := nI 0) hx hb d_sl_over_2 (by decide) ?_
  refine lv_aload_n hx hb d_sl_over_3 rfl (lv_at hl 0 rfl) ?_
  refine lv_iload_n hx hb d_sl_over_4 rfl (lv_at hl 1 rfl) ?_
  refine lv_iload_n hx hb d_sl_over_5 rfl (lv_at hl 2 rfl) ?_
  refine lv_iload_n hx hb d_sl_over_6 rfl (lv_at hl 3 rfl) ?_
  refine tv_catch (Cr := "ShareDesk") (hpc := 14) hx hb hml hown hg (t_sd_over1 l htr D tys x qw qs qo s.heap.size n W v u t hn8 h) ⟨k_169, k_170, k_171, k_1, k_172⟩ n_sd_over ⟨by decide, by decide, by decide, by decide⟩ gX_blind (gX_pre hK hP hD hxs) (va_recv (q0 := 0) (ci := 0) hK hP rfl rfl) hl.1 rfl (Nat.le_of_ble_eq_true rfl) d_sl_over_7 (fh_ok1 hown htab (by decide) (by decide) (hg _ k_37)) (fun H x0 h1 h2 => ?_)
  have hP := hP.kept (fun k q hk => h2 q.1 (hP k q hk).lt)
  have hS : va_S A s.heap H [] := ⟨h1, fun q hq _ => h2 q hq, fun l h => by cases h⟩
  refine lv_astore (lv' := [(5, .ref x0), (0, .ref x), (1, .int v), (2, .int u), (3, .int t), (4, .ref qt)]) hx hb d_sl_over_14 hl (by decide) rfl (fun ls hl => ?_)
  refine lv_iconst (v := nI 1) hx hb d_sl_over_16 (by decide) ?_
  exact en_gi () hx hb hr hlk rfl hP hK hD hS d_sl_over_17
set_option maxRecDepth 10000 in
set_option maxHeartbeats 4000000 in
theorem t_sl_next1 (l : Launch) (htr : l.stackTraces = false) (D : va_G) (tys : List (ClassId × FieldType)) (x qw qs qo qt sz : Nat) (n W : Nat) (v u : Int32) (h : ¬ (0 ≤ v.toInt ∧ v.toInt < 3 ∧ 0 ≤ u.toInt ∧ u.toInt ≤ 9999)) : Met l y_sl_next w_sl_next (rL 10 1 6) (va_Pc [.ref x, .int v, .int u, .ref qt] (gX D tys [oD x qw qs qo (nI n) (nI W)] sz)) (va_Qi (fun r (_ : Unit) => r = nI 1) (gB D tys (va_A [oD x qw qs qo (nI n) (nI W)] sz) (fun u : Unit => [oD x qw qs qo (nI n) (nI W)])) (va_A [oD x qw qs qo (nI n) (nI W)] sz)) 1 6 (va_A [oD x qw qs qo (nI n) (nI W)] sz) := by
  refine va_MetW (hh := _) (cc := b_sl_next) (maxL := 5) (ret := (some .int)) (by decide) rfl ?_
  intro p e s m args below meth c s₁ B hml hv
  obtain ⟨rfl, ⟨hsz, hP, hK, hD0⟩, hxs⟩ := hv
  have hx := B.exec
  have hb := B.bytes
  have hr := B.returns
  have hts := atoms_spec (ws := w_sl_next) B.pre
  have hg : ∀ w ∈ gws, w.before ([.ref x, .int v, .int u, .ref qt] : List Value).toArray s = true := fun w hw => hts w (List.mem_cons_of_mem _ hw)
  have hown : s.vm.findClass "ShareDeskLaw" = some m.cls := findClass_of_methodNamed B.named
  have hlk := B.notSynchronized
  have htab := B_table B (hts _ List.mem_cons_self)
  subst hsz
  have hD := hD0.self (sz := s.heap.size)
  generalize hAe : va_A [oD x qw qs qo (nI n) (nI W)] s.heap.size = A at hD ⊢
  have hP : va_P D cls2 [oD x qw qs qo (nI n) (nI W)] s.heap := hP
  have hl := lv_entry ([.ref x, .int v, .int u, .ref qt]) (n := 5) (Nat.le_of_ble_eq_true rfl)
  rw [lg_entry_eq]
  generalize (lg_sl ([.ref x, .int v, .int u, .ref qt]) ++ List.replicate (5 - (lg_sl ([.ref x, .int v, .int u, .ref qt])).length) Slot.unset).toArray = ls at hl ⊢
  have hl : lv_has ls 5 [(0, .ref x), (1, .int v), (2, .int u), (3, .ref qt)] := hl
  refine lv_aload_n hx hb d_sl_next_0 rfl (lv_at hl 3 rfl) ?_
  refine lv_iconst (v := nI 0) hx hb d_sl_next_1 (by decide) ?_
  refine lv_aload_n hx hb d_sl_next_2 rfl (lv_at hl 0 rfl) ?_
  refine lv_iload_n hx hb d_sl_next_3 rfl (lv_at hl 1 rfl) ?_
  refine lv_iload_n hx hb d_sl_next_4 rfl (lv_at hl 2 rfl) ?_
  refine tv_catch (Cr := "ShareDesk") (hpc := 13) hx hb hml hown hg (t_sd_next1 l htr D tys x qw qs qo s.heap.size n W v u h) ⟨k_177, k_178, k_179, k_1, k_180⟩ n_sd_next ⟨by decide, by decide, by decide, by decide⟩ gX_blind (gX_pre hK hP hD hxs) (va_recv (q0 := 0) (ci := 0) hK hP rfl rfl) hl.1 rfl (Nat.le_of_ble_eq_true rfl) d_sl_next_5 (fh_ok1 hown htab (by decide) (by decide) (hg _ k_37)) (fun H x0 h1 h2 => ?_)
  have hP := hP.kept (fun k q hk => h2 q.1 (hP k q hk).lt)
  have hS : va_S A s.heap H [] := ⟨h1, fun q hq _ => h2 q hq, fun l h => by cases h⟩
  refine lv_astore (lv' := [(4, .ref x0), (0, .ref x), (1, .int v), (2, .int u), (3, .ref qt)]) hx hb d_sl_next_13 hl (by decide) rfl (fun ls hl => ?_)
  refine lv_iconst (v := nI 1) hx hb d_sl_next_15 (by decide) ?_
  exact en_gi () hx hb hr hlk rfl hP hK hD hS d_sl_next_16
set_option maxRecDepth 10000 in
set_option maxHeartbeats 4000000 in
theorem t_sl_least1 (l : Launch) (htr : l.stackTraces = false) (D : va_G) (tys : List (ClassId × FieldType)) (x qw qs qo qt sz : Nat) (n W : Nat) (v u t : Int32) (hn8 : n ≤ 8) (h : ¬ (0 ≤ v.toInt ∧ v.toInt < 3 ∧ 0 ≤ u.toInt ∧ 0 ≤ t.toInt ∧ t.toInt < (n : Int))) : Met l y_sl_least w_sl_least (rL 10 1 6) (va_Pc [.ref x, .int v, .int u, .int t, .ref qt] (gX D tys [oD x qw qs qo (nI n) (nI W)] sz)) (va_Qi (fun r (_ : Unit) => r = nI 1) (gB D tys (va_A [oD x qw qs qo (nI n) (nI W)] sz) (fun u : Unit => [oD x qw qs qo (nI n) (nI W)])) (va_A [oD x qw qs qo (nI n) (nI W)] sz)) 1 6 (va_A [oD x qw qs qo (nI n) (nI W)] sz) := by
  refine va_MetW (hh := _) (cc := b_sl_least) (maxL := 6) (ret := (some .int)) (by decide) rfl ?_
  intro p e s m args below meth c s₁ B hml hv
  obtain ⟨rfl, ⟨hsz, hP, hK, hD0⟩, hxs⟩ := hv
  have hx := B.exec
  have hb := B.bytes
  have hr := B.returns
  have hts := atoms_spec (ws := w_sl_least) B.pre
  have hg : ∀ w ∈ gws, w.before ([.ref x, .int v, .int u, .int t, .ref qt] : List Value).toArray s = true := fun w hw => hts w (List.mem_cons_of_mem _ hw)
  have hown : s.vm.findClass "ShareDeskLaw" = some m.cls := findClass_of_methodNamed B.named
  have hlk := B.notSynchronized
  have htab := B_table B (hts _ List.mem_cons_self)
  subst hsz
  have hD := hD0.self (sz := s.heap.size)
  generalize hAe : va_A [oD x qw qs qo (nI n) (nI W)] s.heap.size = A at hD ⊢
  have hP : va_P D cls2 [oD x qw qs qo (nI n) (nI W)] s.heap := hP
  have hl := lv_entry ([.ref x, .int v, .int u, .int t, .ref qt]) (n := 6) (Nat.le_of_ble_eq_true rfl)
  rw [lg_entry_eq]
  generalize (lg_sl ([.ref x, .int v, .int u, .int t, .ref qt]) ++ List.replicate (6 - (lg_sl ([.ref x, .int v, .int u, .int t, .ref qt])).length) Slot.unset).toArray = ls at hl ⊢
  have hl : lv_has ls 6 [(0, .ref x), (1, .int v), (2, .int u), (3, .int t), (4, .ref qt)] := hl
  refine lv_aload hx hb d_sl_least_0 (lv_at hl 4 rfl) ?_
  refine lv_iconst (v := nI 0) hx hb d_sl_least_2 (by decide) ?_
  refine lv_aload_n hx hb d_sl_least_3 rfl (lv_at hl 0 rfl) ?_
  refine lv_iload_n hx hb d_sl_least_4 rfl (lv_at hl 1 rfl) ?_
  refine lv_iload_n hx hb d_sl_least_5 rfl (lv_at hl 2 rfl) ?_
  refine lv_iload_n hx hb d_sl_least_6 rfl (lv_at hl 3 rfl) ?_
  refine tv_catch (Cr := "ShareDesk") (hpc := 15) hx hb hml hown hg (t_sd_least1 l htr D tys x qw qs qo s.heap.size n W v u t hn8 h) ⟨k_184, k_185, k_186, k_1, k_187⟩ n_sd_least ⟨by decide, by decide, by decide, by decide⟩ gX_blind (gX_pre hK hP hD hxs) (va_recv (q0 := 0) (ci := 0) hK hP rfl rfl) hl.1 rfl (Nat.le_of_ble_eq_true rfl) d_sl_least_7 (fh_ok1 hown htab (by decide) (by decide) (hg _ k_37)) (fun H x0 h1 h2 => ?_)
  have hP := hP.kept (fun k q hk => h2 q.1 (hP k q hk).lt)
  have hS : va_S A s.heap H [] := ⟨h1, fun q hq _ => h2 q hq, fun l h => by cases h⟩
  refine lv_astore (lv' := [(5, .ref x0), (0, .ref x), (1, .int v), (2, .int u), (3, .int t), (4, .ref qt)]) hx hb d_sl_least_15 hl (by decide) rfl (fun ls hl => ?_)
  refine lv_iconst (v := nI 1) hx hb d_sl_least_17 (by decide) ?_
  exact en_gi () hx hb hr hlk rfl hP hK hD hS d_sl_least_18
set_option maxRecDepth 10000 in
set_option maxHeartbeats 4000000 in
theorem t_sl_count1 (l : Launch) (htr : l.stackTraces = false) (D : va_G) (tys : List (ClassId × FieldType)) (x qw qs qo qt sz : Nat) (n W : Nat) (v : Int32) (h : v.toInt < 0 ∨ 3 ≤ v.toInt) : Met l y_sl_count w_sl_count (rL 10 1 6) (va_Pc [.ref x, .int v, .ref qt] (gX D tys [oD x qw qs qo (nI n) (nI W)] sz)) (va_Qi (fun r (_ : Unit) => r = nI 1) (gB D tys (va_A [oD x qw qs qo (nI n) (nI W)] sz) (fun u : Unit => [oD x qw qs qo (nI n) (nI W)])) (va_A [oD x qw qs qo (nI n) (nI W)] sz)) 1 6 (va_A [oD x qw qs qo (nI n) (nI W)] sz) := by
  refine va_MetW (hh := _) (cc := b_sl_count) (maxL := 4) (ret := (some .int)) (by decide) rfl ?_
  intro p e s m args below meth c s₁ B hml hv
  obtain ⟨rfl, ⟨hsz, hP, hK, hD0⟩, hxs⟩ := hv
  have hx := B.exec
  have hb := B.bytes
  have hr := B.returns
  have hts := atoms_spec (ws := w_sl_count) B.pre
  have hg : ∀ w ∈ gws, w.before ([.ref x, .int v, .ref qt] : List Value).toArray s = true := fun w hw => hts w (List.mem_cons_of_mem _ hw)
  have hown : s.vm.findClass "ShareDeskLaw" = some m.cls := findClass_of_methodNamed B.named
  have hlk := B.notSynchronized
  have htab := B_table B (hts _ List.mem_cons_self)
  subst hsz
  have hD := hD0.self (sz := s.heap.size)
  generalize hAe : va_A [oD x qw qs qo (nI n) (nI W)] s.heap.size = A at hD ⊢
  have hP : va_P D cls2 [oD x qw qs qo (nI n) (nI W)] s.heap := hP
  have hl := lv_entry ([.ref x, .int v, .ref qt]) (n := 4) (Nat.le_of_ble_eq_true rfl)
  rw [lg_entry_eq]
  generalize (lg_sl ([.ref x, .int v, .ref qt]) ++ List.replicate (4 - (lg_sl ([.ref x, .int v, .ref qt])).length) Slot.unset).toArray = ls at hl ⊢
  have hl : lv_has ls 4 [(0, .ref x), (1, .int v), (2, .ref qt)] := hl
  refine lv_aload_n hx hb d_sl_count_0 rfl (lv_at hl 2 rfl) ?_
  refine lv_iconst (v := nI 0) hx hb d_sl_count_1 (by decide) ?_
  refine lv_aload_n hx hb d_sl_count_2 rfl (lv_at hl 0 rfl) ?_
  refine lv_iload_n hx hb d_sl_count_3 rfl (lv_at hl 1 rfl) ?_
  refine tv_catch (Cr := "ShareDesk") (hpc := 12) hx hb hml hown hg (t_sd_count l htr D tys x qw qs qo s.heap.size n W v h) ⟨k_192, k_193, k_194, k_1, k_195⟩ n_sd_count ⟨by decide, by decide, by decide, by decide⟩ gX_blind (gX_pre hK hP hD hxs) (va_recv (q0 := 0) (ci := 0) hK hP rfl rfl) hl.1 rfl (Nat.le_of_ble_eq_true rfl) d_sl_count_4 (fh_ok1 hown htab (by decide) (by decide) (hg _ k_37)) (fun H x0 h1 h2 => ?_)
  have hP := hP.kept (fun k q hk => h2 q.1 (hP k q hk).lt)
  have hS : va_S A s.heap H [] := ⟨h1, fun q hq _ => h2 q hq, fun l h => by cases h⟩
  refine lv_astore_n (lv' := [(3, .ref x0), (0, .ref x), (1, .int v), (2, .ref qt)]) hx hb d_sl_count_12 rfl hl (by decide) rfl (fun ls hl => ?_)
  refine lv_iconst (v := nI 1) hx hb d_sl_count_13 (by decide) ?_
  exact en_gi () hx hb hr hlk rfl hP hK hD hS d_sl_count_14
set_option maxRecDepth 10000 in
set_option maxHeartbeats 4000000 in
theorem t_sl_share2 (l : Launch) (htr : l.stackTraces = false) (D : va_G) (tys : List (ClassId × FieldType)) (x qw qs qo qt sz : Nat)  (n d mm pp : Nat) (hn8 : n ≤ 8) (hd : d < 3) (hm : mm ≤ 10000) (hp : pp < n) : Met l y_sl_share w_sl_share (rL 10 1 6) (va_Pc [.ref x, .int (nI d), .int (nI mm), .int (nI pp), .ref qt] (gY D tys [oD x qw qs qo (nI n) (nI 0)] sz)) (va_Qi (fun r (_ : Unit) => r = nI 2) (gB D tys (va_A [oD x qw qs qo (nI n) (nI 0)] sz) (fun u : Unit => [oD x qw qs qo (nI n) (nI 0)])) (va_A [oD x qw qs qo (nI n) (nI 0)] sz)) 1 6 (va_A [oD x qw qs qo (nI n) (nI 0)] sz) := by
  refine va_MetW (hh := _) (cc := b_sl_share) (maxL := 6) (ret := (some .int)) (by decide) rfl ?_
  intro p e s m args below meth c s₁ B hml hv
  obtain ⟨rfl, ⟨⟨hsz, hP, hK, hD0⟩, hxs⟩, hnc⟩ := hv
  have hx := B.exec
  have hb := B.bytes
  have hr := B.returns
  have hts := atoms_spec (ws := w_sl_share) B.pre
  have hg : ∀ w ∈ gws, w.before ([.ref x, .int (nI d), .int (nI mm), .int (nI pp), .ref qt] : List Value).toArray s = true := fun w hw => hts w (List.mem_cons_of_mem _ hw)
  have hown : s.vm.findClass "ShareDeskLaw" = some m.cls := findClass_of_methodNamed B.named
  have hlk := B.notSynchronized
  have htab := B_table B (hts _ List.mem_cons_self)
  subst hsz
  have hD := hD0.self (sz := s.heap.size)
  generalize hAe : va_A [oD x qw qs qo (nI n) (nI 0)] s.heap.size = A at hD ⊢
  have hP : va_P D cls2 [oD x qw qs qo (nI n) (nI 0)] s.heap := hP
  have hl := lv_entry ([.ref x, .int (nI d), .int (nI mm), .int (nI pp), .ref qt]) (n := 6) (Nat.le_of_ble_eq_true rfl)
  rw [lg_entry_eq]
  generalize (lg_sl ([.ref x, .int (nI d), .int (nI mm), .int (nI pp), .ref qt]) ++ List.replicate (6 - (lg_sl ([.ref x, .int (nI d), .int (nI mm), .int (nI pp), .ref qt])).length) Slot.unset).toArray = ls at hl ⊢
  have hl : lv_has ls 6 [(0, .ref x), (1, .int (nI d)), (2, .int (nI mm)), (3, .int (nI pp)), (4, .ref qt)] := hl
  refine lv_aload hx hb d_sl_share_0 (lv_at hl 4 rfl) ?_
  refine lv_iconst (v := nI 0) hx hb d_sl_share_2 (by decide) ?_
  refine lv_aload_n hx hb d_sl_share_3 rfl (lv_at hl 0 rfl) ?_
  refine lv_iload_n hx hb d_sl_share_4 rfl (lv_at hl 1 rfl) ?_
  refine lv_iload_n hx hb d_sl_share_5 rfl (lv_at hl 2 rfl) ?_
  refine lv_iload_n hx hb d_sl_share_6 rfl (lv_at hl 3 rfl) ?_
  refine tv_catch (Cr := "ShareDesk") (hpc := 19) hx hb hml hown hg (t_sd_share2 l htr D tys x qw qs qo s.heap.size n d mm pp hn8 hd hm hp) ⟨k_123, k_124, k_125, k_1, k_126⟩ n_sd_share ⟨by decide, by decide, by decide, by decide⟩ gX_blind (gX_pre hK hP hD hxs) (va_recv (q0 := 0) (ci := 0) hK hP rfl rfl) hl.1 rfl (Nat.le_of_ble_eq_true rfl) d_sl_share_7 (fh_ok2 hown htab (by decide) (by decide) (by decide) (by decide) (hg _ k_37) (hg _ k_122) hnc.cond) (fun H x0 h1 h2 => ?_)
  have hP := hP.kept (fun k q hk => h2 q.1 (hP k q hk).lt)
  have hS : va_S A s.heap H [] := ⟨h1, fun q hq _ => h2 q hq, fun l h => by cases h⟩
  refine lv_astore (lv' := [(5, .ref x0), (0, .ref x), (1, .int (nI d)), (2, .int (nI mm)), (3, .int (nI pp)), (4, .ref qt)]) hx hb d_sl_share_19 hl (by decide) rfl (fun ls hl => ?_)
  refine lv_iconst (v := nI 2) hx hb d_sl_share_21 (by decide) ?_
  exact en_gi () hx hb hr hlk rfl hP hK hD hS d_sl_share_22
set_option maxRecDepth 10000 in
set_option maxHeartbeats 4000000 in
theorem t_sl_over2 (l : Launch) (htr : l.stackTraces = false) (D : va_G) (tys : List (ClassId × FieldType)) (x qw qs qo qt sz : Nat)  (n d mm pp : Nat) (hn8 : n ≤ 8) (hd : d < 3) (hm : mm ≤ 10000) (hp : pp < n) : Met l y_sl_over w_sl_over (rL 10 1 6) (va_Pc [.ref x, .int (nI d), .int (nI mm), .int (nI pp), .ref qt] (gY D tys [oD x qw qs qo (nI n) (nI 0)] sz)) (va_Qi (fun r (_ : Unit) => r = nI 2) (gB D tys (va_A [oD x qw qs qo (nI n) (nI 0)] sz) (fun u : Unit => [oD x qw qs qo (nI n) (nI 0)])) (va_A [oD x qw qs qo (nI n) (nI 0)] sz)) 1 6 (va_A [oD x qw qs qo (nI n) (nI 0)] sz) := by
  refine va_MetW (hh := _) (cc := b_sl_over) (maxL := 6) (ret := (some .int)) (by decide) rfl ?_
  intro p e s m args below meth c s₁ B hml hv
  obtain ⟨rfl, ⟨⟨hsz, hP, hK, hD0⟩, hxs⟩, hnc⟩ := hv
  have hx := B.exec
  have hb := B.bytes
  have hr := B.returns
  have hts := atoms_spec (ws := w_sl_over) B.pre
  have hg : ∀ w ∈ gws, w.before ([.ref x, .int (nI d), .int (nI mm), .int (nI pp), .ref qt] : List Value).toArray s = true := fun w hw => hts w (List.mem_cons_of_mem _ hw)
  have hown : s.vm.findClass "ShareDeskLaw" = some m.cls := findClass_of_methodNamed B.named
  have hlk := B.notSynchronized
  have htab := B_table B (hts _ List.mem_cons_self)
  subst hsz
  have hD := hD0.self (sz := s.heap.size)
  generalize hAe : va_A [oD x qw qs qo (nI n) (nI 0)] s.heap.size = A at hD ⊢
  have hP : va_P D cls2 [oD x qw qs qo (nI n) (nI 0)] s.heap := hP
  have hl := lv_entry ([.ref x, .int (nI d), .int (nI mm), .int (nI pp), .ref qt]) (n := 6) (Nat.le_of_ble_eq_true rfl)
  rw [lg_entry_eq]
  generalize (lg_sl ([.ref x, .int (nI d), .int (nI mm), .int (nI pp), .ref qt]) ++ List.replicate (6 - (lg_sl ([.ref x, .int (nI d), .int (nI mm), .int (nI pp), .ref qt])).length) Slot.unset).toArray = ls at hl ⊢
  have hl : lv_has ls 6 [(0, .ref x), (1, .int (nI d)), (2, .int (nI mm)), (3, .int (nI pp)), (4, .ref qt)] := hl
  refine lv_aload hx hb d_sl_over_0 (lv_at hl 4 rfl) ?_
  refine lv_iconst (v := nI 0) hx hb d_sl_over_2 (by decide) ?_
  refine lv_aload_n hx hb d_sl_over_3 rfl (lv_at hl 0 rfl) ?_
  refine lv_iload_n hx hb d_sl_over_4 rfl (lv_at hl 1 rfl) ?_
  refine lv_iload_n hx hb d_sl_over_5 rfl (lv_at hl 2 rfl) ?_
  refine lv_iload_n hx hb d_sl_over_6 rfl (lv_at hl 3 rfl) ?_
  refine tv_catch (Cr := "ShareDesk") (hpc := 18) hx hb hml hown hg (t_sd_over2 l htr D tys x qw qs qo s.heap.size n d mm pp hn8 hd hm hp) ⟨k_169, k_170, k_171, k_1, k_172⟩ n_sd_over ⟨by decide, by decide, by decide, by decide⟩ gX_blind (gX_pre hK hP hD hxs) (va_recv (q0 := 0) (ci := 0) hK hP rfl rfl) hl.1 rfl (Nat.le_of_ble_eq_true rfl) d_sl_over_7 (fh_ok2 hown htab (by decide) (by decide) (by decide) (by decide) (hg _ k_37) (hg _ k_122) hnc.cond) (fun H x0 h1 h2 => ?_)
  have hP := hP.kept (fun k q hk => h2 q.1 (hP k q hk).lt)
  have hS : va_S A s.heap H [] := ⟨h1, fun q hq _ => h2 q hq, fun l h => by cases h⟩
  refine lv_astore (lv' := [(5, .ref x0), (0, .ref x), (1, .int (nI d)), (2, .int (nI mm)), (3, .int (nI pp)), (4, .ref qt)]) hx hb d_sl_over_18 hl (by decide) rfl (fun ls hl => ?_)
  refine lv_iconst (v := nI 2) hx hb d_sl_over_20 (by decide) ?_
  exact en_gi () hx hb hr hlk rfl hP hK hD hS d_sl_over_21
set_option maxRecDepth 10000 in
set_option maxHeartbeats 4000000 in
theorem t_sl_next2 (l : Launch) (htr : l.stackTraces = false) (D : va_G) (tys : List (ClassId × FieldType)) (x qw qs qo qt sz : Nat)  (n d mm : Nat) (hd : d < 3) (hm : mm < 10000) : Met l y_sl_next w_sl_next (rL 10 1 6) (va_Pc [.ref x, .int (nI d), .int (nI mm), .ref qt] (gY D tys [oD x qw qs qo (nI n) (nI 0)] sz)) (va_Qi (fun r (_ : Unit) => r = nI 2) (gB D tys (va_A [oD x qw qs qo (nI n) (nI 0)] sz) (fun u : Unit => [oD x qw qs qo (nI n) (nI 0)])) (va_A [oD x qw qs qo (nI n) (nI 0)] sz)) 1 6 (va_A [oD x qw qs qo (nI n) (nI 0)] sz) := by
  refine va_MetW (hh := _) (cc := b_sl_next) (maxL := 5) (ret := (some .int)) (by decide) rfl ?_
  intro p e s m args below meth c s₁ B hml hv
  obtain ⟨rfl, ⟨⟨hsz, hP, hK, hD0⟩, hxs⟩, hnc⟩ := hv
  have hx := B.exec
  have hb := B.bytes
  have hr := B.returns
  have hts := atoms_spec (ws := w_sl_next) B.pre
  have hg : ∀ w ∈ gws, w.before ([.ref x, .int (nI d), .int (nI mm), .ref qt] : List Value).toArray s = true := fun w hw => hts w (List.mem_cons_of_mem _ hw)
  have hown : s.vm.findClass "ShareDeskLaw" = some m.cls := findClass_of_methodNamed B.named
  have hlk := B.notSynchronized
  have htab := B_table B (hts _ List.mem_cons_self)
  subst hsz
  have hD := hD0.self (sz := s.heap.size)
  generalize hAe : va_A [oD x qw qs qo (nI n) (nI 0)] s.heap.size = A at hD ⊢
  have hP : va_P D cls2 [oD x qw qs qo (nI n) (nI 0)] s.heap := hP
  have hl := lv_entry ([.ref x, .int (nI d), .int (nI mm), .ref qt]) (n := 5) (Nat.le_of_ble_eq_true rfl)
  rw [lg_entry_eq]
  generalize (lg_sl ([.ref x, .int (nI d), .int (nI mm), .ref qt]) ++ List.replicate (5 - (lg_sl ([.ref x, .int (nI d), .int (nI mm), .ref qt])).length) Slot.unset).toArray = ls at hl ⊢
  have hl : lv_has ls 5 [(0, .ref x), (1, .int (nI d)), (2, .int (nI mm)), (3, .ref qt)] := hl
  refine lv_aload_n hx hb d_sl_next_0 rfl (lv_at hl 3 rfl) ?_
  refine lv_iconst (v := nI 0) hx hb d_sl_next_1 (by decide) ?_
  refine lv_aload_n hx hb d_sl_next_2 rfl (lv_at hl 0 rfl) ?_
  refine lv_iload_n hx hb d_sl_next_3 rfl (lv_at hl 1 rfl) ?_
  refine lv_iload_n hx hb d_sl_next_4 rfl (lv_at hl 2 rfl) ?_
  refine tv_catch (Cr := "ShareDesk") (hpc := 17) hx hb hml hown hg (t_sd_next2 l htr D tys x qw qs qo s.heap.size n d mm hd hm) ⟨k_177, k_178, k_179, k_1, k_180⟩ n_sd_next ⟨by decide, by decide, by decide, by decide⟩ gX_blind (gX_pre hK hP hD hxs) (va_recv (q0 := 0) (ci := 0) hK hP rfl rfl) hl.1 rfl (Nat.le_of_ble_eq_true rfl) d_sl_next_5 (fh_ok2 hown htab (by decide) (by decide) (by decide) (by decide) (hg _ k_37) (hg _ k_122) hnc.cond) (fun H x0 h1 h2 => ?_)
  have hP := hP.kept (fun k q hk => h2 q.1 (hP k q hk).lt)
  have hS : va_S A s.heap H [] := ⟨h1, fun q hq _ => h2 q hq, fun l h => by cases h⟩
  refine lv_astore (lv' := [(4, .ref x0), (0, .ref x), (1, .int (nI d)), (2, .int (nI mm)), (3, .ref qt)]) hx hb d_sl_next_17 hl (by decide) rfl (fun ls hl => ?_)
  refine lv_iconst (v := nI 2) hx hb d_sl_next_19 (by decide) ?_
  exact en_gi () hx hb hr hlk rfl hP hK hD hS d_sl_next_20
set_option maxRecDepth 10000 in
set_option maxHeartbeats 4000000 in
theorem t_sl_least2 (l : Launch) (htr : l.stackTraces = false) (D : va_G) (tys : List (ClassId × FieldType)) (x qw qs qo qt sz : Nat)  (n d k pp : Nat) (hn8 : n ≤ 8) (hd : d < 3) (hk : k < 2 ^ 31) (hp : pp < n) : Met l y_sl_least w_sl_least (rL 10 1 6) (va_Pc [.ref x, .int (nI d), .int (nI k), .int (nI pp), .ref qt] (gY D tys [oD x qw qs qo (nI n) (nI 0)] sz)) (va_Qi (fun r (_ : Unit) => r = nI 2) (gB D tys (va_A [oD x qw qs qo (nI n) (nI 0)] sz) (fun u : Unit => [oD x qw qs qo (nI n) (nI 0)])) (va_A [oD x qw qs qo (nI n) (nI 0)] sz)) 1 6 (va_A [oD x qw qs qo (nI n) (nI 0)] sz) := by
  refine va_MetW (hh := _) (cc := b_sl_least) (maxL := 6) (ret := (some .int)) (by decide) rfl ?_
  intro p e s m args below meth c s₁ B hml hv
  obtain ⟨rfl, ⟨⟨hsz, hP, hK, hD0⟩, hxs⟩, hnc⟩ := hv
  have hx := B.exec
  have hb := B.bytes
  have hr := B.returns
  have hts := atoms_spec (ws := w_sl_least) B.pre
  have hg : ∀ w ∈ gws, w.before ([.ref x, .int (nI d), .int (nI k), .int (nI pp), .ref qt] : List Value).toArray s = true := fun w hw => hts w (List.mem_cons_of_mem _ hw)
  have hown : s.vm.findClass "ShareDeskLaw" = some m.cls := findClass_of_methodNamed B.named
  have hlk := B.notSynchronized
  have htab := B_table B (hts _ List.mem_cons_self)
  subst hsz
  have hD := hD0.self (sz := s.heap.size)
  generalize hAe : va_A [oD x qw qs qo (nI n) (nI 0)] s.heap.size = A at hD ⊢
  have hP : va_P D cls2 [oD x qw qs qo (nI n) (nI 0)] s.heap := hP
  have hl := lv_entry ([.ref x, .int (nI d), .int (nI k), .int (nI pp), .ref qt]) (n := 6) (Nat.le_of_ble_eq_true rfl)
  rw [lg_entry_eq]
  generalize (lg_sl ([.ref x, .int (nI d), .int (nI k), .int (nI pp), .ref qt]) ++ List.replicate (6 - (lg_sl ([.ref x, .int (nI d), .int (nI k), .int (nI pp), .ref qt])).length) Slot.unset).toArray = ls at hl ⊢
  have hl : lv_has ls 6 [(0, .ref x), (1, .int (nI d)), (2, .int (nI k)), (3, .int (nI pp)), (4, .ref qt)] := hl
  refine lv_aload hx hb d_sl_least_0 (lv_at hl 4 rfl) ?_
  refine lv_iconst (v := nI 0) hx hb d_sl_least_2 (by decide) ?_
  refine lv_aload_n hx hb d_sl_least_3 rfl (lv_at hl 0 rfl) ?_
  refine lv_iload_n hx hb d_sl_least_4 rfl (lv_at hl 1 rfl) ?_
  refine lv_iload_n hx hb d_sl_least_5 rfl (lv_at hl 2 rfl) ?_
  refine lv_iload_n hx hb d_sl_least_6 rfl (lv_at hl 3 rfl) ?_
  refine tv_catch (Cr := "ShareDesk") (hpc := 19) hx hb hml hown hg (t_sd_least2 l htr D tys x qw qs qo s.heap.size n d k pp hn8 hd hk hp) ⟨k_184, k_185, k_186, k_1, k_187⟩ n_sd_least ⟨by decide, by decide, by decide, by decide⟩ gX_blind (gX_pre hK hP hD hxs) (va_recv (q0 := 0) (ci := 0) hK hP rfl rfl) hl.1 rfl (Nat.le_of_ble_eq_true rfl) d_sl_least_7 (fh_ok2 hown htab (by decide) (by decide) (by decide) (by decide) (hg _ k_37) (hg _ k_122) hnc.cond) (fun H x0 h1 h2 => ?_)
  have hP := hP.kept (fun k q hk => h2 q.1 (hP k q hk).lt)
  have hS : va_S A s.heap H [] := ⟨h1, fun q hq _ => h2 q hq, fun l h => by cases h⟩
  refine lv_astore (lv' := [(5, .ref x0), (0, .ref x), (1, .int (nI d)), (2, .int (nI k)), (3, .int (nI pp)), (4, .ref qt)]) hx hb d_sl_least_19 hl (by decide) rfl (fun ls hl => ?_)
  refine lv_iconst (v := nI 2) hx hb d_sl_least_21 (by decide) ?_
  exact en_gi () hx hb hr hlk rfl hP hK hD hS d_sl_least_22
end
section
/-! the law's seven operations -/
theorem ti_nat {v : Int32} (h : 0 ≤ v.toInt) : ∃ k : Nat, k < 2 ^ 31 ∧ v = nI k ∧ (k : Int) = v.toInt := by
  obtain ⟨j, hj, rfl⟩ := nI_of (x := v) (fun z => by have := ti_neg.mp z; omega)
  exact ⟨j, hj, rfl, by rw [nI_toInt hj]⟩
def lwInv (n : Nat) (w : Nat → Nat) (fw : Nat → Int32) (gw : Nat → Int64) : Prop := 1 ≤ n ∧ n ≤ 8 ∧ (∀ q, w q ≤ 100000) ∧ (∀ q, q < 8 → fw q = nI (w q)) ∧ (∀ q, q < 8 → gw q = lN (w q))
section XS
variable {p : Program} {l : Launch} {e : Env} {R : Room} {s : State} {m : MethodId} {args : Array Value} {below : List Frame} {meth : Method} {c : Code} {H : Heap} {locs : List Loc} {cells slots : Nat} {Q : State → Prop}
variable {cc : ByteArray} {pc : Nat} {ls : Array Slot} {rest st0 : List Value} {D : va_G} {A : Nat → Prop} {tys : List (ClassId × FieldType)} {ws wc wr : va_W} {H0 : Heap}
variable {y : MethodName} {bytes : ByteArray} {maxL nL mc ms index : Nat} {ret : Option FieldType} {rm : Room} {own : String} {As : List Value}
theorem sc_ld (hx : p.tables.exec = Jvm.exec) (hb : c.code = cc) {b L j : Nat} {sc : Nat → Int32} (hX : va_X b L sc s s.heap) (hbl : b < s.heap.size) (hbA : ¬ A b) (hS : va_S A s.heap H locs) (hj : j < L) (hL : L ≤ 2048) (hdg : decode cc pc = .ok (.iaload, 1)) {v : Int32} (hv : sc j = v)
    (kk : W p l e R s m args below meth c H locs cells slots Q (F0 m (pc + 1) ls (.int v :: rest))) : W p l e R s m args below meth c H locs cells slots Q (F0 m pc ls (.int (nI j) :: .ref b :: rest)) := by
  refine va_sld hx hb hX hbl hbA hS (vp_in_nI hj (by omega)) hdg ?_
  rw [nI_clamp (by omega), hv]
  exact kk
/-- a static call of a wrapper -/
theorem es_i {S : Type} {post : Int32 → S → Prop} {f : S → va_W} {tyc : List (ClassId × FieldType)} {B : State → Prop} {hh : List (Nat × Nat × Nat × Nat)} (hx : p.tables.exec = Jvm.exec) (hb : c.code = cc) (hml : c.maxLocals = nL) (hown : s.vm.findClass own = some m.cls) (hg : ∀ w ∈ gws, w.before args s = true)
    (hM : Met l y (.codeWith y bytes maxL ret hh :: gws) rm (va_Pc As B) (va_Qi post (gB D tyc (va_A wc H.size) f) (va_A wc H.size)) mc ms (va_A wc H.size)) (ks : kS own index y (.codeWith y bytes maxL ret hh)) (hd : kN own y As.length) (hR : kR R rm maxL mc ms) (hbl : FrameBlind (va_Pc As B)) (hpre : ∀ U : State, U.heap = H → s.WarmedH U.vm → B U)
    (hP : va_P D cls2 ws H) (hD : va_D A ws) (hS : va_S A s.heap H locs) (hA : ∀ q, s.heap.size ≤ q → A q) (isC isR : List Nat) (hC : isC.map (fun i => ws[i]?) = wc.map some) (hRr : isR.map (fun i => ws[i]?) = wr.map some) (hnR : va_nd isR = true) (hdis : ∀ i ∈ isR, i ∉ isC)
    (hls : ls.size = nL) (hst : st0 = As.reverse ++ rest) (hW : (rest.map fun v => v.category).sum ≤ 8) (hdg : decode cc pc = .ok (.invokestatic index, 3)) (hf : cells + mc ≤ R.cells ∧ slots + ms ≤ R.slots)
    (kk : ∀ (r : Int32) (u : S) (H1 : Heap) (locs1 : List Loc), post r u → va_P D cls2 (wr ++ f u) H1 → va_D A (wr ++ f u) → va_S A s.heap H1 locs1 → W p l e R s m args below meth c H1 locs1 (cells + mc) (slots + ms) Q (F0 m (pc + 3) ls (.int r :: rest))) : W p l e R s m args below meth c H locs cells slots Q (F0 m pc ls st0) := by
  have hFc := va_free hD hS hA isC hC
  refine va_calli (va_runSW hx hb hml hown hg hM ks hd hR ⟨hbl, fun U hU hW => ⟨rfl, hpre U hU hW⟩⟩ hls hst hW hdg hf) hS (fun q _ h => hFc q h) hFc (fun r u t H1 locs1 ht hvm hw hB hz1 hk1 hS1 => ?_)
  obtain ⟨hP1, hK1, hD1⟩ := hB
  rw [ht] at hP1
  obtain ⟨hP2, hD2⟩ := va_join hP hD isC isR hC hRr hnR hdis hk1 hFc hP1 hD1
  exact kk r u H1 locs1 hw hP2 hD2 hS1
theorem pre_P (hK : va_K D cls2 tys s) (hP : va_P D cls2 ws H) (hD : va_D A ws) : ∀ U : State, U.heap = H → s.WarmedH U.vm → gP D tys ws H.size U := fun U hU hW => (gP_pre (av := []) hK hP hD U hU hW).2
theorem pre_X (hK : va_K D cls2 tys s) (hP : va_P D cls2 ws H) (hD : va_D A ws) (hxs : xs A s s.heap) (hS : va_S A s.heap H locs) : ∀ U : State, U.heap = H → s.WarmedH U.vm → gX D tys ws H.size U := fun U hU hW =>
  ⟨(gP_pre (av := []) hK hP hD U hU hW).2, by rw [hU]; exact ((hxs.kept hS.2.1).narrow (fun _ h => h.elim)).moved hW.alike⟩
theorem pre_Y (hK : va_K D cls2 tys s) (hP : va_P D cls2 ws H) (hD : va_D A ws) (hxs : xs A s s.heap) (hS : va_S A s.heap H locs) (hnc : nc s) : ∀ U : State, U.heap = H → s.WarmedH U.vm → gY D tys ws H.size U := fun U hU hW =>
  ⟨pre_X hK hP hD hxs hS U hU hW, hnc.moved hW.alike⟩
end XS
theorem pu_zero (n : Nat) : pu_sum (fun _ => 0) n = 0 := by rw [pu_sum_const, Nat.mul_zero]
theorem lwInv_up {n pp v : Nat} {w : Nat → Nat} {fw : Nat → Int32} {gw : Nat → Int64} (h : lwInv n w fw gw) (hp : pp < 8) (hv : v ≤ 100000) : lwInv n (pu_up w pp v) (upd fw pp (nI v)) (vp_updL gw pp (lN v)) := by
  obtain ⟨h1, h2, h3, h4, h5⟩ := h
  refine ⟨h1, h2, fun q => ?_, fun q hq => ?_, fun q hq => ?_⟩
  · by_cases e9 : q = pp
    · subst e9; rw [pu_up_s]; exact hv
    · rw [pu_up_n e9]; exact h3 q
  · by_cases e9 : q = pp
    · subst e9; rw [pu_up_s, pk_us]
    · rw [pu_up_n e9, pk_un e9]; exact h4 q hq
  · by_cases e9 : q = pp
    · subst e9; rw [pu_up_s, pk_uLs]
    · rw [pu_up_n e9, pk_uLn e9]; exact h5 q hq
section LAWOPS
variable {p : Program} {l : Launch} {e : Env} {s : State} {m : MethodId} {below : List Frame} {meth : Method} {c : Code} {Q : State → Prop}
variable {D : va_G} {A : Nat → Prop} {b L x qw qs qo ym mw ms mk mg qt : Nat} {cI cJ cZ : ClassId} {sc : Nat → Int32}
set_option maxRecDepth 20000 in
set_option maxHeartbeats 4000000 in
theorem law_begin {cells slots i : Nat} {H : Heap} {locs : List Loc} {ls : Array Slot} {n : Nat} {w : Nat → Nat} {er : Int32} {fw fs fz : Nat → Int32} {gw gs gk : Nat → Int64} {gg : Nat → Int32} {fo : Nat → Int64} (hx : p.tables.exec = Jvm.exec) (hb : c.code = code) (hml : c.maxLocals = 8) (hown : s.vm.findClass "ShareDeskLaw" = some m.cls) (hg : ∀ w ∈ gws, w.before #[Value.ref b] s = true) (htr : l.stackTraces = false) (hK : va_K D cls2 [(cI, .int), (cJ, .long), (cZ, .boolean)] s) (hA : ∀ q, s.heap.size ≤ q → A q) (hX : va_X b L sc s s.heap) (hbl : b < s.heap.size) (hbA : ¬ A b) (hxs : xs A s s.heap) (hnc : nc s) (hL : L ≤ 2048) (hinv : lwInv n w fw gw) (hi : i + 4 ≤ L) (hcs : cells + 1 ≤ 1036 ∧ slots + 6 ≤ 8272) (hP : va_P D cls2 [oD x qw qs qo (nI n) (nI (pu_sum w n)), aI qw cI fw, aI qs cI fs, aI qo cI fz, oM ym er (nI n) mw ms mk mg, aL mw cJ gw, aL ms cJ gs, aL mk cJ gk, aI mg cZ gg, aO qt cJ fo] H) (hD : va_D A [oD x qw qs qo (nI n) (nI (pu_sum w n)), aI qw cI fw, aI qs cI fs, aI qo cI fz, oM ym er (nI n) mw ms mk mg, aL mw cJ gw, aL ms cJ gs, aL mk cJ gk, aI mg cZ gg, aO qt cJ fo]) (hS : va_S A s.heap H locs) (hl : lv_has ls 8 [(4, .int (nI i)), (3, .ref qt), (2, .ref ym), (1, .ref x), (0, .ref b)]) (kk : ∀ (H : Heap) (locs : List Loc) (ls : Array Slot) (n : Nat) (w : Nat → Nat) (er : Int32) (fw fs fz : Nat → Int32) (gw gs gk : Nat → Int64) (gg : Nat → Int32) (fo : Nat → Int64), lwInv n w fw gw → va_P D cls2 [oD x qw qs qo (nI n) (nI (pu_sum w n)), aI qw cI fw, aI qs cI fs, aI qo cI fz, oM ym er (nI n) mw ms mk mg, aL mw cJ gw, aL ms cJ gs, aL mk cJ gk, aI mg cZ gg, aO qt cJ fo] H → va_D A [oD x qw qs qo (nI n) (nI (pu_sum w n)), aI qw cI fw, aI qs cI fs, aI qo cI fz, oM ym er (nI n) mw ms mk mg, aL mw cJ gw, aL ms cJ gs, aL mk cJ gk, aI mg cZ gg, aO qt cJ fo] → va_S A s.heap H locs → lv_has ls 8 [(4, .int (nI i)), (3, .ref qt), (2, .ref ym), (1, .ref x), (0, .ref b)] → W p l e room_1 s m #[Value.ref b] below meth c H locs (cells + 1) (slots + 6) Q (F0 m 547 ls [])) : W p l e room_1 s m #[Value.ref b] below meth c H locs cells slots Q (F0 m 80 ls []) := by
  obtain ⟨hn1, hn8, hw, hfw, hgw⟩ := id hinv
  by_cases hv : 1 ≤ (sc (i + 1)).toInt ∧ (sc (i + 1)).toInt ≤ 8
  · obtain ⟨k, hb1, e1, f1⟩ := ti_nat (v := sc (i + 1)) (by omega)
    have hk1 : 1 ≤ k := by omega
    have hk8 : k ≤ 8 := by omega
    refine lv_aload_n hx hb d_sl_law_80 rfl (lv_at hl 3 rfl) ?_
    refine lv_aload_n hx hb d_sl_law_81 rfl (lv_at hl 4 rfl) ?_
    refine lv_iload hx hb d_sl_law_82 (lv_at hl 0 rfl) ?_
    refine lv_iconst (v := nI 1) hx hb d_sl_law_84 (by decide) ?_
    refine lv_iadd hx hb d_sl_law_85 ?_
    refine xr_i (nI_add _ _) ?_
    refine sc_ld hx hb hX hbl hbA hS (by omega) hL d_sl_law_86 (v := nI k) e1 ?_
    refine es_i hx hb hml hown hg (c_sl_begin l D cI cJ x qw qs qo H.size k (nI n) (nI (pu_sum w n)) fw hk1 hk8) ⟨k_34, k_35, k_0, k_36⟩ n_sl_begin ⟨rfl, rfl, by decide, by decide⟩ gP_blind (pre_P (hK.sub (tys' := [(cI, .int)]) [0] rfl) (hP.sub [0, 1] rfl) (hD.sub [0, 1] rfl rfl)) hP hD hS hA [0, 1] [2, 3, 4, 5, 6, 7, 8, 9] rfl (wr := [aI qs cI fs, aI qo cI fz, oM ym er (nI n) mw ms mk mg, aL mw cJ gw, aL ms cJ gs, aL mk cJ gk, aI mg cZ gg, aO qt cJ fo]) rfl rfl (by decide) hl.1 rfl (Nat.le_of_ble_eq_true rfl) d_sl_law_87 ⟨by show _ ≤ 1036; omega, by show _ ≤ 8272; omega⟩ (fun r0 u H locs hu hP hD hS => ?_)
    obtain ⟨rfl, hu⟩ := hu
    have hP : va_P D cls2 [oD x qw qs qo (nI k) (nI 0), aI qw cI u, aI qs cI fs, aI qo cI fz, oM ym er (nI n) mw ms mk mg, aL mw cJ gw, aL ms cJ gs, aL mk cJ gk, aI mg cZ gg, aO qt cJ fo] H := hP.sub [8, 9, 0, 1, 2, 3, 4, 5, 6, 7] rfl
    have hD : va_D A [oD x qw qs qo (nI k) (nI 0), aI qw cI u, aI qs cI fs, aI qo cI fz, oM ym er (nI n) mw ms mk mg, aL mw cJ gw, aL ms cJ gs, aL mk cJ gk, aI mg cZ gg, aO qt cJ fo] := hD.sub [8, 9, 0, 1, 2, 3, 4, 5, 6, 7] rfl rfl
    refine lv_istore (lv' := [(5, .int (nI 0)), (4, .int (nI i)), (3, .ref qt), (2, .ref ym), (1, .ref x), (0, .ref b)]) hx hb d_sl_law_90 hl (by decide) rfl (fun ls hl => ?_)
    refine lv_aload_n hx hb d_sl_law_92 rfl (lv_at hl 3 rfl) ?_
    refine lv_aload_n hx hb d_sl_law_93 rfl (lv_at hl 5 rfl) ?_
    refine lv_iload hx hb d_sl_law_94 (lv_at hl 1 rfl) ?_
    refine lv_iconst (v := nI 1) hx hb d_sl_law_96 (by decide) ?_
    refine lv_iadd hx hb d_sl_law_97 ?_
    refine xr_i (nI_add _ _) ?_
    refine sc_ld hx hb hX hbl hbA hS (by omega) hL d_sl_law_98 (v := nI k) e1 ?_
    refine ev_v (C := "ShareDeskModel") hx hb hml hown hg (c_sm_begin l D cJ cZ ym mw ms mk mg H.size k er (nI n) gw hk1 hk8) ⟨k_227, k_228, k_229, k_2, k_230⟩ n_sm_begin ⟨rfl, rfl, by decide, by decide⟩ (hK.sub (tys' := [(cJ, .long), (cZ, .boolean)]) [1, 2] rfl) hP hD hS hA [4, 5] [0, 1, 2, 3, 6, 7, 8, 9] rfl rfl (wr := [oD x qw qs qo (nI k) (nI 0), aI qw cI u, aI qs cI fs, aI qo cI fz, aL ms cJ gs, aL mk cJ gk, aI mg cZ gg, aO qt cJ fo]) rfl rfl (by decide) (va_recv (q0 := 4) (ci := 1) hK hP rfl rfl) hl.1 rfl (Nat.le_of_ble_eq_true rfl) d_sl_law_99 ⟨by show _ ≤ 1036; omega, by show _ ≤ 8272; omega⟩ (fun um H locs hm9 hP hD hS => ?_)
    have hP : va_P D cls2 [oD x qw qs qo (nI k) (nI 0), aI qw cI u, aI qs cI fs, aI qo cI fz, oM ym (nI 0) (nI k) mw ms mk mg, aL mw cJ um, aL ms cJ gs, aL mk cJ gk, aI mg cZ gg, aO qt cJ fo] H := hP.sub [0, 1, 2, 3, 8, 9, 4, 5, 6, 7] rfl
    have hD : va_D A [oD x qw qs qo (nI k) (nI 0), aI qw cI u, aI qs cI fs, aI qo cI fz, oM ym (nI 0) (nI k) mw ms mk mg, aL mw cJ um, aL ms cJ gs, aL mk cJ gk, aI mg cZ gg, aO qt cJ fo] := hD.sub [0, 1, 2, 3, 8, 9, 4, 5, 6, 7] rfl rfl
    refine lv_aload_n hx hb d_sl_law_102 rfl (lv_at hl 3 rfl) ?_
    refine pv_i (C := "ShareDeskModel") hx hb hml hown hg (c_sm_thrown l D [(cI, .int), (cJ, .long), (cZ, .boolean)] ym mw ms mk mg H.size (nI 0) (nI k)) ⟨k_223, k_224, k_225, k_2, k_226⟩ n_sm_thrown ⟨rfl, rfl, by decide, by decide⟩ hK (hP.sub [4] rfl) (hD.sub [4] rfl rfl) (va_recv (q0 := 4) (ci := 1) hK hP rfl rfl) hl.1 rfl (Nat.le_of_ble_eq_true rfl) d_sl_law_103 ⟨by show _ ≤ 1036; omega, by show _ ≤ 8272; omega⟩ (fun rt hrt => ?_)
    subst hrt
    refine lv_iload hx hb d_sl_law_106 (lv_at hl 0 rfl) ?_
    refine xc_eq (tgt := 113) hx hb d_sl_law_108 (by decide) (by omega) (by omega) (fun hc9 => ?_) (fun hc9 => ?_)
    · refine lv_goto (tgt := 547) hx hb d_sl_law_113 (by decide) ?_
      refine W.widen (k := cells + 1) (n := slots + 6) (by omega) (by omega) ?_
      exact kk H locs ls k (fun _ => 0) (nI 0) _ fs fz _ gs gk gg fo ⟨hk1, hk8, fun q => Nat.zero_le _, hu, hm9⟩ (by rw [pu_zero]; exact hP) (by rw [pu_zero]; exact hD) hS (lv_sub hl [1, 2, 3, 4, 5] rfl)
    · exact absurd rfl hc9
  · refine lv_aload_n hx hb d_sl_law_80 rfl (lv_at hl 3 rfl) ?_
    refine lv_aload_n hx hb d_sl_law_81 rfl (lv_at hl 4 rfl) ?_
    refine lv_iload hx hb d_sl_law_82 (lv_at hl 0 rfl) ?_
    refine lv_iconst (v := nI 1) hx hb d_sl_law_84 (by decide) ?_
    refine lv_iadd hx hb d_sl_law_85 ?_
    refine xr_i (nI_add _ _) ?_
    refine sc_ld hx hb hX hbl hbA hS (by omega) hL d_sl_law_86 (v := sc (i + 1)) rfl ?_
    refine es_i hx hb hml hown hg (t_sl_begin1 l htr D [(cI, .int), (cJ, .long), (cZ, .boolean)] x qw qs qo H.size (nI n) (nI (pu_sum w n)) (sc (i + 1)) (by omega)) ⟨k_34, k_35, k_0, k_36⟩ n_sl_begin ⟨rfl, rfl, by decide, by decide⟩ gX_blind (pre_X (hK.sub (tys' := [(cI, .int), (cJ, .long), (cZ, .boolean)]) [0, 1, 2] rfl) (hP.sub [0] rfl) (hD.sub [0] rfl rfl) hxs hS) hP hD hS hA [0] [1, 2, 3, 4, 5, 6, 7, 8, 9] rfl (wr := [aI qw cI fw, aI qs cI fs, aI qo cI fz, oM ym er (nI n) mw ms mk mg, aL mw cJ gw, aL ms cJ gs, aL mk cJ gk, aI mg cZ gg, aO qt cJ fo]) rfl rfl (by decide) hl.1 rfl (Nat.le_of_ble_eq_true rfl) d_sl_law_87 ⟨by show _ ≤ 1036; omega, by show _ ≤ 8272; omega⟩ (fun r0 _u H locs hu hP hD hS => ?_)
    subst hu
    have hP : va_P D cls2 [oD x qw qs qo (nI n) (nI (pu_sum w n)), aI qw cI fw, aI qs cI fs, aI qo cI fz, oM ym er (nI n) mw ms mk mg, aL mw cJ gw, aL ms cJ gs, aL mk cJ gk, aI mg cZ gg, aO qt cJ fo] H := hP.sub [9, 0, 1, 2, 3, 4, 5, 6, 7, 8] rfl
    have hD : va_D A [oD x qw qs qo (nI n) (nI (pu_sum w n)), aI qw cI fw, aI qs cI fs, aI qo cI fz, oM ym er (nI n) mw ms mk mg, aL mw cJ gw, aL ms cJ gs, aL mk cJ gk, aI mg cZ gg, aO qt cJ fo] := hD.sub [9, 0, 1, 2, 3, 4, 5, 6, 7, 8] rfl rfl
    refine lv_istore (lv' := [(5, .int (nI 1)), (4, .int (nI i)), (3, .ref qt), (2, .ref ym), (1, .ref x), (0, .ref b)]) hx hb d_sl_law_90 hl (by decide) rfl (fun ls hl => ?_)
    refine lv_aload_n hx hb d_sl_law_92 rfl (lv_at hl 3 rfl) ?_
    refine lv_aload_n hx hb d_sl_law_93 rfl (lv_at hl 5 rfl) ?_
    refine lv_iload hx hb d_sl_law_94 (lv_at hl 1 rfl) ?_
    refine lv_iconst (v := nI 1) hx hb d_sl_law_96 (by decide) ?_
    refine lv_iadd hx hb d_sl_law_97 ?_
    refine xr_i (nI_add _ _) ?_
    refine sc_ld hx hb hX hbl hbA hS (by omega) hL d_sl_law_98 (v := sc (i + 1)) rfl ?_
    refine ev_v (C := "ShareDeskModel") hx hb hml hown hg (c_sm_begin1 l D cJ cZ ym mw ms mk mg H.size er (nI n) (sc (i + 1)) gw (by omega)) ⟨k_227, k_228, k_229, k_2, k_230⟩ n_sm_begin ⟨rfl, rfl, by decide, by decide⟩ (hK.sub (tys' := [(cJ, .long), (cZ, .boolean)]) [1, 2] rfl) hP hD hS hA [4, 5] [0, 1, 2, 3, 6, 7, 8, 9] rfl rfl (wr := [oD x qw qs qo (nI n) (nI (pu_sum w n)), aI qw cI fw, aI qs cI fs, aI qo cI fz, aL ms cJ gs, aL mk cJ gk, aI mg cZ gg, aO qt cJ fo]) rfl rfl (by decide) (va_recv (q0 := 4) (ci := 1) hK hP rfl rfl) hl.1 rfl (Nat.le_of_ble_eq_true rfl) d_sl_law_99 ⟨by show _ ≤ 1036; omega, by show _ ≤ 8272; omega⟩ (fun _um H locs hm9 hP hD hS => ?_)
    have hP : va_P D cls2 [oD x qw qs qo (nI n) (nI (pu_sum w n)), aI qw cI fw, aI qs cI fs, aI qo cI fz, oM ym (nI 1) (nI n) mw ms mk mg, aL mw cJ gw, aL ms cJ gs, aL mk cJ gk, aI mg cZ gg, aO qt cJ fo] H := hP.sub [0, 1, 2, 3, 8, 9, 4, 5, 6, 7] rfl
    have hD : va_D A [oD x qw qs qo (nI n) (nI (pu_sum w n)), aI qw cI fw, aI qs cI fs, aI qo cI fz, oM ym (nI 1) (nI n) mw ms mk mg, aL mw cJ gw, aL ms cJ gs, aL mk cJ gk, aI mg cZ gg, aO qt cJ fo] := hD.sub [0, 1, 2, 3, 8, 9, 4, 5, 6, 7] rfl rfl
    refine lv_aload_n hx hb d_sl_law_102 rfl (lv_at hl 3 rfl) ?_
    refine pv_i (C := "ShareDeskModel") hx hb hml hown hg (c_sm_thrown l D [(cI, .int), (cJ, .long), (cZ, .boolean)] ym mw ms mk mg H.size (nI 1) (nI n)) ⟨k_223, k_224, k_225, k_2, k_226⟩ n_sm_thrown ⟨rfl, rfl, by decide, by decide⟩ hK (hP.sub [4] rfl) (hD.sub [4] rfl rfl) (va_recv (q0 := 4) (ci := 1) hK hP rfl rfl) hl.1 rfl (Nat.le_of_ble_eq_true rfl) d_sl_law_103 ⟨by show _ ≤ 1036; omega, by show _ ≤ 8272; omega⟩ (fun rt hrt => ?_)
    subst hrt
    refine lv_iload hx hb d_sl_law_106 (lv_at hl 0 rfl) ?_
    refine xc_eq (tgt := 113) hx hb d_sl_law_108 (by decide) (by omega) (by omega) (fun hc9 => ?_) (fun hc9 => ?_)
    · refine lv_goto (tgt := 547) hx hb d_sl_law_113 (by decide) ?_
      refine W.widen (k := cells + 1) (n := slots + 6) (by omega) (by omega) ?_
      exact kk H locs ls n w (nI 1) fw fs fz gw gs gk gg fo hinv hP hD hS (lv_sub hl [1, 2, 3, 4, 5] rfl)
    · exact absurd rfl hc9
set_option maxRecDepth 20000 in
set_option maxHeartbeats 4000000 in
theorem law_weight {cells slots i : Nat} {H : Heap} {locs : List Loc} {ls : Array Slot} {n : Nat} {w : Nat → Nat} {er : Int32} {fw fs fz : Nat → Int32} {gw gs gk : Nat → Int64} {gg : Nat → Int32} {fo : Nat → Int64} (hx : p.tables.exec = Jvm.exec) (hb : c.code = code) (hml : c.maxLocals = 8) (hown : s.vm.findClass "ShareDeskLaw" = some m.cls) (hg : ∀ w ∈ gws, w.before #[Value.ref b] s = true) (htr : l.stackTraces = false) (hK : va_K D cls2 [(cI, .int), (cJ, .long), (cZ, .boolean)] s) (hA : ∀ q, s.heap.size ≤ q → A q) (hX : va_X b L sc s s.heap) (hbl : b < s.heap.size) (hbA : ¬ A b) (hxs : xs A s s.heap) (hnc : nc s) (hL : L ≤ 2048) (hinv : lwInv n w fw gw) (hi : i + 4 ≤ L) (hcs : cells + 1 ≤ 1036 ∧ slots + 6 ≤ 8272) (hP : va_P D cls2 [oD x qw qs qo (nI n) (nI (pu_sum w n)), aI qw cI fw, aI qs cI fs, aI qo cI fz, oM ym er (nI n) mw ms mk mg, aL mw cJ gw, aL ms cJ gs, aL mk cJ gk, aI mg cZ gg, aO qt cJ fo] H) (hD : va_D A [oD x qw qs qo (nI n) (nI (pu_sum w n)), aI qw cI fw, aI qs cI fs, aI qo cI fz, oM ym er (nI n) mw ms mk mg, aL mw cJ gw, aL ms cJ gs, aL mk cJ gk, aI mg cZ gg, aO qt cJ fo]) (hS : va_S A s.heap H locs) (hl : lv_has ls 8 [(4, .int (nI i)), (3, .ref qt), (2, .ref ym), (1, .ref x), (0, .ref b)]) (kk : ∀ (H : Heap) (locs : List Loc) (ls : Array Slot) (n : Nat) (w : Nat → Nat) (er : Int32) (fw fs fz : Nat → Int32) (gw gs gk : Nat → Int64) (gg : Nat → Int32) (fo : Nat → Int64), lwInv n w fw gw → va_P D cls2 [oD x qw qs qo (nI n) (nI (pu_sum w n)), aI qw cI fw, aI qs cI fs, aI qo cI fz, oM ym er (nI n) mw ms mk mg, aL mw cJ gw, aL ms cJ gs, aL mk cJ gk, aI mg cZ gg, aO qt cJ fo] H → va_D A [oD x qw qs qo (nI n) (nI (pu_sum w n)), aI qw cI fw, aI qs cI fs, aI qo cI fz, oM ym er (nI n) mw ms mk mg, aL mw cJ gw, aL ms cJ gs, aL mk cJ gk, aI mg cZ gg, aO qt cJ fo] → va_S A s.heap H locs → lv_has ls 8 [(4, .int (nI i)), (3, .ref qt), (2, .ref ym), (1, .ref x), (0, .ref b)] → W p l e room_1 s m #[Value.ref b] below meth c H locs (cells + 1) (slots + 6) Q (F0 m 547 ls [])) : W p l e room_1 s m #[Value.ref b] below meth c H locs cells slots Q (F0 m 116 ls []) := by
  obtain ⟨hn1, hn8, hw, hfw, hgw⟩ := id hinv
  by_cases hv : 0 ≤ (sc (i + 1)).toInt ∧ (sc (i + 1)).toInt < (n : Int) ∧ 0 ≤ (sc (i + 2)).toInt ∧ (sc (i + 2)).toInt ≤ 100000
  · obtain ⟨pp, hb1, e1, f1⟩ := ti_nat (v := sc (i + 1)) (by omega)
    obtain ⟨v, hb2, e2, f2⟩ := ti_nat (v := sc (i + 2)) (by omega)
    have hp : pp < n := by omega
    have hv : v ≤ 100000 := by omega
    refine lv_aload_n hx hb d_sl_law_116 rfl (lv_at hl 3 rfl) ?_
    refine lv_aload_n hx hb d_sl_law_117 rfl (lv_at hl 4 rfl) ?_
    refine lv_iload hx hb d_sl_law_118 (lv_at hl 0 rfl) ?_
    refine lv_iconst (v := nI 1) hx hb d_sl_law_120 (by decide) ?_
    refine lv_iadd hx hb d_sl_law_121 ?_
    refine xr_i (nI_add _ _) ?_
    refine sc_ld hx hb hX hbl hbA hS (by omega) hL d_sl_law_122 (v := nI pp) e1 ?_
    refine lv_aload_n hx hb d_sl_law_123 rfl (lv_at hl 4 rfl) ?_
    refine lv_iload hx hb d_sl_law_124 (lv_at hl 0 rfl) ?_
    refine lv_iconst (v := nI 2) hx hb d_sl_law_126 (by decide) ?_
    refine lv_iadd hx hb d_sl_law_127 ?_
    refine xr_i (nI_add _ _) ?_
    refine sc_ld hx hb hX hbl hbA hS (by omega) hL d_sl_law_128 (v := nI v) e2 ?_
    refine lv_aload_n hx hb d_sl_law_129 rfl (lv_at hl 1 rfl) ?_
    refine es_i hx hb hml hown hg (c_sl_weight l D cI cJ x qw qs qo qt H.size n pp v fw fo w hn1 hn8 hw hfw hp hv) ⟨k_107, k_108, k_0, k_109⟩ n_sl_weight ⟨rfl, rfl, by decide, by decide⟩ gP_blind (pre_P (hK.sub (tys' := [(cI, .int), (cJ, .long)]) [0, 1] rfl) (hP.sub [0, 1, 9] rfl) (hD.sub [0, 1, 9] rfl rfl)) hP hD hS hA [0, 1, 9] [2, 3, 4, 5, 6, 7, 8] rfl (wr := [aI qs cI fs, aI qo cI fz, oM ym er (nI n) mw ms mk mg, aL mw cJ gw, aL ms cJ gs, aL mk cJ gk, aI mg cZ gg]) rfl rfl (by decide) hl.1 rfl (Nat.le_of_ble_eq_true rfl) d_sl_law_130 ⟨by show _ ≤ 1036; omega, by show _ ≤ 8272; omega⟩ (fun r0 _u H locs hu hP hD hS => ?_)
    subst hu
    have hP : va_P D cls2 [oD x qw qs qo (nI n) (nI (pu_sum (pu_up w pp v) n)), aI qw cI (upd fw pp (nI v)), aI qs cI fs, aI qo cI fz, oM ym er (nI n) mw ms mk mg, aL mw cJ gw, aL ms cJ gs, aL mk cJ gk, aI mg cZ gg, aO qt cJ (vp_updL fo 0 (lN (w pp)))] H := hP.sub [7, 8, 0, 1, 2, 3, 4, 5, 6, 9] rfl
    have hD : va_D A [oD x qw qs qo (nI n) (nI (pu_sum (pu_up w pp v) n)), aI qw cI (upd fw pp (nI v)), aI qs cI fs, aI qo cI fz, oM ym er (nI n) mw ms mk mg, aL mw cJ gw, aL ms cJ gs, aL mk cJ gk, aI mg cZ gg, aO qt cJ (vp_updL fo 0 (lN (w pp)))] := hD.sub [7, 8, 0, 1, 2, 3, 4, 5, 6, 9] rfl rfl
    refine lv_istore (lv' := [(5, .int (nI 0)), (4, .int (nI i)), (3, .ref qt), (2, .ref ym), (1, .ref x), (0, .ref b)]) hx hb d_sl_law_133 hl (by decide) rfl (fun ls hl => ?_)
    refine lv_aload_n hx hb d_sl_law_135 rfl (lv_at hl 3 rfl) ?_
    refine lv_aload_n hx hb d_sl_law_136 rfl (lv_at hl 5 rfl) ?_
    refine lv_iload hx hb d_sl_law_137 (lv_at hl 1 rfl) ?_
    refine lv_iconst (v := nI 1) hx hb d_sl_law_139 (by decide) ?_
    refine lv_iadd hx hb d_sl_law_140 ?_
    refine xr_i (nI_add _ _) ?_
    refine sc_ld hx hb hX hbl hbA hS (by omega) hL d_sl_law_141 (v := nI pp) e1 ?_
    refine lv_aload_n hx hb d_sl_law_142 rfl (lv_at hl 5 rfl) ?_
    refine lv_iload hx hb d_sl_law_143 (lv_at hl 1 rfl) ?_
    refine lv_iconst (v := nI 2) hx hb d_sl_law_145 (by decide) ?_
    refine lv_iadd hx hb d_sl_law_146 ?_
    refine xr_i (nI_add _ _) ?_
    refine sc_ld hx hb hX hbl hbA hS (by omega) hL d_sl_law_147 (v := nI v) e2 ?_
    refine ev_i (C := "ShareDeskModel") hx hb hml hown hg (c_sm_weight l D cJ cZ ym mw ms mk mg H.size n pp v er gw w hn1 hn8 hw hgw hp hv) ⟨k_239, k_240, k_241, k_2, k_242⟩ n_sm_weight ⟨rfl, rfl, by decide, by decide⟩ (hK.sub (tys' := [(cJ, .long), (cZ, .boolean)]) [1, 2] rfl) hP hD hS hA [4, 5] [0, 1, 2, 3, 6, 7, 8, 9] rfl rfl (wr := [oD x qw qs qo (nI n) (nI (pu_sum (pu_up w pp v) n)), aI qw cI (upd fw pp (nI v)), aI qs cI fs, aI qo cI fz, aL ms cJ gs, aL mk cJ gk, aI mg cZ gg, aO qt cJ (vp_updL fo 0 (lN (w pp)))]) rfl rfl (by decide) (va_recv (q0 := 4) (ci := 1) hK hP rfl rfl) hl.1 rfl (Nat.le_of_ble_eq_true rfl) d_sl_law_148 ⟨by show _ ≤ 1036; omega, by show _ ≤ 8272; omega⟩ (fun rm _um H locs hm9 hP hD hS => ?_)
    have hP : va_P D cls2 [oD x qw qs qo (nI n) (nI (pu_sum (pu_up w pp v) n)), aI qw cI (upd fw pp (nI v)), aI qs cI fs, aI qo cI fz, oM ym (nI 0) (nI n) mw ms mk mg, aL mw cJ (vp_updL gw pp (lN v)), aL ms cJ gs, aL mk cJ gk, aI mg cZ gg, aO qt cJ (vp_updL fo 0 (lN (w pp)))] H := hP.sub [0, 1, 2, 3, 8, 9, 4, 5, 6, 7] rfl
    have hD : va_D A [oD x qw qs qo (nI n) (nI (pu_sum (pu_up w pp v) n)), aI qw cI (upd fw pp (nI v)), aI qs cI fs, aI qo cI fz, oM ym (nI 0) (nI n) mw ms mk mg, aL mw cJ (vp_updL gw pp (lN v)), aL ms cJ gs, aL mk cJ gk, aI mg cZ gg, aO qt cJ (vp_updL fo 0 (lN (w pp)))] := hD.sub [0, 1, 2, 3, 8, 9, 4, 5, 6, 7] rfl rfl
    subst hm9
    have hwp := hw pp
    refine lv_istore (lv' := [(6, .int (nI (w pp))), (5, .int (nI 0)), (4, .int (nI i)), (3, .ref qt), (2, .ref ym), (1, .ref x), (0, .ref b)]) hx hb d_sl_law_151 hl (by decide) rfl (fun ls hl => ?_)
    refine lv_aload_n hx hb d_sl_law_153 rfl (lv_at hl 4 rfl) ?_
    refine pv_i (C := "ShareDeskModel") hx hb hml hown hg (c_sm_thrown l D [(cI, .int), (cJ, .long), (cZ, .boolean)] ym mw ms mk mg H.size (nI 0) (nI n)) ⟨k_223, k_224, k_225, k_2, k_226⟩ n_sm_thrown ⟨rfl, rfl, by decide, by decide⟩ hK (hP.sub [4] rfl) (hD.sub [4] rfl rfl) (va_recv (q0 := 4) (ci := 1) hK hP rfl rfl) hl.1 rfl (Nat.le_of_ble_eq_true rfl) d_sl_law_154 ⟨by show _ ≤ 1036; omega, by show _ ≤ 8272; omega⟩ (fun rt hrt => ?_)
    subst hrt
    refine lv_iload hx hb d_sl_law_157 (lv_at hl 1 rfl) ?_
    refine xc_eq (tgt := 164) hx hb d_sl_law_159 (by decide) (by omega) (by omega) (fun hc9 => ?_) (fun hc9 => ?_)
    · refine lv_iload hx hb d_sl_law_164 (lv_at hl 1 rfl) ?_
      refine xz_ne (tgt := 181) hx hb d_sl_law_166 (by decide) (by omega) (fun h8 => ?_) (fun h8 => ?_)
      · exact absurd h8 (by decide)
      · refine lv_aload_n hx hb d_sl_law_169 rfl (lv_at hl 3 rfl) ?_
        refine lv_iconst (v := nI 0) hx hb d_sl_law_170 (by decide) ?_
        refine xo_ld hx hb hK hP 9 1 rfl rfl d_sl_law_171 (v := lN (w pp)) pk_uLs ?_
        refine lv_iload hx hb d_sl_law_172 (lv_at hl 0 rfl) ?_
        refine lv_i2l (v := lN (w pp)) hx hb d_sl_law_174 (nI_l (by omega)) ?_
        refine W.lcmp hx hb d_sl_law_175 ?_
        refine lv_if_eq (tgt := 181) hx hb d_sl_law_176 (by decide) (fun _ => ?_) (fun h9 => absurd ((lg_cmp_eq _ _).mpr rfl) h9)
        refine lv_goto (tgt := 547) hx hb d_sl_law_181 (by decide) ?_
        refine W.widen (k := cells + 1) (n := slots + 6) (by omega) (by omega) ?_
        exact kk H locs ls n (pu_up w pp v) (nI 0) _ fs fz _ gs gk gg _ (lwInv_up hinv (by omega) hv) hP hD hS (lv_sub hl [2, 3, 4, 5, 6] rfl)
    · exact absurd rfl hc9
  · refine lv_aload_n hx hb d_sl_law_116 rfl (lv_at hl 3 rfl) ?_
    refine lv_aload_n hx hb d_sl_law_117 rfl (lv_at hl 4 rfl) ?_
    refine lv_iload hx hb d_sl_law_118 (lv_at hl 0 rfl) ?_
    refine lv_iconst (v := nI 1) hx hb d_sl_law_120 (by decide) ?_
    refine lv_iadd hx hb d_sl_law_121 ?_
    refine xr_i (nI_add _ _) ?_
    refine sc_ld hx hb hX hbl hbA hS (by omega) hL d_sl_law_122 (v := sc (i + 1)) rfl ?_
    refine lv_aload_n hx hb d_sl_law_123 rfl (lv_at hl 4 rfl) ?_
    refine lv_iload hx hb d_sl_law_124 (lv_at hl 0 rfl) ?_
    refine lv_iconst (v := nI 2) hx hb d_sl_law_126 (by decide) ?_
    refine lv_iadd hx hb d_sl_law_127 ?_
    refine xr_i (nI_add _ _) ?_
    refine sc_ld hx hb hX hbl hbA hS (by omega) hL d_sl_law_128 (v := sc (i + 2)) rfl ?_
    refine lv_aload_n hx hb d_sl_law_129 rfl (lv_at hl 1 rfl) ?_
    refine es_i hx hb hml hown hg (t_sl_weight1 l htr D [(cI, .int), (cJ, .long), (cZ, .boolean)] x qw qs qo qt H.size n (pu_sum w n) (sc (i + 1)) (sc (i + 2)) hn8 hv) ⟨k_107, k_108, k_0, k_109⟩ n_sl_weight ⟨rfl, rfl, by decide, by decide⟩ gX_blind (pre_X (hK.sub (tys' := [(cI, .int), (cJ, .long), (cZ, .boolean)]) [0, 1, 2] rfl) (hP.sub [0] rfl) (hD.sub [0] rfl rfl) hxs hS) hP hD hS hA [0] [1, 2, 3, 4, 5, 6, 7, 8, 9] rfl (wr := [aI qw cI fw, aI qs cI fs, aI qo cI fz, oM ym er (nI n) mw ms mk mg, aL mw cJ gw, aL ms cJ gs, aL mk cJ gk, aI mg cZ gg, aO qt cJ fo]) rfl rfl (by decide) hl.1 rfl (Nat.le_of_ble_eq_true rfl) d_sl_law_130 ⟨by show _ ≤ 1036; omega, by show _ ≤ 8272; omega⟩ (fun r0 _u H locs hu hP hD hS => ?_)
    subst hu
    have hP : va_P D cls2 [oD x qw qs qo (nI n) (nI (pu_sum w n)), aI qw cI fw, aI qs cI fs, aI qo cI fz, oM ym er (nI n) mw ms mk mg, aL mw cJ gw, aL ms cJ gs, aL mk cJ gk, aI mg cZ gg, aO qt cJ fo] H := hP.sub [9, 0, 1, 2, 3, 4, 5, 6, 7, 8] rfl
    have hD : va_D A [oD x qw qs qo (nI n) (nI (pu_sum w n)), aI qw cI fw, aI qs cI fs, aI qo cI fz, oM ym er (nI n) mw ms mk mg, aL mw cJ gw, aL ms cJ gs, aL mk cJ gk, aI mg cZ gg, aO qt cJ fo] := hD.sub [9, 0, 1, 2, 3, 4, 5, 6, 7, 8] rfl rfl
    refine lv_istore (lv' := [(5, .int (nI 1)), (4, .int (nI i)), (3, .ref qt), (2, .ref ym), (1, .ref x), (0, .ref b)]) hx hb d_sl_law_133 hl (by decide) rfl (fun ls hl => ?_)
    refine lv_aload_n hx hb d_sl_law_135 rfl (lv_at hl 3 rfl) ?_
    refine lv_aload_n hx hb d_sl_law_136 rfl (lv_at hl 5 rfl) ?_
    refine lv_iload hx hb d_sl_law_137 (lv_at hl 1 rfl) ?_
    refine lv_iconst (v := nI 1) hx hb d_sl_law_139 (by decide) ?_
    refine lv_iadd hx hb d_sl_law_140 ?_
    refine xr_i (nI_add _ _) ?_
    refine sc_ld hx hb hX hbl hbA hS (by omega) hL d_sl_law_141 (v := sc (i + 1)) rfl ?_
    refine lv_aload_n hx hb d_sl_law_142 rfl (lv_at hl 5 rfl) ?_
    refine lv_iload hx hb d_sl_law_143 (lv_at hl 1 rfl) ?_
    refine lv_iconst (v := nI 2) hx hb d_sl_law_145 (by decide) ?_
    refine lv_iadd hx hb d_sl_law_146 ?_
    refine xr_i (nI_add _ _) ?_
    refine sc_ld hx hb hX hbl hbA hS (by omega) hL d_sl_law_147 (v := sc (i + 2)) rfl ?_
    refine ev_i (C := "ShareDeskModel") hx hb hml hown hg (c_sm_weight1 l D cJ cZ ym mw ms mk mg H.size n er (sc (i + 1)) (sc (i + 2)) gw hn1 hn8 hv) ⟨k_239, k_240, k_241, k_2, k_242⟩ n_sm_weight ⟨rfl, rfl, by decide, by decide⟩ (hK.sub (tys' := [(cJ, .long), (cZ, .boolean)]) [1, 2] rfl) hP hD hS hA [4, 5] [0, 1, 2, 3, 6, 7, 8, 9] rfl rfl (wr := [oD x qw qs qo (nI n) (nI (pu_sum w n)), aI qw cI fw, aI qs cI fs, aI qo cI fz, aL ms cJ gs, aL mk cJ gk, aI mg cZ gg, aO qt cJ fo]) rfl rfl (by decide) (va_recv (q0 := 4) (ci := 1) hK hP rfl rfl) hl.1 rfl (Nat.le_of_ble_eq_true rfl) d_sl_law_148 ⟨by show _ ≤ 1036; omega, by show _ ≤ 8272; omega⟩ (fun rm _um H locs hm9 hP hD hS => ?_)
    have hP : va_P D cls2 [oD x qw qs qo (nI n) (nI (pu_sum w n)), aI qw cI fw, aI qs cI fs, aI qo cI fz, oM ym (nI 1) (nI n) mw ms mk mg, aL mw cJ gw, aL ms cJ gs, aL mk cJ gk, aI mg cZ gg, aO qt cJ fo] H := hP.sub [0, 1, 2, 3, 8, 9, 4, 5, 6, 7] rfl
    have hD : va_D A [oD x qw qs qo (nI n) (nI (pu_sum w n)), aI qw cI fw, aI qs cI fs, aI qo cI fz, oM ym (nI 1) (nI n) mw ms mk mg, aL mw cJ gw, aL ms cJ gs, aL mk cJ gk, aI mg cZ gg, aO qt cJ fo] := hD.sub [0, 1, 2, 3, 8, 9, 4, 5, 6, 7] rfl rfl
    refine lv_istore (lv' := [(6, .int rm), (5, .int (nI 1)), (4, .int (nI i)), (3, .ref qt), (2, .ref ym), (1, .ref x), (0, .ref b)]) hx hb d_sl_law_151 hl (by decide) rfl (fun ls hl => ?_)
    refine lv_aload_n hx hb d_sl_law_153 rfl (lv_at hl 4 rfl) ?_
    refine pv_i (C := "ShareDeskModel") hx hb hml hown hg (c_sm_thrown l D [(cI, .int), (cJ, .long), (cZ, .boolean)] ym mw ms mk mg H.size (nI 1) (nI n)) ⟨k_223, k_224, k_225, k_2, k_226⟩ n_sm_thrown ⟨rfl, rfl, by decide, by decide⟩ hK (hP.sub [4] rfl) (hD.sub [4] rfl rfl) (va_recv (q0 := 4) (ci := 1) hK hP rfl rfl) hl.1 rfl (Nat.le_of_ble_eq_true rfl) d_sl_law_154 ⟨by show _ ≤ 1036; omega, by show _ ≤ 8272; omega⟩ (fun rt hrt => ?_)
    subst hrt
    refine lv_iload hx hb d_sl_law_157 (lv_at hl 1 rfl) ?_
    refine xc_eq (tgt := 164) hx hb d_sl_law_159 (by decide) (by omega) (by omega) (fun hc9 => ?_) (fun hc9 => ?_)
    · refine lv_iload hx hb d_sl_law_164 (lv_at hl 1 rfl) ?_
      refine xz_ne (tgt := 181) hx hb d_sl_law_166 (by decide) (by omega) (fun h8 => ?_) (fun h8 => ?_)
      · refine lv_goto (tgt := 547) hx hb d_sl_law_181 (by decide) ?_
        refine W.widen (k := cells + 1) (n := slots + 6) (by omega) (by omega) ?_
        exact kk H locs ls n w (nI 1) fw fs fz gw gs gk gg fo hinv hP hD hS (lv_sub hl [2, 3, 4, 5, 6] rfl)
      · exact absurd h8 (by decide)
    · exact absurd rfl hc9
set_option maxRecDepth 20000 in
set_option maxHeartbeats 4000000 in
theorem law_share {cells slots i : Nat} {H : Heap} {locs : List Loc} {ls : Array Slot} {n : Nat} {w : Nat → Nat} {er : Int32} {fw fs fz : Nat → Int32} {gw gs gk : Nat → Int64} {gg : Nat → Int32} {fo : Nat → Int64} (hx : p.tables.exec = Jvm.exec) (hb : c.code = code) (hml : c.maxLocals = 8) (hown : s.vm.findClass "ShareDeskLaw" = some m.cls) (hg : ∀ w ∈ gws, w.before #[Value.ref b] s = true) (htr : l.stackTraces = false) (hK : va_K D cls2 [(cI, .int), (cJ, .long), (cZ, .boolean)] s) (hA : ∀ q, s.heap.size ≤ q → A q) (hX : va_X b L sc s s.heap) (hbl : b < s.heap.size) (hbA : ¬ A b) (hxs : xs A s s.heap) (hnc : nc s) (hL : L ≤ 2048) (hinv : lwInv n w fw gw) (hi : i + 4 ≤ L) (hcs : cells + 1 ≤ 1036 ∧ slots + 6 ≤ 8272) (hP : va_P D cls2 [oD x qw qs qo (nI n) (nI (pu_sum w n)), aI qw cI fw, aI qs cI fs, aI qo cI fz, oM ym er (nI n) mw ms mk mg, aL mw cJ gw, aL ms cJ gs, aL mk cJ gk, aI mg cZ gg, aO qt cJ fo] H) (hD : va_D A [oD x qw qs qo (nI n) (nI (pu_sum w n)), aI qw cI fw, aI qs cI fs, aI qo cI fz, oM ym er (nI n) mw ms mk mg, aL mw cJ gw, aL ms cJ gs, aL mk cJ gk, aI mg cZ gg, aO qt cJ fo]) (hS : va_S A s.heap H locs) (hl : lv_has ls 8 [(4, .int (nI i)), (3, .ref qt), (2, .ref ym), (1, .ref x), (0, .ref b)]) (kk : ∀ (H : Heap) (locs : List Loc) (ls : Array Slot) (n : Nat) (w : Nat → Nat) (er : Int32) (fw fs fz : Nat → Int32) (gw gs gk : Nat → Int64) (gg : Nat → Int32) (fo : Nat → Int64), lwInv n w fw gw → va_P D cls2 [oD x qw qs qo (nI n) (nI (pu_sum w n)), aI qw cI fw, aI qs cI fs, aI qo cI fz, oM ym er (nI n) mw ms mk mg, aL mw cJ gw, aL ms cJ gs, aL mk cJ gk, aI mg cZ gg, aO qt cJ fo] H → va_D A [oD x qw qs qo (nI n) (nI (pu_sum w n)), aI qw cI fw, aI qs cI fs, aI qo cI fz, oM ym er (nI n) mw ms mk mg, aL mw cJ gw, aL ms cJ gs, aL mk cJ gk, aI mg cZ gg, aO qt cJ fo] → va_S A s.heap H locs → lv_has ls 8 [(4, .int (nI i)), (3, .ref qt), (2, .ref ym), (1, .ref x), (0, .ref b)] → W p l e room_1 s m #[Value.ref b] below meth c H locs (cells + 1) (slots + 6) Q (F0 m 547 ls [])) : W p l e room_1 s m #[Value.ref b] below meth c H locs cells slots Q (F0 m 184 ls []) := by
  obtain ⟨hn1, hn8, hw, hfw, hgw⟩ := id hinv
  by_cases hv : 0 ≤ (sc (i + 1)).toInt ∧ (sc (i + 1)).toInt < 3 ∧ 0 ≤ (sc (i + 2)).toInt ∧ (sc (i + 2)).toInt ≤ 10000 ∧ 0 ≤ (sc (i + 3)).toInt ∧ (sc (i + 3)).toInt < (n : Int)
  · obtain ⟨d, hb1, e1, f1⟩ := ti_nat (v := sc (i + 1)) (by omega)
    obtain ⟨mm, hb2, e2, f2⟩ := ti_nat (v := sc (i + 2)) (by omega)
    obtain ⟨pp, hb3, e3, f3⟩ := ti_nat (v := sc (i + 3)) (by omega)
    have hd : d < 3 := by omega
    have hm : mm ≤ 10000 := by omega
    have hp : pp < n := by omega
    by_cases hW : 0 < pu_sum w n
    · refine lv_aload_n hx hb d_sl_law_184 rfl (lv_at hl 3 rfl) ?_
      refine lv_aload_n hx hb d_sl_law_185 rfl (lv_at hl 4 rfl) ?_
      refine lv_iload hx hb d_sl_law_186 (lv_at hl 0 rfl) ?_
      refine lv_iconst (v := nI 1) hx hb d_sl_law_188 (by decide) ?_
      refine lv_iadd hx hb d_sl_law_189 ?_
      refine xr_i (nI_add _ _) ?_
      refine sc_ld hx hb hX hbl hbA hS (by omega) hL d_sl_law_190 (v := nI d) e1 ?_
      refine lv_aload_n hx hb d_sl_law_191 rfl (lv_at hl 4 rfl) ?_
      refine lv_iload hx hb d_sl_law_192 (lv_at hl 0 rfl) ?_
      refine lv_iconst (v := nI 2) hx hb d_sl_law_194 (by decide) ?_
      refine lv_iadd hx hb d_sl_law_195 ?_
      refine xr_i (nI_add _ _) ?_
      refine sc_ld hx hb hX hbl hbA hS (by omega) hL d_sl_law_196 (v := nI mm) e2 ?_
      refine lv_aload_n hx hb d_sl_law_197 rfl (lv_at hl 4 rfl) ?_
      refine lv_iload hx hb d_sl_law_198 (lv_at hl 0 rfl) ?_
      refine lv_iconst (v := nI 3) hx hb d_sl_law_200 (by decide) ?_
      refine lv_iadd hx hb d_sl_law_201 ?_
      refine xr_i (nI_add _ _) ?_
      refine sc_ld hx hb hX hbl hbA hS (by omega) hL d_sl_law_202 (v := nI pp) e3 ?_
      refine lv_aload_n hx hb d_sl_law_203 rfl (lv_at hl 1 rfl) ?_
      refine es_i hx hb hml hown hg (c_sl_share l D cI cJ x qw qs qo qt H.size n d mm pp fw fs fo w hn1 hn8 hw hfw hW hd hm hp) ⟨k_119, k_120, k_0, k_121⟩ n_sl_share ⟨rfl, rfl, by decide, by decide⟩ gP_blind (pre_P (hK.sub (tys' := [(cI, .int), (cJ, .long)]) [0, 1] rfl) (hP.sub [0, 1, 2, 9] rfl) (hD.sub [0, 1, 2, 9] rfl rfl)) hP hD hS hA [0, 1, 2, 9] [3, 4, 5, 6, 7, 8] rfl (wr := [aI qo cI fz, oM ym er (nI n) mw ms mk mg, aL mw cJ gw, aL ms cJ gs, aL mk cJ gk, aI mg cZ gg]) rfl rfl (by decide) hl.1 rfl (Nat.le_of_ble_eq_true rfl) d_sl_law_204 ⟨by show _ ≤ 1036; omega, by show _ ≤ 8272; omega⟩ (fun r0 u H locs hu hP hD hS => ?_)
      subst hu
      have hP : va_P D cls2 [oD x qw qs qo (nI n) (nI (pu_sum w n)), aI qw cI fw, aI qs cI u, aI qo cI fz, oM ym er (nI n) mw ms mk mg, aL mw cJ gw, aL ms cJ gs, aL mk cJ gk, aI mg cZ gg, aO qt cJ (vp_updL fo 0 (lN (pu_sh n w d mm pp)))] H := hP.sub [6, 7, 8, 0, 1, 2, 3, 4, 5, 9] rfl
      have hD : va_D A [oD x qw qs qo (nI n) (nI (pu_sum w n)), aI qw cI fw, aI qs cI u, aI qo cI fz, oM ym er (nI n) mw ms mk mg, aL mw cJ gw, aL ms cJ gs, aL mk cJ gk, aI mg cZ gg, aO qt cJ (vp_updL fo 0 (lN (pu_sh n w d mm pp)))] := hD.sub [6, 7, 8, 0, 1, 2, 3, 4, 5, 9] rfl rfl
      refine lv_istore (lv' := [(5, .int (nI 0)), (4, .int (nI i)), (3, .ref qt), (2, .ref ym), (1, .ref x), (0, .ref b)]) hx hb d_sl_law_207 hl (by decide) rfl (fun ls hl => ?_)
      refine lv_aload_n hx hb d_sl_law_209 rfl (lv_at hl 3 rfl) ?_
      refine lv_aload_n hx hb d_sl_law_210 rfl (lv_at hl 5 rfl) ?_
      refine lv_iload hx hb d_sl_law_211 (lv_at hl 1 rfl) ?_
      refine lv_iconst (v := nI 1) hx hb d_sl_law_213 (by decide) ?_
      refine lv_iadd hx hb d_sl_law_214 ?_
      refine xr_i (nI_add _ _) ?_
      refine sc_ld hx hb hX hbl hbA hS (by omega) hL d_sl_law_215 (v := nI d) e1 ?_
      refine lv_aload_n hx hb d_sl_law_216 rfl (lv_at hl 5 rfl) ?_
      refine lv_iload hx hb d_sl_law_217 (lv_at hl 1 rfl) ?_
      refine lv_iconst (v := nI 2) hx hb d_sl_law_219 (by decide) ?_
      refine lv_iadd hx hb d_sl_law_220 ?_
      refine xr_i (nI_add _ _) ?_
      refine sc_ld hx hb hX hbl hbA hS (by omega) hL d_sl_law_221 (v := nI mm) e2 ?_
      refine lv_aload_n hx hb d_sl_law_222 rfl (lv_at hl 5 rfl) ?_
      refine lv_iload hx hb d_sl_law_223 (lv_at hl 1 rfl) ?_
      refine lv_iconst (v := nI 3) hx hb d_sl_law_225 (by decide) ?_
      refine lv_iadd hx hb d_sl_law_226 ?_
      refine xr_i (nI_add _ _) ?_
      refine sc_ld hx hb hX hbl hbA hS (by omega) hL d_sl_law_227 (v := nI pp) e3 ?_
      refine ev_i (C := "ShareDeskModel") hx hb hml hown hg (c_sm_share l D cJ cZ ym mw ms mk mg H.size n d mm pp er gw gs gk gg w hn1 hn8 hw hgw hW hd hm hp) ⟨k_248, k_249, k_250, k_2, k_251⟩ n_sm_share ⟨rfl, rfl, by decide, by decide⟩ (hK.sub (tys' := [(cJ, .long), (cZ, .boolean)]) [1, 2] rfl) hP hD hS hA [4, 5, 6, 7, 8] [0, 1, 2, 3, 9] rfl rfl (wr := [oD x qw qs qo (nI n) (nI (pu_sum w n)), aI qw cI fw, aI qs cI u, aI qo cI fz, aO qt cJ (vp_updL fo 0 (lN (pu_sh n w d mm pp)))]) rfl rfl (by decide) (va_recv (q0 := 4) (ci := 1) hK hP rfl rfl) hl.1 rfl (Nat.le_of_ble_eq_true rfl) d_sl_law_228 ⟨by show _ ≤ 1036; omega, by show _ ≤ 8272; omega⟩ (fun rm um H locs hm9 hP hD hS => ?_)
      have hP : va_P D cls2 [oD x qw qs qo (nI n) (nI (pu_sum w n)), aI qw cI fw, aI qs cI u, aI qo cI fz, oM ym (nI 0) (nI n) mw ms mk mg, aL mw cJ gw, aL ms cJ um.1, aL mk cJ um.2.1, aI mg cZ um.2.2, aO qt cJ (vp_updL fo 0 (lN (pu_sh n w d mm pp)))] H := hP.sub [0, 1, 2, 3, 5, 6, 7, 8, 9, 4] rfl
      have hD : va_D A [oD x qw qs qo (nI n) (nI (pu_sum w n)), aI qw cI fw, aI qs cI u, aI qo cI fz, oM ym (nI 0) (nI n) mw ms mk mg, aL mw cJ gw, aL ms cJ um.1, aL mk cJ um.2.1, aI mg cZ um.2.2, aO qt cJ (vp_updL fo 0 (lN (pu_sh n w d mm pp)))] := hD.sub [0, 1, 2, 3, 5, 6, 7, 8, 9, 4] rfl rfl
      subst hm9
      have hsh := Nat.le_trans (pu_sh_le (d := d) (m := mm) hW hp) hm
      refine lv_istore (lv' := [(6, .int (nI (pu_sh n w d mm pp))), (5, .int (nI 0)), (4, .int (nI i)), (3, .ref qt), (2, .ref ym), (1, .ref x), (0, .ref b)]) hx hb d_sl_law_231 hl (by decide) rfl (fun ls hl => ?_)
      refine lv_aload_n hx hb d_sl_law_233 rfl (lv_at hl 4 rfl) ?_
      refine pv_i (C := "ShareDeskModel") hx hb hml hown hg (c_sm_thrown l D [(cI, .int), (cJ, .long), (cZ, .boolean)] ym mw ms mk mg H.size (nI 0) (nI n)) ⟨k_223, k_224, k_225, k_2, k_226⟩ n_sm_thrown ⟨rfl, rfl, by decide, by decide⟩ hK (hP.sub [4] rfl) (hD.sub [4] rfl rfl) (va_recv (q0 := 4) (ci := 1) hK hP rfl rfl) hl.1 rfl (Nat.le_of_ble_eq_true rfl) d_sl_law_234 ⟨by show _ ≤ 1036; omega, by show _ ≤ 8272; omega⟩ (fun rt hrt => ?_)
      subst hrt
      refine lv_iload hx hb d_sl_law_237 (lv_at hl 1 rfl) ?_
      refine xc_eq (tgt := 244) hx hb d_sl_law_239 (by decide) (by omega) (by omega) (fun hc9 => ?_) (fun hc9 => ?_)
      · refine lv_iload hx hb d_sl_law_244 (lv_at hl 1 rfl) ?_
        refine xz_ne (tgt := 261) hx hb d_sl_law_246 (by decide) (by omega) (fun h8 => ?_) (fun h8 => ?_)
        · exact absurd h8 (by decide)
        · refine lv_aload_n hx hb d_sl_law_249 rfl (lv_at hl 3 rfl) ?_
          refine lv_iconst (v := nI 0) hx hb d_sl_law_250 (by decide) ?_
          refine xo_ld hx hb hK hP 9 1 rfl rfl d_sl_law_251 (v := lN (pu_sh n w d mm pp)) pk_uLs ?_
          refine lv_iload hx hb d_sl_law_252 (lv_at hl 0 rfl) ?_
          refine lv_i2l (v := lN (pu_sh n w d mm pp)) hx hb d_sl_law_254 (nI_l (by omega)) ?_
          refine W.lcmp hx hb d_sl_law_255 ?_
          refine lv_if_eq (tgt := 261) hx hb d_sl_law_256 (by decide) (fun _ => ?_) (fun h9 => absurd ((lg_cmp_eq _ _).mpr rfl) h9)
          refine lv_goto (tgt := 547) hx hb d_sl_law_261 (by decide) ?_
          refine W.widen (k := cells + 1) (n := slots + 6) (by omega) (by omega) ?_
          exact kk H locs ls n w (nI 0) fw u fz gw um.1 um.2.1 um.2.2 _ hinv hP hD hS (lv_sub hl [2, 3, 4, 5, 6] rfl)
      · exact absurd rfl hc9
    · have hW0 : pu_sum w n = 0 := by omega
      rw [hW0] at hP hD
      refine lv_aload_n hx hb d_sl_law_184 rfl (lv_at hl 3 rfl) ?_
      refine lv_aload_n hx hb d_sl_law_185 rfl (lv_at hl 4 rfl) ?_
      refine lv_iload hx hb d_sl_law_186 (lv_at hl 0 rfl) ?_
      refine lv_iconst (v := nI 1) hx hb d_sl_law_188 (by decide) ?_
      refine lv_iadd hx hb d_sl_law_189 ?_
      refine xr_i (nI_add _ _) ?_
      refine sc_ld hx hb hX hbl hbA hS (by omega) hL d_sl_law_190 (v := nI d) e1 ?_
      refine lv_aload_n hx hb d_sl_law_191 rfl (lv_at hl 4 rfl) ?_
      refine lv_iload hx hb d_sl_law_192 (lv_at hl 0 rfl) ?_
      refine lv_iconst (v := nI 2) hx hb d_sl_law_194 (by decide) ?_
      refine lv_iadd hx hb d_sl_law_195 ?_
      refine xr_i (nI_add _ _) ?_
      refine sc_ld hx hb hX hbl hbA hS (by omega) hL d_sl_law_196 (v := nI mm) e2 ?_
      refine lv_aload_n hx hb d_sl_law_197 rfl (lv_at hl 4 rfl) ?_
      refine lv_iload hx hb d_sl_law_198 (lv_at hl 0 rfl) ?_
      refine lv_iconst (v := nI 3) hx hb d_sl_law_200 (by decide) ?_
      refine lv_iadd hx hb d_sl_law_201 ?_
      refine xr_i (nI_add _ _) ?_
      refine sc_ld hx hb hX hbl hbA hS (by omega) hL d_sl_law_202 (v := nI pp) e3 ?_
      refine lv_aload_n hx hb d_sl_law_203 rfl (lv_at hl 1 rfl) ?_
      refine es_i hx hb hml hown hg (t_sl_share2 l htr D [(cI, .int), (cJ, .long), (cZ, .boolean)] x qw qs qo qt H.size n d mm pp hn8 hd hm hp) ⟨k_119, k_120, k_0, k_121⟩ n_sl_share ⟨rfl, rfl, by decide, by decide⟩ gY_blind (pre_Y (hK.sub (tys' := [(cI, .int), (cJ, .long), (cZ, .boolean)]) [0, 1, 2] rfl) (hP.sub [0] rfl) (hD.sub [0] rfl rfl) hxs hS hnc) hP hD hS hA [0] [1, 2, 3, 4, 5, 6, 7, 8, 9] rfl (wr := [aI qw cI fw, aI qs cI fs, aI qo cI fz, oM ym er (nI n) mw ms mk mg, aL mw cJ gw, aL ms cJ gs, aL mk cJ gk, aI mg cZ gg, aO qt cJ fo]) rfl rfl (by decide) hl.1 rfl (Nat.le_of_ble_eq_true rfl) d_sl_law_204 ⟨by show _ ≤ 1036; omega, by show _ ≤ 8272; omega⟩ (fun r0 _u H locs hu hP hD hS => ?_)
      subst hu
      have hP : va_P D cls2 [oD x qw qs qo (nI n) (nI 0), aI qw cI fw, aI qs cI fs, aI qo cI fz, oM ym er (nI n) mw ms mk mg, aL mw cJ gw, aL ms cJ gs, aL mk cJ gk, aI mg cZ gg, aO qt cJ fo] H := hP.sub [9, 0, 1, 2, 3, 4, 5, 6, 7, 8] rfl
      have hD : va_D A [oD x qw qs qo (nI n) (nI 0), aI qw cI fw, aI qs cI fs, aI qo cI fz, oM ym er (nI n) mw ms mk mg, aL mw cJ gw, aL ms cJ gs, aL mk cJ gk, aI mg cZ gg, aO qt cJ fo] := hD.sub [9, 0, 1, 2, 3, 4, 5, 6, 7, 8] rfl rfl
      refine lv_istore (lv' := [(5, .int (nI 2)), (4, .int (nI i)), (3, .ref qt), (2, .ref ym), (1, .ref x), (0, .ref b)]) hx hb d_sl_law_207 hl (by decide) rfl (fun ls hl => ?_)
      refine lv_aload_n hx hb d_sl_law_209 rfl (lv_at hl 3 rfl) ?_
      refine lv_aload_n hx hb d_sl_law_210 rfl (lv_at hl 5 rfl) ?_
      refine lv_iload hx hb d_sl_law_211 (lv_at hl 1 rfl) ?_
      refine lv_iconst (v := nI 1) hx hb d_sl_law_213 (by decide) ?_
      refine lv_iadd hx hb d_sl_law_214 ?_
      refine xr_i (nI_add _ _) ?_
      refine sc_ld hx hb hX hbl hbA hS (by omega) hL d_sl_law_215 (v := nI d) e1 ?_
      refine lv_aload_n hx hb d_sl_law_216 rfl (lv_at hl 5 rfl) ?_
      refine lv_iload hx hb d_sl_law_217 (lv_at hl 1 rfl) ?_
      refine lv_iconst (v := nI 2) hx hb d_sl_law_219 (by decide) ?_
      refine lv_iadd hx hb d_sl_law_220 ?_
      refine xr_i (nI_add _ _) ?_
      refine sc_ld hx hb hX hbl hbA hS (by omega) hL d_sl_law_221 (v := nI mm) e2 ?_
      refine lv_aload_n hx hb d_sl_law_222 rfl (lv_at hl 5 rfl) ?_
      refine lv_iload hx hb d_sl_law_223 (lv_at hl 1 rfl) ?_
      refine lv_iconst (v := nI 3) hx hb d_sl_law_225 (by decide) ?_
      refine lv_iadd hx hb d_sl_law_226 ?_
      refine xr_i (nI_add _ _) ?_
      refine sc_ld hx hb hX hbl hbA hS (by omega) hL d_sl_law_227 (v := nI pp) e3 ?_
      refine ev_i (C := "ShareDeskModel") hx hb hml hown hg (c_sm_share2 l D cJ cZ ym mw ms mk mg H.size n d mm pp er gw w hn1 hn8 hw hgw hW0 hd hm hp) ⟨k_248, k_249, k_250, k_2, k_251⟩ n_sm_share ⟨rfl, rfl, by decide, by decide⟩ (hK.sub (tys' := [(cJ, .long), (cZ, .boolean)]) [1, 2] rfl) hP hD hS hA [4, 5] [0, 1, 2, 3, 6, 7, 8, 9] rfl rfl (wr := [oD x qw qs qo (nI n) (nI 0), aI qw cI fw, aI qs cI fs, aI qo cI fz, aL ms cJ gs, aL mk cJ gk, aI mg cZ gg, aO qt cJ fo]) rfl rfl (by decide) (va_recv (q0 := 4) (ci := 1) hK hP rfl rfl) hl.1 rfl (Nat.le_of_ble_eq_true rfl) d_sl_law_228 ⟨by show _ ≤ 1036; omega, by show _ ≤ 8272; omega⟩ (fun rm _um H locs hm9 hP hD hS => ?_)
      have hP : va_P D cls2 [oD x qw qs qo (nI n) (nI 0), aI qw cI fw, aI qs cI fs, aI qo cI fz, oM ym (nI 2) (nI n) mw ms mk mg, aL mw cJ gw, aL ms cJ gs, aL mk cJ gk, aI mg cZ gg, aO qt cJ fo] H := hP.sub [0, 1, 2, 3, 8, 9, 4, 5, 6, 7] rfl
      have hD : va_D A [oD x qw qs qo (nI n) (nI 0), aI qw cI fw, aI qs cI fs, aI qo cI fz, oM ym (nI 2) (nI n) mw ms mk mg, aL mw cJ gw, aL ms cJ gs, aL mk cJ gk, aI mg cZ gg, aO qt cJ fo] := hD.sub [0, 1, 2, 3, 8, 9, 4, 5, 6, 7] rfl rfl
      refine lv_istore (lv' := [(6, .int rm), (5, .int (nI 2)), (4, .int (nI i)), (3, .ref qt), (2, .ref ym), (1, .ref x), (0, .ref b)]) hx hb d_sl_law_231 hl (by decide) rfl (fun ls hl => ?_)
      refine lv_aload_n hx hb d_sl_law_233 rfl (lv_at hl 4 rfl) ?_
      refine pv_i (C := "ShareDeskModel") hx hb hml hown hg (c_sm_thrown l D [(cI, .int), (cJ, .long), (cZ, .boolean)] ym mw ms mk mg H.size (nI 2) (nI n)) ⟨k_223, k_224, k_225, k_2, k_226⟩ n_sm_thrown ⟨rfl, rfl, by decide, by decide⟩ hK (hP.sub [4] rfl) (hD.sub [4] rfl rfl) (va_recv (q0 := 4) (ci := 1) hK hP rfl rfl) hl.1 rfl (Nat.le_of_ble_eq_true rfl) d_sl_law_234 ⟨by show _ ≤ 1036; omega, by show _ ≤ 8272; omega⟩ (fun rt hrt => ?_)
      subst hrt
      refine lv_iload hx hb d_sl_law_237 (lv_at hl 1 rfl) ?_
      refine xc_eq (tgt := 244) hx hb d_sl_law_239 (by decide) (by omega) (by omega) (fun hc9 => ?_) (fun hc9 => ?_)
      · refine lv_iload hx hb d_sl_law_244 (lv_at hl 1 rfl) ?_
        refine xz_ne (tgt := 261) hx hb d_sl_law_246 (by decide) (by omega) (fun h8 => ?_) (fun h8 => ?_)
        · refine lv_goto (tgt := 547) hx hb d_sl_law_261 (by decide) ?_
          refine W.widen (k := cells + 1) (n := slots + 6) (by omega) (by omega) ?_
          exact kk H locs ls n w (nI 2) fw fs fz gw gs gk gg fo hinv (by rw [hW0]; exact hP) (by rw [hW0]; exact hD) hS (lv_sub hl [2, 3, 4, 5, 6] rfl)
        · exact absurd h8 (by decide)
      · exact absurd rfl hc9
  · refine lv_aload_n hx hb d_sl_law_184 rfl (lv_at hl 3 rfl) ?_
    refine lv_aload_n hx hb d_sl_law_185 rfl (lv_at hl 4 rfl) ?_
    refine lv_iload hx hb d_sl_law_186 (lv_at hl 0 rfl) ?_
    refine lv_iconst (v := nI 1) hx hb d_sl_law_188 (by decide) ?_
    refine lv_iadd hx hb d_sl_law_189 ?_
    refine xr_i (nI_add _ _) ?_
    refine sc_ld hx hb hX hbl hbA hS (by omega) hL d_sl_law_190 (v := sc (i + 1)) rfl ?_
    refine lv_aload_n hx hb d_sl_law_191 rfl (lv_at hl 4 rfl) ?_
    refine lv_iload hx hb d_sl_law_192 (lv_at hl 0 rfl) ?_
    refine lv_iconst (v := nI 2) hx hb d_sl_law_194 (by decide) ?_
    refine lv_iadd hx hb d_sl_law_195 ?_
    refine xr_i (nI_add _ _) ?_
    refine sc_ld hx hb hX hbl hbA hS (by omega) hL d_sl_law_196 (v := sc (i + 2)) rfl ?_
    refine lv_aload_n hx hb d_sl_law_197 rfl (lv_at hl 4 rfl) ?_
    refine lv_iload hx hb d_sl_law_198 (lv_at hl 0 rfl) ?_
    refine lv_iconst (v := nI 3) hx hb d_sl_law_200 (by decide) ?_
    refine lv_iadd hx hb d_sl_law_201 ?_
    refine xr_i (nI_add _ _) ?_
    refine sc_ld hx hb hX hbl hbA hS (by omega) hL d_sl_law_202 (v := sc (i + 3)) rfl ?_
    refine lv_aload_n hx hb d_sl_law_203 rfl (lv_at hl 1 rfl) ?_
    refine es_i hx hb hml hown hg (t_sl_share1 l htr D [(cI, .int), (cJ, .long), (cZ, .boolean)] x qw qs qo qt H.size n (pu_sum w n) (sc (i + 1)) (sc (i + 2)) (sc (i + 3)) hn8 hv) ⟨k_119, k_120, k_0, k_121⟩ n_sl_share ⟨rfl, rfl, by decide, by decide⟩ gX_blind (pre_X (hK.sub (tys' := [(cI, .int), (cJ, .long), (cZ, .boolean)]) [0, 1, 2] rfl) (hP.sub [0] rfl) (hD.sub [0] rfl rfl) hxs hS) hP hD hS hA [0] [1, 2, 3, 4, 5, 6, 7, 8, 9] rfl (wr := [aI qw cI fw, aI qs cI fs, aI qo cI fz, oM ym er (nI n) mw ms mk mg, aL mw cJ gw, aL ms cJ gs, aL mk cJ gk, aI mg cZ gg, aO qt cJ fo]) rfl rfl (by decide) hl.1 rfl (Nat.le_of_ble_eq_true rfl) d_sl_law_204 ⟨by show _ ≤ 1036; omega, by show _ ≤ 8272; omega⟩ (fun r0 _u H locs hu hP hD hS => ?_)
    subst hu
    have hP : va_P D cls2 [oD x qw qs qo (nI n) (nI (pu_sum w n)), aI qw cI fw, aI qs cI fs, aI qo cI fz, oM ym er (nI n) mw ms mk mg, aL mw cJ gw, aL ms cJ gs, aL mk cJ gk, aI mg cZ gg, aO qt cJ fo] H := hP.sub [9, 0, 1, 2, 3, 4, 5, 6, 7, 8] rfl
    have hD : va_D A [oD x qw qs qo (nI n) (nI (pu_sum w n)), aI qw cI fw, aI qs cI fs, aI qo cI fz, oM ym er (nI n) mw ms mk mg, aL mw cJ gw, aL ms cJ gs, aL mk cJ gk, aI mg cZ gg, aO qt cJ fo] := hD.sub [9, 0, 1, 2, 3, 4, 5, 6, 7, 8] rfl rfl
    refine lv_istore (lv' := [(5, .int (nI 1)), (4, .int (nI i)), (3, .ref qt), (2, .ref ym), (1, .ref x), (0, .ref b)]) hx hb d_sl_law_207 hl (by decide) rfl (fun ls hl => ?_)
    refine lv_aload_n hx hb d_sl_law_209 rfl (lv_at hl 3 rfl) ?_
    refine lv_aload_n hx hb d_sl_law_210 rfl (lv_at hl 5 rfl) ?_
    refine lv_iload hx hb d_sl_law_211 (lv_at hl 1 rfl) ?_
    refine lv_iconst (v := nI 1) hx hb d_sl_law_213 (by decide) ?_
    refine lv_iadd hx hb d_sl_law_214 ?_
    refine xr_i (nI_add _ _) ?_
    refine sc_ld hx hb hX hbl hbA hS (by omega) hL d_sl_law_215 (v := sc (i + 1)) rfl ?_
    refine lv_aload_n hx hb d_sl_law_216 rfl (lv_at hl 5 rfl) ?_
    refine lv_iload hx hb d_sl_law_217 (lv_at hl 1 rfl) ?_
    refine lv_iconst (v := nI 2) hx hb d_sl_law_219 (by decide) ?_
    refine lv_iadd hx hb d_sl_law_220 ?_
    refine xr_i (nI_add _ _) ?_
    refine sc_ld hx hb hX hbl hbA hS (by omega) hL d_sl_law_221 (v := sc (i + 2)) rfl ?_
    refine lv_aload_n hx hb d_sl_law_222 rfl (lv_at hl 5 rfl) ?_
    refine lv_iload hx hb d_sl_law_223 (lv_at hl 1 rfl) ?_
    refine lv_iconst (v := nI 3) hx hb d_sl_law_225 (by decide) ?_
    refine lv_iadd hx hb d_sl_law_226 ?_
    refine xr_i (nI_add _ _) ?_
    refine sc_ld hx hb hX hbl hbA hS (by omega) hL d_sl_law_227 (v := sc (i + 3)) rfl ?_
    refine ev_i (C := "ShareDeskModel") hx hb hml hown hg (c_sm_share1 l D cJ cZ ym mw ms mk mg H.size n er (sc (i + 1)) (sc (i + 2)) (sc (i + 3)) gw hn1 hn8 hv) ⟨k_248, k_249, k_250, k_2, k_251⟩ n_sm_share ⟨rfl, rfl, by decide, by decide⟩ (hK.sub (tys' := [(cJ, .long), (cZ, .boolean)]) [1, 2] rfl) hP hD hS hA [4, 5] [0, 1, 2, 3, 6, 7, 8, 9] rfl rfl (wr := [oD x qw qs qo (nI n) (nI (pu_sum w n)), aI qw cI fw, aI qs cI fs, aI qo cI fz, aL ms cJ gs, aL mk cJ gk, aI mg cZ gg, aO qt cJ fo]) rfl rfl (by decide) (va_recv (q0 := 4) (ci := 1) hK hP rfl rfl) hl.1 rfl (Nat.le_of_ble_eq_true rfl) d_sl_law_228 ⟨by show _ ≤ 1036; omega, by show _ ≤ 8272; omega⟩ (fun rm _um H locs hm9 hP hD hS => ?_)
    have hP : va_P D cls2 [oD x qw qs qo (nI n) (nI (pu_sum w n)), aI qw cI fw, aI qs cI fs, aI qo cI fz, oM ym (nI 1) (nI n) mw ms mk mg, aL mw cJ gw, aL ms cJ gs, aL mk cJ gk, aI mg cZ gg, aO qt cJ fo] H := hP.sub [0, 1, 2, 3, 8, 9, 4, 5, 6, 7] rfl
    have hD : va_D A [oD x qw qs qo (nI n) (nI (pu_sum w n)), aI qw cI fw, aI qs cI fs, aI qo cI fz, oM ym (nI 1) (nI n) mw ms mk mg, aL mw cJ gw, aL ms cJ gs, aL mk cJ gk, aI mg cZ gg, aO qt cJ fo] := hD.sub [0, 1, 2, 3, 8, 9, 4, 5, 6, 7] rfl rfl
    refine lv_istore (lv' := [(6, .int rm), (5, .int (nI 1)), (4, .int (nI i)), (3, .ref qt), (2, .ref ym), (1, .ref x), (0, .ref b)]) hx hb d_sl_law_231 hl (by decide) rfl (fun ls hl => ?_)
    refine lv_aload_n hx hb d_sl_law_233 rfl (lv_at hl 4 rfl) ?_
    refine pv_i (C := "ShareDeskModel") hx hb hml hown hg (c_sm_thrown l D [(cI, .int), (cJ, .long), (cZ, .boolean)] ym mw ms mk mg H.size (nI 1) (nI n)) ⟨k_223, k_224, k_225, k_2, k_226⟩ n_sm_thrown ⟨rfl, rfl, by decide, by decide⟩ hK (hP.sub [4] rfl) (hD.sub [4] rfl rfl) (va_recv (q0 := 4) (ci := 1) hK hP rfl rfl) hl.1 rfl (Nat.le_of_ble_eq_true rfl) d_sl_law_234 ⟨by show _ ≤ 1036; omega, by show _ ≤ 8272; omega⟩ (fun rt hrt => ?_)
    subst hrt
    refine lv_iload hx hb d_sl_law_237 (lv_at hl 1 rfl) ?_
    refine xc_eq (tgt := 244) hx hb d_sl_law_239 (by decide) (by omega) (by omega) (fun hc9 => ?_) (fun hc9 => ?_)
    · refine lv_iload hx hb d_sl_law_244 (lv_at hl 1 rfl) ?_
      refine xz_ne (tgt := 261) hx hb d_sl_law_246 (by decide) (by omega) (fun h8 => ?_) (fun h8 => ?_)
      · refine lv_goto (tgt := 547) hx hb d_sl_law_261 (by decide) ?_
        refine W.widen (k := cells + 1) (n := slots + 6) (by omega) (by omega) ?_
        exact kk H locs ls n w (nI 1) fw fs fz gw gs gk gg fo hinv hP hD hS (lv_sub hl [2, 3, 4, 5, 6] rfl)
      · exact absurd h8 (by decide)
    · exact absurd rfl hc9
set_option maxRecDepth 20000 in
set_option maxHeartbeats 4000000 in
theorem law_over {cells slots i : Nat} {H : Heap} {locs : List Loc} {ls : Array Slot} {n : Nat} {w : Nat → Nat} {er : Int32} {fw fs fz : Nat → Int32} {gw gs gk : Nat → Int64} {gg : Nat → Int32} {fo : Nat → Int64} (hx : p.tables.exec = Jvm.exec) (hb : c.code = code) (hml : c.maxLocals = 8) (hown : s.vm.findClass "ShareDeskLaw" = some m.cls) (hg : ∀ w ∈ gws, w.before #[Value.ref b] s = true) (htr : l.stackTraces = false) (hK : va_K D cls2 [(cI, .int), (cJ, .long), (cZ, .boolean)] s) (hA : ∀ q, s.heap.size ≤ q → A q) (hX : va_X b L sc s s.heap) (hbl : b < s.heap.size) (hbA : ¬ A b) (hxs : xs A s s.heap) (hnc : nc s) (hL : L ≤ 2048) (hinv : lwInv n w fw gw) (hi : i + 4 ≤ L) (hcs : cells + 1 ≤ 1036 ∧ slots + 6 ≤ 8272) (hP : va_P D cls2 [oD x qw qs qo (nI n) (nI (pu_sum w n)), aI qw cI fw, aI qs cI fs, aI qo cI fz, oM ym er (nI n) mw ms mk mg, aL mw cJ gw, aL ms cJ gs, aL mk cJ gk, aI mg cZ gg, aO qt cJ fo] H) (hD : va_D A [oD x qw qs qo (nI n) (nI (pu_sum w n)), aI qw cI fw, aI qs cI fs, aI qo cI fz, oM ym er (nI n) mw ms mk mg, aL mw cJ gw, aL ms cJ gs, aL mk cJ gk, aI mg cZ gg, aO qt cJ fo]) (hS : va_S A s.heap H locs) (hl : lv_has ls 8 [(4, .int (nI i)), (3, .ref qt), (2, .ref ym), (1, .ref x), (0, .ref b)]) (kk : ∀ (H : Heap) (locs : List Loc) (ls : Array Slot) (n : Nat) (w : Nat → Nat) (er : Int32) (fw fs fz : Nat → Int32) (gw gs gk : Nat → Int64) (gg : Nat → Int32) (fo : Nat → Int64), lwInv n w fw gw → va_P D cls2 [oD x qw qs qo (nI n) (nI (pu_sum w n)), aI qw cI fw, aI qs cI fs, aI qo cI fz, oM ym er (nI n) mw ms mk mg, aL mw cJ gw, aL ms cJ gs, aL mk cJ gk, aI mg cZ gg, aO qt cJ fo] H → va_D A [oD x qw qs qo (nI n) (nI (pu_sum w n)), aI qw cI fw, aI qs cI fs, aI qo cI fz, oM ym er (nI n) mw ms mk mg, aL mw cJ gw, aL ms cJ gs, aL mk cJ gk, aI mg cZ gg, aO qt cJ fo] → va_S A s.heap H locs → lv_has ls 8 [(4, .int (nI i)), (3, .ref qt), (2, .ref ym), (1, .ref x), (0, .ref b)] → W p l e room_1 s m #[Value.ref b] below meth c H locs (cells + 1) (slots + 6) Q (F0 m 547 ls [])) : W p l e room_1 s m #[Value.ref b] below meth c H locs cells slots Q (F0 m 264 ls []) := by
  obtain ⟨hn1, hn8, hw, hfw, hgw⟩ := id hinv
  by_cases hv : 0 ≤ (sc (i + 1)).toInt ∧ (sc (i + 1)).toInt < 3 ∧ 0 ≤ (sc (i + 2)).toInt ∧ (sc (i + 2)).toInt ≤ 10000 ∧ 0 ≤ (sc (i + 3)).toInt ∧ (sc (i + 3)).toInt < (n : Int)
  · obtain ⟨d, hb1, e1, f1⟩ := ti_nat (v := sc (i + 1)) (by omega)
    obtain ⟨mm, hb2, e2, f2⟩ := ti_nat (v := sc (i + 2)) (by omega)
    obtain ⟨pp, hb3, e3, f3⟩ := ti_nat (v := sc (i + 3)) (by omega)
    have hd : d < 3 := by omega
    have hm : mm ≤ 10000 := by omega
    have hp : pp < n := by omega
    by_cases hW : 0 < pu_sum w n
    · refine lv_aload_n hx hb d_sl_law_264 rfl (lv_at hl 3 rfl) ?_
      refine lv_aload_n hx hb d_sl_law_265 rfl (lv_at hl 4 rfl) ?_
      refine lv_iload hx hb d_sl_law_266 (lv_at hl 0 rfl) ?_
      refine lv_iconst (v := nI 1) hx hb d_sl_law_268 (by decide) ?_
      refine lv_iadd hx hb d_sl_law_269 ?_
      refine xr_i (nI_add _ _) ?_
      refine sc_ld hx hb hX hbl hbA hS (by omega) hL d_sl_law_270 (v := nI d) e1 ?_
      refine lv_aload_n hx hb d_sl_law_271 rfl (lv_at hl 4 rfl) ?_
      refine lv_iload hx hb d_sl_law_272 (lv_at hl 0 rfl) ?_
      refine lv_iconst (v := nI 2) hx hb d_sl_law_274 (by decide) ?_
      refine lv_iadd hx hb d_sl_law_275 ?_
      refine xr_i (nI_add _ _) ?_
      refine sc_ld hx hb hX hbl hbA hS (by omega) hL d_sl_law_276 (v := nI mm) e2 ?_
      refine lv_aload_n hx hb d_sl_law_277 rfl (lv_at hl 4 rfl) ?_
      refine lv_iload hx hb d_sl_law_278 (lv_at hl 0 rfl) ?_
      refine lv_iconst (v := nI 3) hx hb d_sl_law_280 (by decide) ?_
      refine lv_iadd hx hb d_sl_law_281 ?_
      refine xr_i (nI_add _ _) ?_
      refine sc_ld hx hb hX hbl hbA hS (by omega) hL d_sl_law_282 (v := nI pp) e3 ?_
      refine lv_aload_n hx hb d_sl_law_283 rfl (lv_at hl 1 rfl) ?_
      refine es_i hx hb hml hown hg (c_sl_over l D cI cJ x qw qs qo qt H.size n d mm pp fw fs fo w hn1 hn8 hw hfw hW hd hm hp) ⟨k_166, k_167, k_0, k_168⟩ n_sl_over ⟨rfl, rfl, by decide, by decide⟩ gP_blind (pre_P (hK.sub (tys' := [(cI, .int), (cJ, .long)]) [0, 1] rfl) (hP.sub [0, 1, 2, 9] rfl) (hD.sub [0, 1, 2, 9] rfl rfl)) hP hD hS hA [0, 1, 2, 9] [3, 4, 5, 6, 7, 8] rfl (wr := [aI qo cI fz, oM ym er (nI n) mw ms mk mg, aL mw cJ gw, aL ms cJ gs, aL mk cJ gk, aI mg cZ gg]) rfl rfl (by decide) hl.1 rfl (Nat.le_of_ble_eq_true rfl) d_sl_law_284 ⟨by show _ ≤ 1036; omega, by show _ ≤ 8272; omega⟩ (fun r0 u H locs hu hP hD hS => ?_)
      subst hu
      have hP : va_P D cls2 [oD x qw qs qo (nI n) (nI (pu_sum w n)), aI qw cI fw, aI qs cI u, aI qo cI fz, oM ym er (nI n) mw ms mk mg, aL mw cJ gw, aL ms cJ gs, aL mk cJ gk, aI mg cZ gg, aO qt cJ (vp_updL fo 0 ((lN (pu_sh n w d mm pp * pu_sum w n) - lN (mm * w pp))))] H := hP.sub [6, 7, 8, 0, 1, 2, 3, 4, 5, 9] rfl
      have hD : va_D A [oD x qw qs qo (nI n) (nI (pu_sum w n)), aI qw cI fw, aI qs cI u, aI qo cI fz, oM ym er (nI n) mw ms mk mg, aL mw cJ gw, aL ms cJ gs, aL mk cJ gk, aI mg cZ gg, aO qt cJ (vp_updL fo 0 ((lN (pu_sh n w d mm pp * pu_sum w n) - lN (mm * w pp))))] := hD.sub [6, 7, 8, 0, 1, 2, 3, 4, 5, 9] rfl rfl
      refine lv_istore (lv' := [(5, .int (nI 0)), (4, .int (nI i)), (3, .ref qt), (2, .ref ym), (1, .ref x), (0, .ref b)]) hx hb d_sl_law_287 hl (by decide) rfl (fun ls hl => ?_)
      refine lv_aload_n hx hb d_sl_law_289 rfl (lv_at hl 3 rfl) ?_
      refine lv_aload_n hx hb d_sl_law_290 rfl (lv_at hl 5 rfl) ?_
      refine lv_iload hx hb d_sl_law_291 (lv_at hl 1 rfl) ?_
      refine lv_iconst (v := nI 1) hx hb d_sl_law_293 (by decide) ?_
      refine lv_iadd hx hb d_sl_law_294 ?_
      refine xr_i (nI_add _ _) ?_
      refine sc_ld hx hb hX hbl hbA hS (by omega) hL d_sl_law_295 (v := nI d) e1 ?_
      refine lv_aload_n hx hb d_sl_law_296 rfl (lv_at hl 5 rfl) ?_
      refine lv_iload hx hb d_sl_law_297 (lv_at hl 1 rfl) ?_
      refine lv_iconst (v := nI 2) hx hb d_sl_law_299 (by decide) ?_
      refine lv_iadd hx hb d_sl_law_300 ?_
      refine xr_i (nI_add _ _) ?_
      refine sc_ld hx hb hX hbl hbA hS (by omega) hL d_sl_law_301 (v := nI mm) e2 ?_
      refine lv_aload_n hx hb d_sl_law_302 rfl (lv_at hl 5 rfl) ?_
      refine lv_iload hx hb d_sl_law_303 (lv_at hl 1 rfl) ?_
      refine lv_iconst (v := nI 3) hx hb d_sl_law_305 (by decide) ?_
      refine lv_iadd hx hb d_sl_law_306 ?_
      refine xr_i (nI_add _ _) ?_
      refine sc_ld hx hb hX hbl hbA hS (by omega) hL d_sl_law_307 (v := nI pp) e3 ?_
      refine ev_l (C := "ShareDeskModel") hx hb hml hown hg (c_sm_over l D cJ cZ ym mw ms mk mg H.size n d mm pp er gw gs gk gg w hn1 hn8 hw hgw hW hd hm hp) ⟨k_273, k_274, k_275, k_2, k_276⟩ n_sm_over ⟨rfl, rfl, by decide, by decide⟩ (hK.sub (tys' := [(cJ, .long), (cZ, .boolean)]) [1, 2] rfl) hP hD hS hA [4, 5, 6, 7, 8] [0, 1, 2, 3, 9] rfl rfl (wr := [oD x qw qs qo (nI n) (nI (pu_sum w n)), aI qw cI fw, aI qs cI u, aI qo cI fz, aO qt cJ (vp_updL fo 0 ((lN (pu_sh n w d mm pp * pu_sum w n) - lN (mm * w pp))))]) rfl rfl (by decide) (va_recv (q0 := 4) (ci := 1) hK hP rfl rfl) hl.1 rfl (Nat.le_of_ble_eq_true rfl) d_sl_law_308 ⟨by show _ ≤ 1036; omega, by show _ ≤ 8272; omega⟩ (fun rm um H locs hm9 hP hD hS => ?_)
      have hP : va_P D cls2 [oD x qw qs qo (nI n) (nI (pu_sum w n)), aI qw cI fw, aI qs cI u, aI qo cI fz, oM ym (nI 0) (nI n) mw ms mk mg, aL mw cJ gw, aL ms cJ um.1, aL mk cJ um.2.1, aI mg cZ um.2.2, aO qt cJ (vp_updL fo 0 ((lN (pu_sh n w d mm pp * pu_sum w n) - lN (mm * w pp))))] H := hP.sub [0, 1, 2, 3, 5, 6, 7, 8, 9, 4] rfl
      have hD : va_D A [oD x qw qs qo (nI n) (nI (pu_sum w n)), aI qw cI fw, aI qs cI u, aI qo cI fz, oM ym (nI 0) (nI n) mw ms mk mg, aL mw cJ gw, aL ms cJ um.1, aL mk cJ um.2.1, aI mg cZ um.2.2, aO qt cJ (vp_updL fo 0 ((lN (pu_sh n w d mm pp * pu_sum w n) - lN (mm * w pp))))] := hD.sub [0, 1, 2, 3, 5, 6, 7, 8, 9, 4] rfl rfl
      subst hm9
      have hsh := Nat.le_trans (pu_sh_le (d := d) (m := mm) hW hp) hm
      refine lv_lstore (lv' := [(6, .long (lN (pu_sh n w d mm pp * pu_sum w n) - lN (mm * w pp))), (5, .int (nI 0)), (4, .int (nI i)), (3, .ref qt), (2, .ref ym), (1, .ref x), (0, .ref b)]) hx hb d_sl_law_311 hl (by decide) rfl (fun ls hl => ?_)
      refine lv_aload_n hx hb d_sl_law_313 rfl (lv_at hl 4 rfl) ?_
      refine pv_i (C := "ShareDeskModel") hx hb hml hown hg (c_sm_thrown l D [(cI, .int), (cJ, .long), (cZ, .boolean)] ym mw ms mk mg H.size (nI 0) (nI n)) ⟨k_223, k_224, k_225, k_2, k_226⟩ n_sm_thrown ⟨rfl, rfl, by decide, by decide⟩ hK (hP.sub [4] rfl) (hD.sub [4] rfl rfl) (va_recv (q0 := 4) (ci := 1) hK hP rfl rfl) hl.1 rfl (Nat.le_of_ble_eq_true rfl) d_sl_law_314 ⟨by show _ ≤ 1036; omega, by show _ ≤ 8272; omega⟩ (fun rt hrt => ?_)
      subst hrt
      refine lv_iload hx hb d_sl_law_317 (lv_at hl 1 rfl) ?_
      refine xc_eq (tgt := 324) hx hb d_sl_law_319 (by decide) (by omega) (by omega) (fun hc9 => ?_) (fun hc9 => ?_)
      · refine lv_iload hx hb d_sl_law_324 (lv_at hl 1 rfl) ?_
        refine xz_ne (tgt := 340) hx hb d_sl_law_326 (by decide) (by omega) (fun h8 => ?_) (fun h8 => ?_)
        · exact absurd h8 (by decide)
        · refine lv_aload_n hx hb d_sl_law_329 rfl (lv_at hl 3 rfl) ?_
          refine lv_iconst (v := nI 0) hx hb d_sl_law_330 (by decide) ?_
          refine xo_ld hx hb hK hP 9 1 rfl rfl d_sl_law_331 (v := (lN (pu_sh n w d mm pp * pu_sum w n) - lN (mm * w pp))) pk_uLs ?_
          refine lv_lload hx hb d_sl_law_332 (lv_at hl 0 rfl) ?_
          refine W.lcmp hx hb d_sl_law_334 ?_
          refine lv_if_eq (tgt := 340) hx hb d_sl_law_335 (by decide) (fun _ => ?_) (fun h9 => absurd ((lg_cmp_eq _ _).mpr rfl) h9)
          refine lv_goto (tgt := 547) hx hb d_sl_law_340 (by decide) ?_
          refine W.widen (k := cells + 1) (n := slots + 6) (by omega) (by omega) ?_
          exact kk H locs ls n w (nI 0) fw u fz gw um.1 um.2.1 um.2.2 _ hinv hP hD hS (lv_sub hl [2, 3, 4, 5, 6] rfl)
      · exact absurd rfl hc9
    · have hW0 : pu_sum w n = 0 := by omega
      rw [hW0] at hP hD
      refine lv_aload_n hx hb d_sl_law_264 rfl (lv_at hl 3 rfl) ?_
      refine lv_aload_n hx hb d_sl_law_265 rfl (lv_at hl 4 rfl) ?_
      refine lv_iload hx hb d_sl_law_266 (lv_at hl 0 rfl) ?_
      refine lv_iconst (v := nI 1) hx hb d_sl_law_268 (by decide) ?_
      refine lv_iadd hx hb d_sl_law_269 ?_
      refine xr_i (nI_add _ _) ?_
      refine sc_ld hx hb hX hbl hbA hS (by omega) hL d_sl_law_270 (v := nI d) e1 ?_
      refine lv_aload_n hx hb d_sl_law_271 rfl (lv_at hl 4 rfl) ?_
      refine lv_iload hx hb d_sl_law_272 (lv_at hl 0 rfl) ?_
      refine lv_iconst (v := nI 2) hx hb d_sl_law_274 (by decide) ?_
      refine lv_iadd hx hb d_sl_law_275 ?_
      refine xr_i (nI_add _ _) ?_
      refine sc_ld hx hb hX hbl hbA hS (by omega) hL d_sl_law_276 (v := nI mm) e2 ?_
      refine lv_aload_n hx hb d_sl_law_277 rfl (lv_at hl 4 rfl) ?_
      refine lv_iload hx hb d_sl_law_278 (lv_at hl 0 rfl) ?_
      refine lv_iconst (v := nI 3) hx hb d_sl_law_280 (by decide) ?_
      refine lv_iadd hx hb d_sl_law_281 ?_
      refine xr_i (nI_add _ _) ?_
      refine sc_ld hx hb hX hbl hbA hS (by omega) hL d_sl_law_282 (v := nI pp) e3 ?_
      refine lv_aload_n hx hb d_sl_law_283 rfl (lv_at hl 1 rfl) ?_
      refine es_i hx hb hml hown hg (t_sl_over2 l htr D [(cI, .int), (cJ, .long), (cZ, .boolean)] x qw qs qo qt H.size n d mm pp hn8 hd hm hp) ⟨k_166, k_167, k_0, k_168⟩ n_sl_over ⟨rfl, rfl, by decide, by decide⟩ gY_blind (pre_Y (hK.sub (tys' := [(cI, .int), (cJ, .long), (cZ, .boolean)]) [0, 1, 2] rfl) (hP.sub [0] rfl) (hD.sub [0] rfl rfl) hxs hS hnc) hP hD hS hA [0] [1, 2, 3, 4, 5, 6, 7, 8, 9] rfl (wr := [aI qw cI fw, aI qs cI fs, aI qo cI fz, oM ym er (nI n) mw ms mk mg, aL mw cJ gw, aL ms cJ gs, aL mk cJ gk, aI mg cZ gg, aO qt cJ fo]) rfl rfl (by decide) hl.1 rfl (Nat.le_of_ble_eq_true rfl) d_sl_law_284 ⟨by show _ ≤ 1036; omega, by show _ ≤ 8272; omega⟩ (fun r0 _u H locs hu hP hD hS => ?_)
      subst hu
      have hP : va_P D cls2 [oD x qw qs qo (nI n) (nI 0), aI qw cI fw, aI qs cI fs, aI qo cI fz, oM ym er (nI n) mw ms mk mg, aL mw cJ gw, aL ms cJ gs, aL mk cJ gk, aI mg cZ gg, aO qt cJ fo] H := hP.sub [9, 0, 1, 2, 3, 4, 5, 6, 7, 8] rfl
      have hD : va_D A [oD x qw qs qo (nI n) (nI 0), aI qw cI fw, aI qs cI fs, aI qo cI fz, oM ym er (nI n) mw ms mk mg, aL mw cJ gw, aL ms cJ gs, aL mk cJ gk, aI mg cZ gg, aO qt cJ fo] := hD.sub [9, 0, 1, 2, 3, 4, 5, 6, 7, 8] rfl rfl
      refine lv_istore (lv' := [(5, .int (nI 2)), (4, .int (nI i)), (3, .ref qt), (2, .ref ym), (1, .ref x), (0, .ref b)]) hx hb d_sl_law_287 hl (by decide) rfl (fun ls hl => ?_)
      refine lv_aload_n hx hb d_sl_law_289 rfl (lv_at hl 3 rfl) ?_
      refine lv_aload_n hx hb d_sl_law_290 rfl (lv_at hl 5 rfl) ?_
      refine lv_iload hx hb d_sl_law_291 (lv_at hl 1 rfl) ?_
      refine lv_iconst (v := nI 1) hx hb d_sl_law_293 (by decide) ?_
      refine lv_iadd hx hb d_sl_law_294 ?_
      refine xr_i (nI_add _ _) ?_
      refine sc_ld hx hb hX hbl hbA hS (by omega) hL d_sl_law_295 (v := nI d) e1 ?_
      refine lv_aload_n hx hb d_sl_law_296 rfl (lv_at hl 5 rfl) ?_
      refine lv_iload hx hb d_sl_law_297 (lv_at hl 1 rfl) ?_
      refine lv_iconst (v := nI 2) hx hb d_sl_law_299 (by decide) ?_
      refine lv_iadd hx hb d_sl_law_300 ?_
      refine xr_i (nI_add _ _) ?_
      refine sc_ld hx hb hX hbl hbA hS (by omega) hL d_sl_law_301 (v := nI mm) e2 ?_
      refine lv_aload_n hx hb d_sl_law_302 rfl (lv_at hl 5 rfl) ?_
      refine lv_iload hx hb d_sl_law_303 (lv_at hl 1 rfl) ?_
      refine lv_iconst (v := nI 3) hx hb d_sl_law_305 (by decide) ?_
      refine lv_iadd hx hb d_sl_law_306 ?_
      refine xr_i (nI_add _ _) ?_
      refine sc_ld hx hb hX hbl hbA hS (by omega) hL d_sl_law_307 (v := nI pp) e3 ?_
      refine ev_l (C := "ShareDeskModel") hx hb hml hown hg (c_sm_over2 l D cJ cZ ym mw ms mk mg H.size n d mm pp er gw w hn1 hn8 hw hgw hW0 hd hm hp) ⟨k_273, k_274, k_275, k_2, k_276⟩ n_sm_over ⟨rfl, rfl, by decide, by decide⟩ (hK.sub (tys' := [(cJ, .long), (cZ, .boolean)]) [1, 2] rfl) hP hD hS hA [4, 5] [0, 1, 2, 3, 6, 7, 8, 9] rfl rfl (wr := [oD x qw qs qo (nI n) (nI 0), aI qw cI fw, aI qs cI fs, aI qo cI fz, aL ms cJ gs, aL mk cJ gk, aI mg cZ gg, aO qt cJ fo]) rfl rfl (by decide) (va_recv (q0 := 4) (ci := 1) hK hP rfl rfl) hl.1 rfl (Nat.le_of_ble_eq_true rfl) d_sl_law_308 ⟨by show _ ≤ 1036; omega, by show _ ≤ 8272; omega⟩ (fun rm _um H locs hm9 hP hD hS => ?_)
      have hP : va_P D cls2 [oD x qw qs qo (nI n) (nI 0), aI qw cI fw, aI qs cI fs, aI qo cI fz, oM ym (nI 2) (nI n) mw ms mk mg, aL mw cJ gw, aL ms cJ gs, aL mk cJ gk, aI mg cZ gg, aO qt cJ fo] H := hP.sub [0, 1, 2, 3, 8, 9, 4, 5, 6, 7] rfl
      have hD : va_D A [oD x qw qs qo (nI n) (nI 0), aI qw cI fw, aI qs cI fs, aI qo cI fz, oM ym (nI 2) (nI n) mw ms mk mg, aL mw cJ gw, aL ms cJ gs, aL mk cJ gk, aI mg cZ gg, aO qt cJ fo] := hD.sub [0, 1, 2, 3, 8, 9, 4, 5, 6, 7] rfl rfl
      refine lv_lstore (lv' := [(6, .long rm), (5, .int (nI 2)), (4, .int (nI i)), (3, .ref qt), (2, .ref ym), (1, .ref x), (0, .ref b)]) hx hb d_sl_law_311 hl (by decide) rfl (fun ls hl => ?_)
      refine lv_aload_n hx hb d_sl_law_313 rfl (lv_at hl 4 rfl) ?_
      refine pv_i (C := "ShareDeskModel") hx hb hml hown hg (c_sm_thrown l D [(cI, .int), (cJ, .long), (cZ, .boolean)] ym mw ms mk mg H.size (nI 2) (nI n)) ⟨k_223, k_224, k_225, k_2, k_226⟩ n_sm_thrown ⟨rfl, rfl, by decide, by decide⟩ hK (hP.sub [4] rfl) (hD.sub [4] rfl rfl) (va_recv (q0 := 4) (ci := 1) hK hP rfl rfl) hl.1 rfl (Nat.le_of_ble_eq_true rfl) d_sl_law_314 ⟨by show _ ≤ 1036; omega, by show _ ≤ 8272; omega⟩ (fun rt hrt => ?_)
      subst hrt
      refine lv_iload hx hb d_sl_law_317 (lv_at hl 1 rfl) ?_
      refine xc_eq (tgt := 324) hx hb d_sl_law_319 (by decide) (by omega) (by omega) (fun hc9 => ?_) (fun hc9 => ?_)
      · refine lv_iload hx hb d_sl_law_324 (lv_at hl 1 rfl) ?_
        refine xz_ne (tgt := 340) hx hb d_sl_law_326 (by decide) (by omega) (fun h8 => ?_) (fun h8 => ?_)
        · refine lv_goto (tgt := 547) hx hb d_sl_law_340 (by decide) ?_
          refine W.widen (k := cells + 1) (n := slots + 6) (by omega) (by omega) ?_
          exact kk H locs ls n w (nI 2) fw fs fz gw gs gk gg fo hinv (by rw [hW0]; exact hP) (by rw [hW0]; exact hD) hS (lv_sub hl [2, 3, 4, 5, 6] rfl)
        · exact absurd h8 (by decide)
      · exact absurd rfl hc9
  · refine lv_aload_n hx hb d_sl_law_264 rfl (lv_at hl 3 rfl) ?_
    refine lv_aload_n hx hb d_sl_law_265 rfl (lv_at hl 4 rfl) ?_
    refine lv_iload hx hb d_sl_law_266 (lv_at hl 0 rfl) ?_
    refine lv_iconst (v := nI 1) hx hb d_sl_law_268 (by decide) ?_
    refine lv_iadd hx hb d_sl_law_269 ?_
    refine xr_i (nI_add _ _) ?_
    refine sc_ld hx hb hX hbl hbA hS (by omega) hL d_sl_law_270 (v := sc (i + 1)) rfl ?_
    refine lv_aload_n hx hb d_sl_law_271 rfl (lv_at hl 4 rfl) ?_
    refine lv_iload hx hb d_sl_law_272 (lv_at hl 0 rfl) ?_
    refine lv_iconst (v := nI 2) hx hb d_sl_law_274 (by decide) ?_
    refine lv_iadd hx hb d_sl_law_275 ?_
    refine xr_i (nI_add _ _) ?_
    refine sc_ld hx hb hX hbl hbA hS (by omega) hL d_sl_law_276 (v := sc (i + 2)) rfl ?_
    refine lv_aload_n hx hb d_sl_law_277 rfl (lv_at hl 4 rfl) ?_
    refine lv_iload hx hb d_sl_law_278 (lv_at hl 0 rfl) ?_
    refine lv_iconst (v := nI 3) hx hb d_sl_law_280 (by decide) ?_
    refine lv_iadd hx hb d_sl_law_281 ?_
    refine xr_i (nI_add _ _) ?_
    refine sc_ld hx hb hX hbl hbA hS (by omega) hL d_sl_law_282 (v := sc (i + 3)) rfl ?_
    refine lv_aload_n hx hb d_sl_law_283 rfl (lv_at hl 1 rfl) ?_
    refine es_i hx hb hml hown hg (t_sl_over1 l htr D [(cI, .int), (cJ, .long), (cZ, .boolean)] x qw qs qo qt H.size n (pu_sum w n) (sc (i + 1)) (sc (i + 2)) (sc (i + 3)) hn8 hv) ⟨k_166, k_167, k_0, k_168⟩ n_sl_over ⟨rfl, rfl, by decide, by decide⟩ gX_blind (pre_X (hK.sub (tys' := [(cI, .int), (cJ, .long), (cZ, .boolean)]) [0, 1, 2] rfl) (hP.sub [0] rfl) (hD.sub [0] rfl rfl) hxs hS) hP hD hS hA [0] [1, 2, 3, 4, 5, 6, 7, 8, 9] rfl (wr := [aI qw cI fw, aI qs cI fs, aI qo cI fz, oM ym er (nI n) mw ms mk mg, aL mw cJ gw, aL ms cJ gs, aL mk cJ gk, aI mg cZ gg, aO qt cJ fo]) rfl rfl (by decide) hl.1 rfl (Nat.le_of_ble_eq_true rfl) d_sl_law_284 ⟨by show _ ≤ 1036; omega, by show _ ≤ 8272; omega⟩ (fun r0 _u H locs hu hP hD hS => ?_)
    subst hu
    have hP : va_P D cls2 [oD x qw qs qo (nI n) (nI (pu_sum w n)), aI qw cI fw, aI qs cI fs, aI qo cI fz, oM ym er (nI n) mw ms mk mg, aL mw cJ gw, aL ms cJ gs, aL mk cJ gk, aI mg cZ gg, aO qt cJ fo] H := hP.sub [9, 0, 1, 2, 3, 4, 5, 6, 7, 8] rfl
    have hD : va_D A [oD x qw qs qo (nI n) (nI (pu_sum w n)), aI qw cI fw, aI qs cI fs, aI qo cI fz, oM ym er (nI n) mw ms mk mg, aL mw cJ gw, aL ms cJ gs, aL mk cJ gk, aI mg cZ gg, aO qt cJ fo] := hD.sub [9, 0, 1, 2, 3, 4, 5, 6, 7, 8] rfl rfl
    refine lv_istore (lv' := [(5, .int (nI 1)), (4, .int (nI i)), (3, .ref qt), (2, .ref ym), (1, .ref x), (0, .ref b)]) hx hb d_sl_law_287 hl (by decide) rfl (fun ls hl => ?_)
    refine lv_aload_n hx hb d_sl_law_289 rfl (lv_at hl 3 rfl) ?_
    refine lv_aload_n hx hb d_sl_law_290 rfl (lv_at hl 5 rfl) ?_
    refine lv_iload hx hb d_sl_law_291 (lv_at hl 1 rfl) ?_
    refine lv_iconst (v := nI 1) hx hb d_sl_law_293 (by decide) ?_
    refine lv_iadd hx hb d_sl_law_294 ?_
    refine xr_i (nI_add _ _) ?_
    refine sc_ld hx hb hX hbl hbA hS (by omega) hL d_sl_law_295 (v := sc (i + 1)) rfl ?_
    refine lv_aload_n hx hb d_sl_law_296 rfl (lv_at hl 5 rfl) ?_
    refine lv_iload hx hb d_sl_law_297 (lv_at hl 1 rfl) ?_
    refine lv_iconst (v := nI 2) hx hb d_sl_law_299 (by decide) ?_
    refine lv_iadd hx hb d_sl_law_300 ?_
    refine xr_i (nI_add _ _) ?_
    refine sc_ld hx hb hX hbl hbA hS (by omega) hL d_sl_law_301 (v := sc (i + 2)) rfl ?_
    refine lv_aload_n hx hb d_sl_law_302 rfl (lv_at hl 5 rfl) ?_
    refine lv_iload hx hb d_sl_law_303 (lv_at hl 1 rfl) ?_
    refine lv_iconst (v := nI 3) hx hb d_sl_law_305 (by decide) ?_
    refine lv_iadd hx hb d_sl_law_306 ?_
    refine xr_i (nI_add _ _) ?_
    refine sc_ld hx hb hX hbl hbA hS (by omega) hL d_sl_law_307 (v := sc (i + 3)) rfl ?_
    refine ev_l (C := "ShareDeskModel") hx hb hml hown hg (c_sm_over1 l D cJ cZ ym mw ms mk mg H.size n er (sc (i + 1)) (sc (i + 2)) (sc (i + 3)) gw hn1 hn8 hv) ⟨k_273, k_274, k_275, k_2, k_276⟩ n_sm_over ⟨rfl, rfl, by decide, by decide⟩ (hK.sub (tys' := [(cJ, .long), (cZ, .boolean)]) [1, 2] rfl) hP hD hS hA [4, 5] [0, 1, 2, 3, 6, 7, 8, 9] rfl rfl (wr := [oD x qw qs qo (nI n) (nI (pu_sum w n)), aI qw cI fw, aI qs cI fs, aI qo cI fz, aL ms cJ gs, aL mk cJ gk, aI mg cZ gg, aO qt cJ fo]) rfl rfl (by decide) (va_recv (q0 := 4) (ci := 1) hK hP rfl rfl) hl.1 rfl (Nat.le_of_ble_eq_true rfl) d_sl_law_308 ⟨by show _ ≤ 1036; omega, by show _ ≤ 8272; omega⟩ (fun rm _um H locs hm9 hP hD hS => ?_)
    have hP : va_P D cls2 [oD x qw qs qo (nI n) (nI (pu_sum w n)), aI qw cI fw, aI qs cI fs, aI qo cI fz, oM ym (nI 1) (nI n) mw ms mk mg, aL mw cJ gw, aL ms cJ gs, aL mk cJ gk, aI mg cZ gg, aO qt cJ fo] H := hP.sub [0, 1, 2, 3, 8, 9, 4, 5, 6, 7] rfl
    have hD : va_D A [oD x qw qs qo (nI n) (nI (pu_sum w n)), aI qw cI fw, aI qs cI fs, aI qo cI fz, oM ym (nI 1) (nI n) mw ms mk mg, aL mw cJ gw, aL ms cJ gs, aL mk cJ gk, aI mg cZ gg, aO qt cJ fo] := hD.sub [0, 1, 2, 3, 8, 9, 4, 5, 6, 7] rfl rfl
    refine lv_lstore (lv' := [(6, .long rm), (5, .int (nI 1)), (4, .int (nI i)), (3, .ref qt), (2, .ref ym), (1, .ref x), (0, .ref b)]) hx hb d_sl_law_311 hl (by decide) rfl (fun ls hl => ?_)
    refine lv_aload_n hx hb d_sl_law_313 rfl (lv_at hl 4 rfl) ?_
    refine pv_i (C := "ShareDeskModel") hx hb hml hown hg (c_sm_thrown l D [(cI, .int), (cJ, .long), (cZ, .boolean)] ym mw ms mk mg H.size (nI 1) (nI n)) ⟨k_223, k_224, k_225, k_2, k_226⟩ n_sm_thrown ⟨rfl, rfl, by decide, by decide⟩ hK (hP.sub [4] rfl) (hD.sub [4] rfl rfl) (va_recv (q0 := 4) (ci := 1) hK hP rfl rfl) hl.1 rfl (Nat.le_of_ble_eq_true rfl) d_sl_law_314 ⟨by show _ ≤ 1036; omega, by show _ ≤ 8272; omega⟩ (fun rt hrt => ?_)
    subst hrt
    refine lv_iload hx hb d_sl_law_317 (lv_at hl 1 rfl) ?_
    refine xc_eq (tgt := 324) hx hb d_sl_law_319 (by decide) (by omega) (by omega) (fun hc9 => ?_) (fun hc9 => ?_)
    · refine lv_iload hx hb d_sl_law_324 (lv_at hl 1 rfl) ?_
      refine xz_ne (tgt := 340) hx hb d_sl_law_326 (by decide) (by omega) (fun h8 => ?_) (fun h8 => ?_)
      · refine lv_goto (tgt := 547) hx hb d_sl_law_340 (by decide) ?_
        refine W.widen (k := cells + 1) (n := slots + 6) (by omega) (by omega) ?_
        exact kk H locs ls n w (nI 1) fw fs fz gw gs gk gg fo hinv hP hD hS (lv_sub hl [2, 3, 4, 5, 6] rfl)
      · exact absurd h8 (by decide)
    · exact absurd rfl hc9
set_option maxRecDepth 20000 in
set_option maxHeartbeats 4000000 in
theorem law_next {cells slots i : Nat} {H : Heap} {locs : List Loc} {ls : Array Slot} {n : Nat} {w : Nat → Nat} {er : Int32} {fw fs fz : Nat → Int32} {gw gs gk : Nat → Int64} {gg : Nat → Int32} {fo : Nat → Int64} (hx : p.tables.exec = Jvm.exec) (hb : c.code = code) (hml : c.maxLocals = 8) (hown : s.vm.findClass "ShareDeskLaw" = some m.cls) (hg : ∀ w ∈ gws, w.before #[Value.ref b] s = true) (htr : l.stackTraces = false) (hK : va_K D cls2 [(cI, .int), (cJ, .long), (cZ, .boolean)] s) (hA : ∀ q, s.heap.size ≤ q → A q) (hX : va_X b L sc s s.heap) (hbl : b < s.heap.size) (hbA : ¬ A b) (hxs : xs A s s.heap) (hnc : nc s) (hL : L ≤ 2048) (hinv : lwInv n w fw gw) (hi : i + 4 ≤ L) (hcs : cells + 1 ≤ 1036 ∧ slots + 6 ≤ 8272) (hP : va_P D cls2 [oD x qw qs qo (nI n) (nI (pu_sum w n)), aI qw cI fw, aI qs cI fs, aI qo cI fz, oM ym er (nI n) mw ms mk mg, aL mw cJ gw, aL ms cJ gs, aL mk cJ gk, aI mg cZ gg, aO qt cJ fo] H) (hD : va_D A [oD x qw qs qo (nI n) (nI (pu_sum w n)), aI qw cI fw, aI qs cI fs, aI qo cI fz, oM ym er (nI n) mw ms mk mg, aL mw cJ gw, aL ms cJ gs, aL mk cJ gk, aI mg cZ gg, aO qt cJ fo]) (hS : va_S A s.heap H locs) (hl : lv_has ls 8 [(4, .int (nI i)), (3, .ref qt), (2, .ref ym), (1, .ref x), (0, .ref b)]) (kk : ∀ (H : Heap) (locs : List Loc) (ls : Array Slot) (n : Nat) (w : Nat → Nat) (er : Int32) (fw fs fz : Nat → Int32) (gw gs gk : Nat → Int64) (gg : Nat → Int32) (fo : Nat → Int64), lwInv n w fw gw → va_P D cls2 [oD x qw qs qo (nI n) (nI (pu_sum w n)), aI qw cI fw, aI qs cI fs, aI qo cI fz, oM ym er (nI n) mw ms mk mg, aL mw cJ gw, aL ms cJ gs, aL mk cJ gk, aI mg cZ gg, aO qt cJ fo] H → va_D A [oD x qw qs qo (nI n) (nI (pu_sum w n)), aI qw cI fw, aI qs cI fs, aI qo cI fz, oM ym er (nI n) mw ms mk mg, aL mw cJ gw, aL ms cJ gs, aL mk cJ gk, aI mg cZ gg, aO qt cJ fo] → va_S A s.heap H locs → lv_has ls 8 [(4, .int (nI i)), (3, .ref qt), (2, .ref ym), (1, .ref x), (0, .ref b)] → W p l e room_1 s m #[Value.ref b] below meth c H locs (cells + 1) (slots + 6) Q (F0 m 547 ls [])) : W p l e room_1 s m #[Value.ref b] below meth c H locs cells slots Q (F0 m 343 ls []) := by
  obtain ⟨hn1, hn8, hw, hfw, hgw⟩ := id hinv
  by_cases hv : 0 ≤ (sc (i + 1)).toInt ∧ (sc (i + 1)).toInt < 3 ∧ 0 ≤ (sc (i + 2)).toInt ∧ (sc (i + 2)).toInt ≤ 9999
  · obtain ⟨d, hb1, e1, f1⟩ := ti_nat (v := sc (i + 1)) (by omega)
    obtain ⟨mm, hb2, e2, f2⟩ := ti_nat (v := sc (i + 2)) (by omega)
    have hd : d < 3 := by omega
    have hm : mm < 10000 := by omega
    by_cases hW : 0 < pu_sum w n
    · refine lv_aload_n hx hb d_sl_law_343 rfl (lv_at hl 3 rfl) ?_
      refine lv_aload_n hx hb d_sl_law_344 rfl (lv_at hl 4 rfl) ?_
      refine lv_iload hx hb d_sl_law_345 (lv_at hl 0 rfl) ?_
      refine lv_iconst (v := nI 1) hx hb d_sl_law_347 (by decide) ?_
      refine lv_iadd hx hb d_sl_law_348 ?_
      refine xr_i (nI_add _ _) ?_
      refine sc_ld hx hb hX hbl hbA hS (by omega) hL d_sl_law_349 (v := nI d) e1 ?_
      refine lv_aload_n hx hb d_sl_law_350 rfl (lv_at hl 4 rfl) ?_
      refine lv_iload hx hb d_sl_law_351 (lv_at hl 0 rfl) ?_
      refine lv_iconst (v := nI 2) hx hb d_sl_law_353 (by decide) ?_
      refine lv_iadd hx hb d_sl_law_354 ?_
      refine xr_i (nI_add _ _) ?_
      refine sc_ld hx hb hX hbl hbA hS (by omega) hL d_sl_law_355 (v := nI mm) e2 ?_
      refine lv_aload_n hx hb d_sl_law_356 rfl (lv_at hl 1 rfl) ?_
      refine es_i hx hb hml hown hg (c_sl_next l D cI cJ x qw qs qo qt H.size n d mm fw fs fz fo w hn1 hn8 hw hfw hW hd hm) ⟨k_174, k_175, k_0, k_176⟩ n_sl_next ⟨rfl, rfl, by decide, by decide⟩ gP_blind (pre_P (hK.sub (tys' := [(cI, .int), (cJ, .long)]) [0, 1] rfl) (hP.sub [0, 1, 2, 3, 9] rfl) (hD.sub [0, 1, 2, 3, 9] rfl rfl)) hP hD hS hA [0, 1, 2, 3, 9] [4, 5, 6, 7, 8] rfl (wr := [oM ym er (nI n) mw ms mk mg, aL mw cJ gw, aL ms cJ gs, aL mk cJ gk, aI mg cZ gg]) rfl rfl (by decide) hl.1 rfl (Nat.le_of_ble_eq_true rfl) d_sl_law_357 ⟨by show _ ≤ 1036; omega, by show _ ≤ 8272; omega⟩ (fun r0 u H locs hu hP hD hS => ?_)
      subst hu
      have hP : va_P D cls2 [oD x qw qs qo (nI n) (nI (pu_sum w n)), aI qw cI fw, aI qs cI u.1, aI qo cI u.2, oM ym er (nI n) mw ms mk mg, aL mw cJ gw, aL ms cJ gs, aL mk cJ gk, aI mg cZ gg, aO qt cJ (vp_updL fo 0 (pu_nxR (pu_nx (pu_sh n w d mm) (pu_sh n w d (mm + 1)) n)).toInt64)] H := hP.sub [5, 6, 7, 8, 0, 1, 2, 3, 4, 9] rfl
      have hD : va_D A [oD x qw qs qo (nI n) (nI (pu_sum w n)), aI qw cI fw, aI qs cI u.1, aI qo cI u.2, oM ym er (nI n) mw ms mk mg, aL mw cJ gw, aL ms cJ gs, aL mk cJ gk, aI mg cZ gg, aO qt cJ (vp_updL fo 0 (pu_nxR (pu_nx (pu_sh n w d mm) (pu_sh n w d (mm + 1)) n)).toInt64)] := hD.sub [5, 6, 7, 8, 0, 1, 2, 3, 4, 9] rfl rfl
      refine lv_istore (lv' := [(5, .int (nI 0)), (4, .int (nI i)), (3, .ref qt), (2, .ref ym), (1, .ref x), (0, .ref b)]) hx hb d_sl_law_360 hl (by decide) rfl (fun ls hl => ?_)
      refine lv_aload_n hx hb d_sl_law_362 rfl (lv_at hl 3 rfl) ?_
      refine lv_aload_n hx hb d_sl_law_363 rfl (lv_at hl 5 rfl) ?_
      refine lv_iload hx hb d_sl_law_364 (lv_at hl 1 rfl) ?_
      refine lv_iconst (v := nI 1) hx hb d_sl_law_366 (by decide) ?_
      refine lv_iadd hx hb d_sl_law_367 ?_
      refine xr_i (nI_add _ _) ?_
      refine sc_ld hx hb hX hbl hbA hS (by omega) hL d_sl_law_368 (v := nI d) e1 ?_
      refine lv_aload_n hx hb d_sl_law_369 rfl (lv_at hl 5 rfl) ?_
      refine lv_iload hx hb d_sl_law_370 (lv_at hl 1 rfl) ?_
      refine lv_iconst (v := nI 2) hx hb d_sl_law_372 (by decide) ?_
      refine lv_iadd hx hb d_sl_law_373 ?_
      refine xr_i (nI_add _ _) ?_
      refine sc_ld hx hb hX hbl hbA hS (by omega) hL d_sl_law_374 (v := nI mm) e2 ?_
      refine ev_i (C := "ShareDeskModel") hx hb hml hown hg (c_sm_next l D cJ cZ ym mw ms mk mg H.size n d mm er gw gs gk gg w hn1 hn8 hw hgw hW hd hm) ⟨k_277, k_278, k_279, k_2, k_280⟩ n_sm_next ⟨rfl, rfl, by decide, by decide⟩ (hK.sub (tys' := [(cJ, .long), (cZ, .boolean)]) [1, 2] rfl) hP hD hS hA [4, 5, 6, 7, 8] [0, 1, 2, 3, 9] rfl rfl (wr := [oD x qw qs qo (nI n) (nI (pu_sum w n)), aI qw cI fw, aI qs cI u.1, aI qo cI u.2, aO qt cJ (vp_updL fo 0 (pu_nxR (pu_nx (pu_sh n w d mm) (pu_sh n w d (mm + 1)) n)).toInt64)]) rfl rfl (by decide) (va_recv (q0 := 4) (ci := 1) hK hP rfl rfl) hl.1 rfl (Nat.le_of_ble_eq_true rfl) d_sl_law_375 ⟨by show _ ≤ 1036; omega, by show _ ≤ 8272; omega⟩ (fun rm um H locs hm9 hP hD hS => ?_)
      have hP : va_P D cls2 [oD x qw qs qo (nI n) (nI (pu_sum w n)), aI qw cI fw, aI qs cI u.1, aI qo cI u.2, oM ym (nI 0) (nI n) mw ms mk mg, aL mw cJ gw, aL ms cJ um.1, aL mk cJ um.2.1, aI mg cZ um.2.2, aO qt cJ (vp_updL fo 0 (pu_nxR (pu_nx (pu_sh n w d mm) (pu_sh n w d (mm + 1)) n)).toInt64)] H := hP.sub [0, 1, 2, 3, 5, 6, 7, 8, 9, 4] rfl
      have hD : va_D A [oD x qw qs qo (nI n) (nI (pu_sum w n)), aI qw cI fw, aI qs cI u.1, aI qo cI u.2, oM ym (nI 0) (nI n) mw ms mk mg, aL mw cJ gw, aL ms cJ um.1, aL mk cJ um.2.1, aI mg cZ um.2.2, aO qt cJ (vp_updL fo 0 (pu_nxR (pu_nx (pu_sh n w d mm) (pu_sh n w d (mm + 1)) n)).toInt64)] := hD.sub [0, 1, 2, 3, 5, 6, 7, 8, 9, 4] rfl rfl
      subst hm9
      refine lv_istore (lv' := [(6, .int (pu_nxR (pu_nx (pu_sh n w d mm) (pu_sh n w d (mm + 1)) n))), (5, .int (nI 0)), (4, .int (nI i)), (3, .ref qt), (2, .ref ym), (1, .ref x), (0, .ref b)]) hx hb d_sl_law_378 hl (by decide) rfl (fun ls hl => ?_)
      refine lv_aload_n hx hb d_sl_law_380 rfl (lv_at hl 4 rfl) ?_
      refine pv_i (C := "ShareDeskModel") hx hb hml hown hg (c_sm_thrown l D [(cI, .int), (cJ, .long), (cZ, .boolean)] ym mw ms mk mg H.size (nI 0) (nI n)) ⟨k_223, k_224, k_225, k_2, k_226⟩ n_sm_thrown ⟨rfl, rfl, by decide, by decide⟩ hK (hP.sub [4] rfl) (hD.sub [4] rfl rfl) (va_recv (q0 := 4) (ci := 1) hK hP rfl rfl) hl.1 rfl (Nat.le_of_ble_eq_true rfl) d_sl_law_381 ⟨by show _ ≤ 1036; omega, by show _ ≤ 8272; omega⟩ (fun rt hrt => ?_)
      subst hrt
      refine lv_iload hx hb d_sl_law_384 (lv_at hl 1 rfl) ?_
      refine xc_eq (tgt := 391) hx hb d_sl_law_386 (by decide) (by omega) (by omega) (fun hc9 => ?_) (fun hc9 => ?_)
      · refine lv_iload hx hb d_sl_law_391 (lv_at hl 1 rfl) ?_
        refine xz_ne (tgt := 408) hx hb d_sl_law_393 (by decide) (by omega) (fun h8 => ?_) (fun h8 => ?_)
        · exact absurd h8 (by decide)
        · refine lv_aload_n hx hb d_sl_law_396 rfl (lv_at hl 3 rfl) ?_
          refine lv_iconst (v := nI 0) hx hb d_sl_law_397 (by decide) ?_
          refine xo_ld hx hb hK hP 9 1 rfl rfl d_sl_law_398 (v := (pu_nxR (pu_nx (pu_sh n w d mm) (pu_sh n w d (mm + 1)) n)).toInt64) pk_uLs ?_
          refine lv_iload hx hb d_sl_law_399 (lv_at hl 0 rfl) ?_
          refine lv_i2l hx hb d_sl_law_401 rfl ?_
          refine W.lcmp hx hb d_sl_law_402 ?_
          refine lv_if_eq (tgt := 408) hx hb d_sl_law_403 (by decide) (fun _ => ?_) (fun h9 => absurd ((lg_cmp_eq _ _).mpr rfl) h9)
          refine lv_goto (tgt := 547) hx hb d_sl_law_408 (by decide) ?_
          refine W.widen (k := cells + 1) (n := slots + 6) (by omega) (by omega) ?_
          exact kk H locs ls n w (nI 0) fw u.1 u.2 gw um.1 um.2.1 um.2.2 _ hinv hP hD hS (lv_sub hl [2, 3, 4, 5, 6] rfl)
      · exact absurd rfl hc9
    · have hW0 : pu_sum w n = 0 := by omega
      rw [hW0] at hP hD
      refine lv_aload_n hx hb d_sl_law_343 rfl (lv_at hl 3 rfl) ?_
      refine lv_aload_n hx hb d_sl_law_344 rfl (lv_at hl 4 rfl) ?_
      refine lv_iload hx hb d_sl_law_345 (lv_at hl 0 rfl) ?_
      refine lv_iconst (v := nI 1) hx hb d_sl_law_347 (by decide) ?_
      refine lv_iadd hx hb d_sl_law_348 ?_
      refine xr_i (nI_add _ _) ?_
      refine sc_ld hx hb hX hbl hbA hS (by omega) hL d_sl_law_349 (v := nI d) e1 ?_
      refine lv_aload_n hx hb d_sl_law_350 rfl (lv_at hl 4 rfl) ?_
      refine lv_iload hx hb d_sl_law_351 (lv_at hl 0 rfl) ?_
      refine lv_iconst (v := nI 2) hx hb d_sl_law_353 (by decide) ?_
      refine lv_iadd hx hb d_sl_law_354 ?_
      refine xr_i (nI_add _ _) ?_
      refine sc_ld hx hb hX hbl hbA hS (by omega) hL d_sl_law_355 (v := nI mm) e2 ?_
      refine lv_aload_n hx hb d_sl_law_356 rfl (lv_at hl 1 rfl) ?_
      refine es_i hx hb hml hown hg (t_sl_next2 l htr D [(cI, .int), (cJ, .long), (cZ, .boolean)] x qw qs qo qt H.size n d mm hd hm) ⟨k_174, k_175, k_0, k_176⟩ n_sl_next ⟨rfl, rfl, by decide, by decide⟩ gY_blind (pre_Y (hK.sub (tys' := [(cI, .int), (cJ, .long), (cZ, .boolean)]) [0, 1, 2] rfl) (hP.sub [0] rfl) (hD.sub [0] rfl rfl) hxs hS hnc) hP hD hS hA [0] [1, 2, 3, 4, 5, 6, 7, 8, 9] rfl (wr := [aI qw cI fw, aI qs cI fs, aI qo cI fz, oM ym er (nI n) mw ms mk mg, aL mw cJ gw, aL ms cJ gs, aL mk cJ gk, aI mg cZ gg, aO qt cJ fo]) rfl rfl (by decide) hl.1 rfl (Nat.le_of_ble_eq_true rfl) d_sl_law_357 ⟨by show _ ≤ 1036; omega, by show _ ≤ 8272; omega⟩ (fun r0 _u H locs hu hP hD hS => ?_)
      subst hu
      have hP : va_P D cls2 [oD x qw qs qo (nI n) (nI 0), aI qw cI fw, aI qs cI fs, aI qo cI fz, oM ym er (nI n) mw ms mk mg, aL mw cJ gw, aL ms cJ gs, aL mk cJ gk, aI mg cZ gg, aO qt cJ fo] H := hP.sub [9, 0, 1, 2, 3, 4, 5, 6, 7, 8] rfl
      have hD : va_D A [oD x qw qs qo (nI n) (nI 0), aI qw cI fw, aI qs cI fs, aI qo cI fz, oM ym er (nI n) mw ms mk mg, aL mw cJ gw, aL ms cJ gs, aL mk cJ gk, aI mg cZ gg, aO qt cJ fo] := hD.sub [9, 0, 1, 2, 3, 4, 5, 6, 7, 8] rfl rfl
      refine lv_istore (lv' := [(5, .int (nI 2)), (4, .int (nI i)), (3, .ref qt), (2, .ref ym), (1, .ref x), (0, .ref b)]) hx hb d_sl_law_360 hl (by decide) rfl (fun ls hl => ?_)
      refine lv_aload_n hx hb d_sl_law_362 rfl (lv_at hl 3 rfl) ?_
      refine lv_aload_n hx hb d_sl_law_363 rfl (lv_at hl 5 rfl) ?_
      refine lv_iload hx hb d_sl_law_364 (lv_at hl 1 rfl) ?_
      refine lv_iconst (v := nI 1) hx hb d_sl_law_366 (by decide) ?_
      refine lv_iadd hx hb d_sl_law_367 ?_
      refine xr_i (nI_add _ _) ?_
      refine sc_ld hx hb hX hbl hbA hS (by omega) hL d_sl_law_368 (v := nI d) e1 ?_
      refine lv_aload_n hx hb d_sl_law_369 rfl (lv_at hl 5 rfl) ?_
      refine lv_iload hx hb d_sl_law_370 (lv_at hl 1 rfl) ?_
      refine lv_iconst (v := nI 2) hx hb d_sl_law_372 (by decide) ?_
      refine lv_iadd hx hb d_sl_law_373 ?_
      refine xr_i (nI_add _ _) ?_
      refine sc_ld hx hb hX hbl hbA hS (by omega) hL d_sl_law_374 (v := nI mm) e2 ?_
      refine ev_i (C := "ShareDeskModel") hx hb hml hown hg (c_sm_next2 l D cJ cZ ym mw ms mk mg H.size n d mm er gw w hn1 hn8 hw hgw hW0 hd hm) ⟨k_277, k_278, k_279, k_2, k_280⟩ n_sm_next ⟨rfl, rfl, by decide, by decide⟩ (hK.sub (tys' := [(cJ, .long), (cZ, .boolean)]) [1, 2] rfl) hP hD hS hA [4, 5] [0, 1, 2, 3, 6, 7, 8, 9] rfl rfl (wr := [oD x qw qs qo (nI n) (nI 0), aI qw cI fw, aI qs cI fs, aI qo cI fz, aL ms cJ gs, aL mk cJ gk, aI mg cZ gg, aO qt cJ fo]) rfl rfl (by decide) (va_recv (q0 := 4) (ci := 1) hK hP rfl rfl) hl.1 rfl (Nat.le_of_ble_eq_true rfl) d_sl_law_375 ⟨by show _ ≤ 1036; omega, by show _ ≤ 8272; omega⟩ (fun rm _um H locs hm9 hP hD hS => ?_)
      have hP : va_P D cls2 [oD x qw qs qo (nI n) (nI 0), aI qw cI fw, aI qs cI fs, aI qo cI fz, oM ym (nI 2) (nI n) mw ms mk mg, aL mw cJ gw, aL ms cJ gs, aL mk cJ gk, aI mg cZ gg, aO qt cJ fo] H := hP.sub [0, 1, 2, 3, 8, 9, 4, 5, 6, 7] rfl
      have hD : va_D A [oD x qw qs qo (nI n) (nI 0), aI qw cI fw, aI qs cI fs, aI qo cI fz, oM ym (nI 2) (nI n) mw ms mk mg, aL mw cJ gw, aL ms cJ gs, aL mk cJ gk, aI mg cZ gg, aO qt cJ fo] := hD.sub [0, 1, 2, 3, 8, 9, 4, 5, 6, 7] rfl rfl
      refine lv_istore (lv' := [(6, .int rm), (5, .int (nI 2)), (4, .int (nI i)), (3, .ref qt), (2, .ref ym), (1, .ref x), (0, .ref b)]) hx hb d_sl_law_378 hl (by decide) rfl (fun ls hl => ?_)
      refine lv_aload_n hx hb d_sl_law_380 rfl (lv_at hl 4 rfl) ?_
      refine pv_i (C := "ShareDeskModel") hx hb hml hown hg (c_sm_thrown l D [(cI, .int), (cJ, .long), (cZ, .boolean)] ym mw ms mk mg H.size (nI 2) (nI n)) ⟨k_223, k_224, k_225, k_2, k_226⟩ n_sm_thrown ⟨rfl, rfl, by decide, by decide⟩ hK (hP.sub [4] rfl) (hD.sub [4] rfl rfl) (va_recv (q0 := 4) (ci := 1) hK hP rfl rfl) hl.1 rfl (Nat.le_of_ble_eq_true rfl) d_sl_law_381 ⟨by show _ ≤ 1036; omega, by show _ ≤ 8272; omega⟩ (fun rt hrt => ?_)
      subst hrt
      refine lv_iload hx hb d_sl_law_384 (lv_at hl 1 rfl) ?_
      refine xc_eq (tgt := 391) hx hb d_sl_law_386 (by decide) (by omega) (by omega) (fun hc9 => ?_) (fun hc9 => ?_)
      · refine lv_iload hx hb d_sl_law_391 (lv_at hl 1 rfl) ?_
        refine xz_ne (tgt := 408) hx hb d_sl_law_393 (by decide) (by omega) (fun h8 => ?_) (fun h8 => ?_)
        · refine lv_goto (tgt := 547) hx hb d_sl_law_408 (by decide) ?_
          refine W.widen (k := cells + 1) (n := slots + 6) (by omega) (by omega) ?_
          exact kk H locs ls n w (nI 2) fw fs fz gw gs gk gg fo hinv (by rw [hW0]; exact hP) (by rw [hW0]; exact hD) hS (lv_sub hl [2, 3, 4, 5, 6] rfl)
        · exact absurd h8 (by decide)
      · exact absurd rfl hc9
  · refine lv_aload_n hx hb d_sl_law_343 rfl (lv_at hl 3 rfl) ?_
    refine lv_aload_n hx hb d_sl_law_344 rfl (lv_at hl 4 rfl) ?_
    refine lv_iload hx hb d_sl_law_345 (lv_at hl 0 rfl) ?_
    refine lv_iconst (v := nI 1) hx hb d_sl_law_347 (by decide) ?_
    refine lv_iadd hx hb d_sl_law_348 ?_
    refine xr_i (nI_add _ _) ?_
    refine sc_ld hx hb hX hbl hbA hS (by omega) hL d_sl_law_349 (v := sc (i + 1)) rfl ?_
    refine lv_aload_n hx hb d_sl_law_350 rfl (lv_at hl 4 rfl) ?_
    refine lv_iload hx hb d_sl_law_351 (lv_at hl 0 rfl) ?_
    refine lv_iconst (v := nI 2) hx hb d_sl_law_353 (by decide) ?_
    refine lv_iadd hx hb d_sl_law_354 ?_
    refine xr_i (nI_add _ _) ?_
    refine sc_ld hx hb hX hbl hbA hS (by omega) hL d_sl_law_355 (v := sc (i + 2)) rfl ?_
    refine lv_aload_n hx hb d_sl_law_356 rfl (lv_at hl 1 rfl) ?_
    refine es_i hx hb hml hown hg (t_sl_next1 l htr D [(cI, .int), (cJ, .long), (cZ, .boolean)] x qw qs qo qt H.size n (pu_sum w n) (sc (i + 1)) (sc (i + 2)) hv) ⟨k_174, k_175, k_0, k_176⟩ n_sl_next ⟨rfl, rfl, by decide, by decide⟩ gX_blind (pre_X (hK.sub (tys' := [(cI, .int), (cJ, .long), (cZ, .boolean)]) [0, 1, 2] rfl) (hP.sub [0] rfl) (hD.sub [0] rfl rfl) hxs hS) hP hD hS hA [0] [1, 2, 3, 4, 5, 6, 7, 8, 9] rfl (wr := [aI qw cI fw, aI qs cI fs, aI qo cI fz, oM ym er (nI n) mw ms mk mg, aL mw cJ gw, aL ms cJ gs, aL mk cJ gk, aI mg cZ gg, aO qt cJ fo]) rfl rfl (by decide) hl.1 rfl (Nat.le_of_ble_eq_true rfl) d_sl_law_357 ⟨by show _ ≤ 1036; omega, by show _ ≤ 8272; omega⟩ (fun r0 _u H locs hu hP hD hS => ?_)
    subst hu
    have hP : va_P D cls2 [oD x qw qs qo (nI n) (nI (pu_sum w n)), aI qw cI fw, aI qs cI fs, aI qo cI fz, oM ym er (nI n) mw ms mk mg, aL mw cJ gw, aL ms cJ gs, aL mk cJ gk, aI mg cZ gg, aO qt cJ fo] H := hP.sub [9, 0, 1, 2, 3, 4, 5, 6, 7, 8] rfl
    have hD : va_D A [oD x qw qs qo (nI n) (nI (pu_sum w n)), aI qw cI fw, aI qs cI fs, aI qo cI fz, oM ym er (nI n) mw ms mk mg, aL mw cJ gw, aL ms cJ gs, aL mk cJ gk, aI mg cZ gg, aO qt cJ fo] := hD.sub [9, 0, 1, 2, 3, 4, 5, 6, 7, 8] rfl rfl
    refine lv_istore (lv' := [(5, .int (nI 1)), (4, .int (nI i)), (3, .ref qt), (2, .ref ym), (1, .ref x), (0, .ref b)]) hx hb d_sl_law_360 hl (by decide) rfl (fun ls hl => ?_)
    refine lv_aload_n hx hb d_sl_law_362 rfl (lv_at hl 3 rfl) ?_
    refine lv_aload_n hx hb d_sl_law_363 rfl (lv_at hl 5 rfl) ?_
    refine lv_iload hx hb d_sl_law_364 (lv_at hl 1 rfl) ?_
    refine lv_iconst (v := nI 1) hx hb d_sl_law_366 (by decide) ?_
    refine lv_iadd hx hb d_sl_law_367 ?_
    refine xr_i (nI_add _ _) ?_
    refine sc_ld hx hb hX hbl hbA hS (by omega) hL d_sl_law_368 (v := sc (i + 1)) rfl ?_
    refine lv_aload_n hx hb d_sl_law_369 rfl (lv_at hl 5 rfl) ?_
    refine lv_iload hx hb d_sl_law_370 (lv_at hl 1 rfl) ?_
    refine lv_iconst (v := nI 2) hx hb d_sl_law_372 (by decide) ?_
    refine lv_iadd hx hb d_sl_law_373 ?_
    refine xr_i (nI_add _ _) ?_
    refine sc_ld hx hb hX hbl hbA hS (by omega) hL d_sl_law_374 (v := sc (i + 2)) rfl ?_
    refine ev_i (C := "ShareDeskModel") hx hb hml hown hg (c_sm_next1 l D cJ cZ ym mw ms mk mg H.size n er (sc (i + 1)) (sc (i + 2)) gw hv) ⟨k_277, k_278, k_279, k_2, k_280⟩ n_sm_next ⟨rfl, rfl, by decide, by decide⟩ (hK.sub (tys' := [(cJ, .long), (cZ, .boolean)]) [1, 2] rfl) hP hD hS hA [4, 5] [0, 1, 2, 3, 6, 7, 8, 9] rfl rfl (wr := [oD x qw qs qo (nI n) (nI (pu_sum w n)), aI qw cI fw, aI qs cI fs, aI qo cI fz, aL ms cJ gs, aL mk cJ gk, aI mg cZ gg, aO qt cJ fo]) rfl rfl (by decide) (va_recv (q0 := 4) (ci := 1) hK hP rfl rfl) hl.1 rfl (Nat.le_of_ble_eq_true rfl) d_sl_law_375 ⟨by show _ ≤ 1036; omega, by show _ ≤ 8272; omega⟩ (fun rm _um H locs hm9 hP hD hS => ?_)
    have hP : va_P D cls2 [oD x qw qs qo (nI n) (nI (pu_sum w n)), aI qw cI fw, aI qs cI fs, aI qo cI fz, oM ym (nI 1) (nI n) mw ms mk mg, aL mw cJ gw, aL ms cJ gs, aL mk cJ gk, aI mg cZ gg, aO qt cJ fo] H := hP.sub [0, 1, 2, 3, 8, 9, 4, 5, 6, 7] rfl
    have hD : va_D A [oD x qw qs qo (nI n) (nI (pu_sum w n)), aI qw cI fw, aI qs cI fs, aI qo cI fz, oM ym (nI 1) (nI n) mw ms mk mg, aL mw cJ gw, aL ms cJ gs, aL mk cJ gk, aI mg cZ gg, aO qt cJ fo] := hD.sub [0, 1, 2, 3, 8, 9, 4, 5, 6, 7] rfl rfl
    refine lv_istore (lv' := [(6, .int rm), (5, .int (nI 1)), (4, .int (nI i)), (3, .ref qt), (2, .ref ym), (1, .ref x), (0, .ref b)]) hx hb d_sl_law_378 hl (by decide) rfl (fun ls hl => ?_)
    refine lv_aload_n hx hb d_sl_law_380 rfl (lv_at hl 4 rfl) ?_
    refine pv_i (C := "ShareDeskModel") hx hb hml hown hg (c_sm_thrown l D [(cI, .int), (cJ, .long), (cZ, .boolean)] ym mw ms mk mg H.size (nI 1) (nI n)) ⟨k_223, k_224, k_225, k_2, k_226⟩ n_sm_thrown ⟨rfl, rfl, by decide, by decide⟩ hK (hP.sub [4] rfl) (hD.sub [4] rfl rfl) (va_recv (q0 := 4) (ci := 1) hK hP rfl rfl) hl.1 rfl (Nat.le_of_ble_eq_true rfl) d_sl_law_381 ⟨by show _ ≤ 1036; omega, by show _ ≤ 8272; omega⟩ (fun rt hrt => ?_)
    subst hrt
    refine lv_iload hx hb d_sl_law_384 (lv_at hl 1 rfl) ?_
    refine xc_eq (tgt := 391) hx hb d_sl_law_386 (by decide) (by omega) (by omega) (fun hc9 => ?_) (fun hc9 => ?_)
    · refine lv_iload hx hb d_sl_law_391 (lv_at hl 1 rfl) ?_
      refine xz_ne (tgt := 408) hx hb d_sl_law_393 (by decide) (by omega) (fun h8 => ?_) (fun h8 => ?_)
      · refine lv_goto (tgt := 547) hx hb d_sl_law_408 (by decide) ?_
        refine W.widen (k := cells + 1) (n := slots + 6) (by omega) (by omega) ?_
        exact kk H locs ls n w (nI 1) fw fs fz gw gs gk gg fo hinv hP hD hS (lv_sub hl [2, 3, 4, 5, 6] rfl)
      · exact absurd h8 (by decide)
    · exact absurd rfl hc9
set_option maxRecDepth 20000 in
set_option maxHeartbeats 4000000 in
theorem law_least {cells slots i : Nat} {H : Heap} {locs : List Loc} {ls : Array Slot} {n : Nat} {w : Nat → Nat} {er : Int32} {fw fs fz : Nat → Int32} {gw gs gk : Nat → Int64} {gg : Nat → Int32} {fo : Nat → Int64} (hx : p.tables.exec = Jvm.exec) (hb : c.code = code) (hml : c.maxLocals = 8) (hown : s.vm.findClass "ShareDeskLaw" = some m.cls) (hg : ∀ w ∈ gws, w.before #[Value.ref b] s = true) (htr : l.stackTraces = false) (hK : va_K D cls2 [(cI, .int), (cJ, .long), (cZ, .boolean)] s) (hA : ∀ q, s.heap.size ≤ q → A q) (hX : va_X b L sc s s.heap) (hbl : b < s.heap.size) (hbA : ¬ A b) (hxs : xs A s s.heap) (hnc : nc s) (hL : L ≤ 2048) (hinv : lwInv n w fw gw) (hi : i + 4 ≤ L) (hcs : cells + 1 ≤ 1036 ∧ slots + 6 ≤ 8272) (hP : va_P D cls2 [oD x qw qs qo (nI n) (nI (pu_sum w n)), aI qw cI fw, aI qs cI fs, aI qo cI fz, oM ym er (nI n) mw ms mk mg, aL mw cJ gw, aL ms cJ gs, aL mk cJ gk, aI mg cZ gg, aO qt cJ fo] H) (hD : va_D A [oD x qw qs qo (nI n) (nI (pu_sum w n)), aI qw cI fw, aI qs cI fs, aI qo cI fz, oM ym er (nI n) mw ms mk mg, aL mw cJ gw, aL ms cJ gs, aL mk cJ gk, aI mg cZ gg, aO qt cJ fo]) (hS : va_S A s.heap H locs) (hl : lv_has ls 8 [(4, .int (nI i)), (3, .ref qt), (2, .ref ym), (1, .ref x), (0, .ref b)]) (kk : ∀ (H : Heap) (locs : List Loc) (ls : Array Slot) (n : Nat) (w : Nat → Nat) (er : Int32) (fw fs fz : Nat → Int32) (gw gs gk : Nat → Int64) (gg : Nat → Int32) (fo : Nat → Int64), lwInv n w fw gw → va_P D cls2 [oD x qw qs qo (nI n) (nI (pu_sum w n)), aI qw cI fw, aI qs cI fs, aI qo cI fz, oM ym er (nI n) mw ms mk mg, aL mw cJ gw, aL ms cJ gs, aL mk cJ gk, aI mg cZ gg, aO qt cJ fo] H → va_D A [oD x qw qs qo (nI n) (nI (pu_sum w n)), aI qw cI fw, aI qs cI fs, aI qo cI fz, oM ym er (nI n) mw ms mk mg, aL mw cJ gw, aL ms cJ gs, aL mk cJ gk, aI mg cZ gg, aO qt cJ fo] → va_S A s.heap H locs → lv_has ls 8 [(4, .int (nI i)), (3, .ref qt), (2, .ref ym), (1, .ref x), (0, .ref b)] → W p l e room_1 s m #[Value.ref b] below meth c H locs (cells + 1) (slots + 6) Q (F0 m 547 ls [])) : W p l e room_1 s m #[Value.ref b] below meth c H locs cells slots Q (F0 m 411 ls []) := by
  obtain ⟨hn1, hn8, hw, hfw, hgw⟩ := id hinv
  by_cases hv : 0 ≤ (sc (i + 1)).toInt ∧ (sc (i + 1)).toInt < 3 ∧ 0 ≤ (sc (i + 2)).toInt ∧ 0 ≤ (sc (i + 3)).toInt ∧ (sc (i + 3)).toInt < (n : Int)
  · obtain ⟨d, hb1, e1, f1⟩ := ti_nat (v := sc (i + 1)) (by omega)
    obtain ⟨k, hb2, e2, f2⟩ := ti_nat (v := sc (i + 2)) (by omega)
    obtain ⟨pp, hb3, e3, f3⟩ := ti_nat (v := sc (i + 3)) (by omega)
    have hd : d < 3 := by omega
    have hk : k < 2 ^ 31 := hb2
    have hp : pp < n := by omega
    by_cases hW : 0 < pu_sum w n
    · refine lv_aload_n hx hb d_sl_law_411 rfl (lv_at hl 3 rfl) ?_
      refine lv_aload_n hx hb d_sl_law_412 rfl (lv_at hl 4 rfl) ?_
      refine lv_iload hx hb d_sl_law_413 (lv_at hl 0 rfl) ?_
      refine lv_iconst (v := nI 1) hx hb d_sl_law_415 (by decide) ?_
      refine lv_iadd hx hb d_sl_law_416 ?_
      refine xr_i (nI_add _ _) ?_
      refine sc_ld hx hb hX hbl hbA hS (by omega) hL d_sl_law_417 (v := nI d) e1 ?_
      refine lv_aload_n hx hb d_sl_law_418 rfl (lv_at hl 4 rfl) ?_
      refine lv_iload hx hb d_sl_law_419 (lv_at hl 0 rfl) ?_
      refine lv_iconst (v := nI 2) hx hb d_sl_law_421 (by decide) ?_
      refine lv_iadd hx hb d_sl_law_422 ?_
      refine xr_i (nI_add _ _) ?_
      refine sc_ld hx hb hX hbl hbA hS (by omega) hL d_sl_law_423 (v := nI k) e2 ?_
      refine lv_aload_n hx hb d_sl_law_424 rfl (lv_at hl 4 rfl) ?_
      refine lv_iload hx hb d_sl_law_425 (lv_at hl 0 rfl) ?_
      refine lv_iconst (v := nI 3) hx hb d_sl_law_427 (by decide) ?_
      refine lv_iadd hx hb d_sl_law_428 ?_
      refine xr_i (nI_add _ _) ?_
      refine sc_ld hx hb hX hbl hbA hS (by omega) hL d_sl_law_429 (v := nI pp) e3 ?_
      refine lv_aload_n hx hb d_sl_law_430 rfl (lv_at hl 1 rfl) ?_
      refine es_i hx hb hml hown hg (c_sl_least l D cI cJ x qw qs qo qt H.size n d k pp fw fs fo w hn1 hn8 hw hfw hW hd hk hp) ⟨k_181, k_182, k_0, k_183⟩ n_sl_least ⟨rfl, rfl, by decide, by decide⟩ gP_blind (pre_P (hK.sub (tys' := [(cI, .int), (cJ, .long)]) [0, 1] rfl) (hP.sub [0, 1, 2, 9] rfl) (hD.sub [0, 1, 2, 9] rfl rfl)) hP hD hS hA [0, 1, 2, 9] [3, 4, 5, 6, 7, 8] rfl (wr := [aI qo cI fz, oM ym er (nI n) mw ms mk mg, aL mw cJ gw, aL ms cJ gs, aL mk cJ gk, aI mg cZ gg]) rfl rfl (by decide) hl.1 rfl (Nat.le_of_ble_eq_true rfl) d_sl_law_431 ⟨by show _ ≤ 1036; omega, by show _ ≤ 8272; omega⟩ (fun r0 u H locs hu hP hD hS => ?_)
      obtain ⟨rfl, hu⟩ := hu
      have hP : va_P D cls2 [oD x qw qs qo (nI n) (nI (pu_sum w n)), aI qw cI fw, aI qs cI u.1, aI qo cI fz, oM ym er (nI n) mw ms mk mg, aL mw cJ gw, aL ms cJ gs, aL mk cJ gk, aI mg cZ gg, aO qt cJ (vp_updL fo 0 u.2.toInt64)] H := hP.sub [6, 7, 8, 0, 1, 2, 3, 4, 5, 9] rfl
      have hD : va_D A [oD x qw qs qo (nI n) (nI (pu_sum w n)), aI qw cI fw, aI qs cI u.1, aI qo cI fz, oM ym er (nI n) mw ms mk mg, aL mw cJ gw, aL ms cJ gs, aL mk cJ gk, aI mg cZ gg, aO qt cJ (vp_updL fo 0 u.2.toInt64)] := hD.sub [6, 7, 8, 0, 1, 2, 3, 4, 5, 9] rfl rfl
      refine lv_istore (lv' := [(5, .int (nI 0)), (4, .int (nI i)), (3, .ref qt), (2, .ref ym), (1, .ref x), (0, .ref b)]) hx hb d_sl_law_434 hl (by decide) rfl (fun ls hl => ?_)
      refine lv_aload_n hx hb d_sl_law_436 rfl (lv_at hl 3 rfl) ?_
      refine lv_aload_n hx hb d_sl_law_437 rfl (lv_at hl 5 rfl) ?_
      refine lv_iload hx hb d_sl_law_438 (lv_at hl 1 rfl) ?_
      refine lv_iconst (v := nI 1) hx hb d_sl_law_440 (by decide) ?_
      refine lv_iadd hx hb d_sl_law_441 ?_
      refine xr_i (nI_add _ _) ?_
      refine sc_ld hx hb hX hbl hbA hS (by omega) hL d_sl_law_442 (v := nI d) e1 ?_
      refine lv_aload_n hx hb d_sl_law_443 rfl (lv_at hl 5 rfl) ?_
      refine lv_iload hx hb d_sl_law_444 (lv_at hl 1 rfl) ?_
      refine lv_iconst (v := nI 2) hx hb d_sl_law_446 (by decide) ?_
      refine lv_iadd hx hb d_sl_law_447 ?_
      refine xr_i (nI_add _ _) ?_
      refine sc_ld hx hb hX hbl hbA hS (by omega) hL d_sl_law_448 (v := nI k) e2 ?_
      refine lv_aload_n hx hb d_sl_law_449 rfl (lv_at hl 5 rfl) ?_
      refine lv_iload hx hb d_sl_law_450 (lv_at hl 1 rfl) ?_
      refine lv_iconst (v := nI 3) hx hb d_sl_law_452 (by decide) ?_
      refine lv_iadd hx hb d_sl_law_453 ?_
      refine xr_i (nI_add _ _) ?_
      refine sc_ld hx hb hX hbl hbA hS (by omega) hL d_sl_law_454 (v := nI pp) e3 ?_
      refine ev_i (C := "ShareDeskModel") hx hb hml hown hg (c_sm_least l D cJ cZ ym mw ms mk mg H.size n d k pp er gw gs gk gg w hn1 hn8 hw hgw hW hd hk hp) ⟨k_282, k_283, k_284, k_2, k_285⟩ n_sm_least ⟨rfl, rfl, by decide, by decide⟩ (hK.sub (tys' := [(cJ, .long), (cZ, .boolean)]) [1, 2] rfl) hP hD hS hA [4, 5, 6, 7, 8] [0, 1, 2, 3, 9] rfl rfl (wr := [oD x qw qs qo (nI n) (nI (pu_sum w n)), aI qw cI fw, aI qs cI u.1, aI qo cI fz, aO qt cJ (vp_updL fo 0 u.2.toInt64)]) rfl rfl (by decide) (va_recv (q0 := 4) (ci := 1) hK hP rfl rfl) hl.1 rfl (Nat.le_of_ble_eq_true rfl) d_sl_law_455 ⟨by show _ ≤ 1036; omega, by show _ ≤ 8272; omega⟩ (fun rm um H locs hm9 hP hD hS => ?_)
      have hP : va_P D cls2 [oD x qw qs qo (nI n) (nI (pu_sum w n)), aI qw cI fw, aI qs cI u.1, aI qo cI fz, oM ym (nI 0) (nI n) mw ms mk mg, aL mw cJ gw, aL ms cJ um.1, aL mk cJ um.2.1, aI mg cZ um.2.2, aO qt cJ (vp_updL fo 0 u.2.toInt64)] H := hP.sub [0, 1, 2, 3, 5, 6, 7, 8, 9, 4] rfl
      have hD : va_D A [oD x qw qs qo (nI n) (nI (pu_sum w n)), aI qw cI fw, aI qs cI u.1, aI qo cI fz, oM ym (nI 0) (nI n) mw ms mk mg, aL mw cJ gw, aL ms cJ um.1, aL mk cJ um.2.1, aI mg cZ um.2.2, aO qt cJ (vp_updL fo 0 u.2.toInt64)] := hD.sub [0, 1, 2, 3, 5, 6, 7, 8, 9, 4] rfl rfl
      obtain rfl := pu_isL_u hu hm9
      refine lv_istore (lv' := [(6, .int (u.2)), (5, .int (nI 0)), (4, .int (nI i)), (3, .ref qt), (2, .ref ym), (1, .ref x), (0, .ref b)]) hx hb d_sl_law_458 hl (by decide) rfl (fun ls hl => ?_)
      refine lv_aload_n hx hb d_sl_law_460 rfl (lv_at hl 4 rfl) ?_
      refine pv_i (C := "ShareDeskModel") hx hb hml hown hg (c_sm_thrown l D [(cI, .int), (cJ, .long), (cZ, .boolean)] ym mw ms mk mg H.size (nI 0) (nI n)) ⟨k_223, k_224, k_225, k_2, k_226⟩ n_sm_thrown ⟨rfl, rfl, by decide, by decide⟩ hK (hP.sub [4] rfl) (hD.sub [4] rfl rfl) (va_recv (q0 := 4) (ci := 1) hK hP rfl rfl) hl.1 rfl (Nat.le_of_ble_eq_true rfl) d_sl_law_461 ⟨by show _ ≤ 1036; omega, by show _ ≤ 8272; omega⟩ (fun rt hrt => ?_)
      subst hrt
      refine lv_iload hx hb d_sl_law_464 (lv_at hl 1 rfl) ?_
      refine xc_eq (tgt := 471) hx hb d_sl_law_466 (by decide) (by omega) (by omega) (fun hc9 => ?_) (fun hc9 => ?_)
      · refine lv_iload hx hb d_sl_law_471 (lv_at hl 1 rfl) ?_
        refine xz_ne (tgt := 488) hx hb d_sl_law_473 (by decide) (by omega) (fun h8 => ?_) (fun h8 => ?_)
        · exact absurd h8 (by decide)
        · refine lv_aload_n hx hb d_sl_law_476 rfl (lv_at hl 3 rfl) ?_
          refine lv_iconst (v := nI 0) hx hb d_sl_law_477 (by decide) ?_
          refine xo_ld hx hb hK hP 9 1 rfl rfl d_sl_law_478 (v := u.2.toInt64) pk_uLs ?_
          refine lv_iload hx hb d_sl_law_479 (lv_at hl 0 rfl) ?_
          refine lv_i2l hx hb d_sl_law_481 rfl ?_
          refine W.lcmp hx hb d_sl_law_482 ?_
          refine lv_if_eq (tgt := 488) hx hb d_sl_law_483 (by decide) (fun _ => ?_) (fun h9 => absurd ((lg_cmp_eq _ _).mpr rfl) h9)
          refine lv_goto (tgt := 547) hx hb d_sl_law_488 (by decide) ?_
          refine W.widen (k := cells + 1) (n := slots + 6) (by omega) (by omega) ?_
          exact kk H locs ls n w (nI 0) fw u.1 fz gw um.1 um.2.1 um.2.2 _ hinv hP hD hS (lv_sub hl [2, 3, 4, 5, 6] rfl)
      · exact absurd rfl hc9
    · have hW0 : pu_sum w n = 0 := by omega
      rw [hW0] at hP hD
      refine lv_aload_n hx hb d_sl_law_411 rfl (lv_at hl 3 rfl) ?_
      refine lv_aload_n hx hb d_sl_law_412 rfl (lv_at hl 4 rfl) ?_
      refine lv_iload hx hb d_sl_law_413 (lv_at hl 0 rfl) ?_
      refine lv_iconst (v := nI 1) hx hb d_sl_law_415 (by decide) ?_
      refine lv_iadd hx hb d_sl_law_416 ?_
      refine xr_i (nI_add _ _) ?_
      refine sc_ld hx hb hX hbl hbA hS (by omega) hL d_sl_law_417 (v := nI d) e1 ?_
      refine lv_aload_n hx hb d_sl_law_418 rfl (lv_at hl 4 rfl) ?_
      refine lv_iload hx hb d_sl_law_419 (lv_at hl 0 rfl) ?_
      refine lv_iconst (v := nI 2) hx hb d_sl_law_421 (by decide) ?_
      refine lv_iadd hx hb d_sl_law_422 ?_
      refine xr_i (nI_add _ _) ?_
      refine sc_ld hx hb hX hbl hbA hS (by omega) hL d_sl_law_423 (v := nI k) e2 ?_
      refine lv_aload_n hx hb d_sl_law_424 rfl (lv_at hl 4 rfl) ?_
      refine lv_iload hx hb d_sl_law_425 (lv_at hl 0 rfl) ?_
      refine lv_iconst (v := nI 3) hx hb d_sl_law_427 (by decide) ?_
      refine lv_iadd hx hb d_sl_law_428 ?_
      refine xr_i (nI_add _ _) ?_
      refine sc_ld hx hb hX hbl hbA hS (by omega) hL d_sl_law_429 (v := nI pp) e3 ?_
      refine lv_aload_n hx hb d_sl_law_430 rfl (lv_at hl 1 rfl) ?_
      refine es_i hx hb hml hown hg (t_sl_least2 l htr D [(cI, .int), (cJ, .long), (cZ, .boolean)] x qw qs qo qt H.size n d k pp hn8 hd hk hp) ⟨k_181, k_182, k_0, k_183⟩ n_sl_least ⟨rfl, rfl, by decide, by decide⟩ gY_blind (pre_Y (hK.sub (tys' := [(cI, .int), (cJ, .long), (cZ, .boolean)]) [0, 1, 2] rfl) (hP.sub [0] rfl) (hD.sub [0] rfl rfl) hxs hS hnc) hP hD hS hA [0] [1, 2, 3, 4, 5, 6, 7, 8, 9] rfl (wr := [aI qw cI fw, aI qs cI fs, aI qo cI fz, oM ym er (nI n) mw ms mk mg, aL mw cJ gw, aL ms cJ gs, aL mk cJ gk, aI mg cZ gg, aO qt cJ fo]) rfl rfl (by decide) hl.1 rfl (Nat.le_of_ble_eq_true rfl) d_sl_law_431 ⟨by show _ ≤ 1036; omega, by show _ ≤ 8272; omega⟩ (fun r0 _u H locs hu hP hD hS => ?_)
      subst hu
      have hP : va_P D cls2 [oD x qw qs qo (nI n) (nI 0), aI qw cI fw, aI qs cI fs, aI qo cI fz, oM ym er (nI n) mw ms mk mg, aL mw cJ gw, aL ms cJ gs, aL mk cJ gk, aI mg cZ gg, aO qt cJ fo] H := hP.sub [9, 0, 1, 2, 3, 4, 5, 6, 7, 8] rfl
      have hD : va_D A [oD x qw qs qo (nI n) (nI 0), aI qw cI fw, aI qs cI fs, aI qo cI fz, oM ym er (nI n) mw ms mk mg, aL mw cJ gw, aL ms cJ gs, aL mk cJ gk, aI mg cZ gg, aO qt cJ fo] := hD.sub [9, 0, 1, 2, 3, 4, 5, 6, 7, 8] rfl rfl
      refine lv_istore (lv' := [(5, .int (nI 2)), (4, .int (nI i)), (3, .ref qt), (2, .ref ym), (1, .ref x), (0, .ref b)]) hx hb d_sl_law_434 hl (by decide) rfl (fun ls hl => ?_)
      refine lv_aload_n hx hb d_sl_law_436 rfl (lv_at hl 3 rfl) ?_
      refine lv_aload_n hx hb d_sl_law_437 rfl (lv_at hl 5 rfl) ?_
      refine lv_iload hx hb d_sl_law_438 (lv_at hl 1 rfl) ?_
      refine lv_iconst (v := nI 1) hx hb d_sl_law_440 (by decide) ?_
      refine lv_iadd hx hb d_sl_law_441 ?_
      refine xr_i (nI_add _ _) ?_
      refine sc_ld hx hb hX hbl hbA hS (by omega) hL d_sl_law_442 (v := nI d) e1 ?_
      refine lv_aload_n hx hb d_sl_law_443 rfl (lv_at hl 5 rfl) ?_
      refine lv_iload hx hb d_sl_law_444 (lv_at hl 1 rfl) ?_
      refine lv_iconst (v := nI 2) hx hb d_sl_law_446 (by decide) ?_
      refine lv_iadd hx hb d_sl_law_447 ?_
      refine xr_i (nI_add _ _) ?_
      refine sc_ld hx hb hX hbl hbA hS (by omega) hL d_sl_law_448 (v := nI k) e2 ?_
      refine lv_aload_n hx hb d_sl_law_449 rfl (lv_at hl 5 rfl) ?_
      refine lv_iload hx hb d_sl_law_450 (lv_at hl 1 rfl) ?_
      refine lv_iconst (v := nI 3) hx hb d_sl_law_452 (by decide) ?_
      refine lv_iadd hx hb d_sl_law_453 ?_
      refine xr_i (nI_add _ _) ?_
      refine sc_ld hx hb hX hbl hbA hS (by omega) hL d_sl_law_454 (v := nI pp) e3 ?_
      refine ev_i (C := "ShareDeskModel") hx hb hml hown hg (c_sm_least2 l D cJ cZ ym mw ms mk mg H.size n d k pp er gw w hn1 hn8 hw hgw hW0 hd hk hp) ⟨k_282, k_283, k_284, k_2, k_285⟩ n_sm_least ⟨rfl, rfl, by decide, by decide⟩ (hK.sub (tys' := [(cJ, .long), (cZ, .boolean)]) [1, 2] rfl) hP hD hS hA [4, 5] [0, 1, 2, 3, 6, 7, 8, 9] rfl rfl (wr := [oD x qw qs qo (nI n) (nI 0), aI qw cI fw, aI qs cI fs, aI qo cI fz, aL ms cJ gs, aL mk cJ gk, aI mg cZ gg, aO qt cJ fo]) rfl rfl (by decide) (va_recv (q0 := 4) (ci := 1) hK hP rfl rfl) hl.1 rfl (Nat.le_of_ble_eq_true rfl) d_sl_law_455 ⟨by show _ ≤ 1036; omega, by show _ ≤ 8272; omega⟩ (fun rm _um H locs hm9 hP hD hS => ?_)
      have hP : va_P D cls2 [oD x qw qs qo (nI n) (nI 0), aI qw cI fw, aI qs cI fs, aI qo cI fz, oM ym (nI 2) (nI n) mw ms mk mg, aL mw cJ gw, aL ms cJ gs, aL mk cJ gk, aI mg cZ gg, aO qt cJ fo] H := hP.sub [0, 1, 2, 3, 8, 9, 4, 5, 6, 7] rfl
      have hD : va_D A [oD x qw qs qo (nI n) (nI 0), aI qw cI fw, aI qs cI fs, aI qo cI fz, oM ym (nI 2) (nI n) mw ms mk mg, aL mw cJ gw, aL ms cJ gs, aL mk cJ gk, aI mg cZ gg, aO qt cJ fo] := hD.sub [0, 1, 2, 3, 8, 9, 4, 5, 6, 7] rfl rfl
      refine lv_istore (lv' := [(6, .int rm), (5, .int (nI 2)), (4, .int (nI i)), (3, .ref qt), (2, .ref ym), (1, .ref x), (0, .ref b)]) hx hb d_sl_law_458 hl (by decide) rfl (fun ls hl => ?_)
      refine lv_aload_n hx hb d_sl_law_460 rfl (lv_at hl 4 rfl) ?_
      refine pv_i (C := "ShareDeskModel") hx hb hml hown hg (c_sm_thrown l D [(cI, .int), (cJ, .long), (cZ, .boolean)] ym mw ms mk mg H.size (nI 2) (nI n)) ⟨k_223, k_224, k_225, k_2, k_226⟩ n_sm_thrown ⟨rfl, rfl, by decide, by decide⟩ hK (hP.sub [4] rfl) (hD.sub [4] rfl rfl) (va_recv (q0 := 4) (ci := 1) hK hP rfl rfl) hl.1 rfl (Nat.le_of_ble_eq_true rfl) d_sl_law_461 ⟨by show _ ≤ 1036; omega, by show _ ≤ 8272; omega⟩ (fun rt hrt => ?_)
      subst hrt
      refine lv_iload hx hb d_sl_law_464 (lv_at hl 1 rfl) ?_
      refine xc_eq (tgt := 471) hx hb d_sl_law_466 (by decide) (by omega) (by omega) (fun hc9 => ?_) (fun hc9 => ?_)
      · refine lv_iload hx hb d_sl_law_471 (lv_at hl 1 rfl) ?_
        refine xz_ne (tgt := 488) hx hb d_sl_law_473 (by decide) (by omega) (fun h8 => ?_) (fun h8 => ?_)
        · refine lv_goto (tgt := 547) hx hb d_sl_law_488 (by decide) ?_
          refine W.widen (k := cells + 1) (n := slots + 6) (by omega) (by omega) ?_
          exact kk H locs ls n w (nI 2) fw fs fz gw gs gk gg fo hinv (by rw [hW0]; exact hP) (by rw [hW0]; exact hD) hS (lv_sub hl [2, 3, 4, 5, 6] rfl)
        · exact absurd h8 (by decide)
      · exact absurd rfl hc9
  · refine lv_aload_n hx hb d_sl_law_411 rfl (lv_at hl 3 rfl) ?_
    refine lv_aload_n hx hb d_sl_law_412 rfl (lv_at hl 4 rfl) ?_
    refine lv_iload hx hb d_sl_law_413 (lv_at hl 0 rfl) ?_
    refine lv_iconst (v := nI 1) hx hb d_sl_law_415 (by decide) ?_
    refine lv_iadd hx hb d_sl_law_416 ?_
    refine xr_i (nI_add _ _) ?_
    refine sc_ld hx hb hX hbl hbA hS (by omega) hL d_sl_law_417 (v := sc (i + 1)) rfl ?_
    refine lv_aload_n hx hb d_sl_law_418 rfl (lv_at hl 4 rfl) ?_
    refine lv_iload hx hb d_sl_law_419 (lv_at hl 0 rfl) ?_
    refine lv_iconst (v := nI 2) hx hb d_sl_law_421 (by decide) ?_
    refine lv_iadd hx hb d_sl_law_422 ?_
    refine xr_i (nI_add _ _) ?_
    refine sc_ld hx hb hX hbl hbA hS (by omega) hL d_sl_law_423 (v := sc (i + 2)) rfl ?_
    refine lv_aload_n hx hb d_sl_law_424 rfl (lv_at hl 4 rfl) ?_
    refine lv_iload hx hb d_sl_law_425 (lv_at hl 0 rfl) ?_
    refine lv_iconst (v := nI 3) hx hb d_sl_law_427 (by decide) ?_
    refine lv_iadd hx hb d_sl_law_428 ?_
    refine xr_i (nI_add _ _) ?_
    refine sc_ld hx hb hX hbl hbA hS (by omega) hL d_sl_law_429 (v := sc (i + 3)) rfl ?_
    refine lv_aload_n hx hb d_sl_law_430 rfl (lv_at hl 1 rfl) ?_
    refine es_i hx hb hml hown hg (t_sl_least1 l htr D [(cI, .int), (cJ, .long), (cZ, .boolean)] x qw qs qo qt H.size n (pu_sum w n) (sc (i + 1)) (sc (i + 2)) (sc (i + 3)) hn8 hv) ⟨k_181, k_182, k_0, k_183⟩ n_sl_least ⟨rfl, rfl, by decide, by decide⟩ gX_blind (pre_X (hK.sub (tys' := [(cI, .int), (cJ, .long), (cZ, .boolean)]) [0, 1, 2] rfl) (hP.sub [0] rfl) (hD.sub [0] rfl rfl) hxs hS) hP hD hS hA [0] [1, 2, 3, 4, 5, 6, 7, 8, 9] rfl (wr := [aI qw cI fw, aI qs cI fs, aI qo cI fz, oM ym er (nI n) mw ms mk mg, aL mw cJ gw, aL ms cJ gs, aL mk cJ gk, aI mg cZ gg, aO qt cJ fo]) rfl rfl (by decide) hl.1 rfl (Nat.le_of_ble_eq_true rfl) d_sl_law_431 ⟨by show _ ≤ 1036; omega, by show _ ≤ 8272; omega⟩ (fun r0 _u H locs hu hP hD hS => ?_)
    subst hu
    have hP : va_P D cls2 [oD x qw qs qo (nI n) (nI (pu_sum w n)), aI qw cI fw, aI qs cI fs, aI qo cI fz, oM ym er (nI n) mw ms mk mg, aL mw cJ gw, aL ms cJ gs, aL mk cJ gk, aI mg cZ gg, aO qt cJ fo] H := hP.sub [9, 0, 1, 2, 3, 4, 5, 6, 7, 8] rfl
    have hD : va_D A [oD x qw qs qo (nI n) (nI (pu_sum w n)), aI qw cI fw, aI qs cI fs, aI qo cI fz, oM ym er (nI n) mw ms mk mg, aL mw cJ gw, aL ms cJ gs, aL mk cJ gk, aI mg cZ gg, aO qt cJ fo] := hD.sub [9, 0, 1, 2, 3, 4, 5, 6, 7, 8] rfl rfl
    refine lv_istore (lv' := [(5, .int (nI 1)), (4, .int (nI i)), (3, .ref qt), (2, .ref ym), (1, .ref x), (0, .ref b)]) hx hb d_sl_law_434 hl (by decide) rfl (fun ls hl => ?_)
    refine lv_aload_n hx hb d_sl_law_436 rfl (lv_at hl 3 rfl) ?_
    refine lv_aload_n hx hb d_sl_law_437 rfl (lv_at hl 5 rfl) ?_
    refine lv_iload hx hb d_sl_law_438 (lv_at hl 1 rfl) ?_
    refine lv_iconst (v := nI 1) hx hb d_sl_law_440 (by decide) ?_
    refine lv_iadd hx hb d_sl_law_441 ?_
    refine xr_i (nI_add _ _) ?_
    refine sc_ld hx hb hX hbl hbA hS (by omega) hL d_sl_law_442 (v := sc (i + 1)) rfl ?_
    refine lv_aload_n hx hb d_sl_law_443 rfl (lv_at hl 5 rfl) ?_
    refine lv_iload hx hb d_sl_law_444 (lv_at hl 1 rfl) ?_
    refine lv_iconst (v := nI 2) hx hb d_sl_law_446 (by decide) ?_
    refine lv_iadd hx hb d_sl_law_447 ?_
    refine xr_i (nI_add _ _) ?_
    refine sc_ld hx hb hX hbl hbA hS (by omega) hL d_sl_law_448 (v := sc (i + 2)) rfl ?_
    refine lv_aload_n hx hb d_sl_law_449 rfl (lv_at hl 5 rfl) ?_
    refine lv_iload hx hb d_sl_law_450 (lv_at hl 1 rfl) ?_
    refine lv_iconst (v := nI 3) hx hb d_sl_law_452 (by decide) ?_
    refine lv_iadd hx hb d_sl_law_453 ?_
    refine xr_i (nI_add _ _) ?_
    refine sc_ld hx hb hX hbl hbA hS (by omega) hL d_sl_law_454 (v := sc (i + 3)) rfl ?_
    refine ev_i (C := "ShareDeskModel") hx hb hml hown hg (c_sm_least1 l D cJ cZ ym mw ms mk mg H.size n er (sc (i + 1)) (sc (i + 2)) (sc (i + 3)) gw hn1 hn8 hv) ⟨k_282, k_283, k_284, k_2, k_285⟩ n_sm_least ⟨rfl, rfl, by decide, by decide⟩ (hK.sub (tys' := [(cJ, .long), (cZ, .boolean)]) [1, 2] rfl) hP hD hS hA [4, 5] [0, 1, 2, 3, 6, 7, 8, 9] rfl rfl (wr := [oD x qw qs qo (nI n) (nI (pu_sum w n)), aI qw cI fw, aI qs cI fs, aI qo cI fz, aL ms cJ gs, aL mk cJ gk, aI mg cZ gg, aO qt cJ fo]) rfl rfl (by decide) (va_recv (q0 := 4) (ci := 1) hK hP rfl rfl) hl.1 rfl (Nat.le_of_ble_eq_true rfl) d_sl_law_455 ⟨by show _ ≤ 1036; omega, by show _ ≤ 8272; omega⟩ (fun rm _um H locs hm9 hP hD hS => ?_)
    have hP : va_P D cls2 [oD x qw qs qo (nI n) (nI (pu_sum w n)), aI qw cI fw, aI qs cI fs, aI qo cI fz, oM ym (nI 1) (nI n) mw ms mk mg, aL mw cJ gw, aL ms cJ gs, aL mk cJ gk, aI mg cZ gg, aO qt cJ fo] H := hP.sub [0, 1, 2, 3, 8, 9, 4, 5, 6, 7] rfl
    have hD : va_D A [oD x qw qs qo (nI n) (nI (pu_sum w n)), aI qw cI fw, aI qs cI fs, aI qo cI fz, oM ym (nI 1) (nI n) mw ms mk mg, aL mw cJ gw, aL ms cJ gs, aL mk cJ gk, aI mg cZ gg, aO qt cJ fo] := hD.sub [0, 1, 2, 3, 8, 9, 4, 5, 6, 7] rfl rfl
    refine lv_istore (lv' := [(6, .int rm), (5, .int (nI 1)), (4, .int (nI i)), (3, .ref qt), (2, .ref ym), (1, .ref x), (0, .ref b)]) hx hb d_sl_law_458 hl (by decide) rfl (fun ls hl => ?_)
    refine lv_aload_n hx hb d_sl_law_460 rfl (lv_at hl 4 rfl) ?_
    refine pv_i (C := "ShareDeskModel") hx hb hml hown hg (c_sm_thrown l D [(cI, .int), (cJ, .long), (cZ, .boolean)] ym mw ms mk mg H.size (nI 1) (nI n)) ⟨k_223, k_224, k_225, k_2, k_226⟩ n_sm_thrown ⟨rfl, rfl, by decide, by decide⟩ hK (hP.sub [4] rfl) (hD.sub [4] rfl rfl) (va_recv (q0 := 4) (ci := 1) hK hP rfl rfl) hl.1 rfl (Nat.le_of_ble_eq_true rfl) d_sl_law_461 ⟨by show _ ≤ 1036; omega, by show _ ≤ 8272; omega⟩ (fun rt hrt => ?_)
    subst hrt
    refine lv_iload hx hb d_sl_law_464 (lv_at hl 1 rfl) ?_
    refine xc_eq (tgt := 471) hx hb d_sl_law_466 (by decide) (by omega) (by omega) (fun hc9 => ?_) (fun hc9 => ?_)
    · refine lv_iload hx hb d_sl_law_471 (lv_at hl 1 rfl) ?_
      refine xz_ne (tgt := 488) hx hb d_sl_law_473 (by decide) (by omega) (fun h8 => ?_) (fun h8 => ?_)
      · refine lv_goto (tgt := 547) hx hb d_sl_law_488 (by decide) ?_
        refine W.widen (k := cells + 1) (n := slots + 6) (by omega) (by omega) ?_
        exact kk H locs ls n w (nI 1) fw fs fz gw gs gk gg fo hinv hP hD hS (lv_sub hl [2, 3, 4, 5, 6] rfl)
      · exact absurd h8 (by decide)
    · exact absurd rfl hc9
set_option maxRecDepth 20000 in
set_option maxHeartbeats 4000000 in
theorem law_count {cells slots i : Nat} {H : Heap} {locs : List Loc} {ls : Array Slot} {n : Nat} {w : Nat → Nat} {er : Int32} {fw fs fz : Nat → Int32} {gw gs gk : Nat → Int64} {gg : Nat → Int32} {fo : Nat → Int64} (hx : p.tables.exec = Jvm.exec) (hb : c.code = code) (hml : c.maxLocals = 8) (hown : s.vm.findClass "ShareDeskLaw" = some m.cls) (hg : ∀ w ∈ gws, w.before #[Value.ref b] s = true) (htr : l.stackTraces = false) (hK : va_K D cls2 [(cI, .int), (cJ, .long), (cZ, .boolean)] s) (hA : ∀ q, s.heap.size ≤ q → A q) (hX : va_X b L sc s s.heap) (hbl : b < s.heap.size) (hbA : ¬ A b) (hxs : xs A s s.heap) (hnc : nc s) (hL : L ≤ 2048) (hinv : lwInv n w fw gw) (hi : i + 4 ≤ L) (hcs : cells + 1 ≤ 1036 ∧ slots + 6 ≤ 8272) (hP : va_P D cls2 [oD x qw qs qo (nI n) (nI (pu_sum w n)), aI qw cI fw, aI qs cI fs, aI qo cI fz, oM ym er (nI n) mw ms mk mg, aL mw cJ gw, aL ms cJ gs, aL mk cJ gk, aI mg cZ gg, aO qt cJ fo] H) (hD : va_D A [oD x qw qs qo (nI n) (nI (pu_sum w n)), aI qw cI fw, aI qs cI fs, aI qo cI fz, oM ym er (nI n) mw ms mk mg, aL mw cJ gw, aL ms cJ gs, aL mk cJ gk, aI mg cZ gg, aO qt cJ fo]) (hS : va_S A s.heap H locs) (hl : lv_has ls 8 [(4, .int (nI i)), (3, .ref qt), (2, .ref ym), (1, .ref x), (0, .ref b)]) (kk : ∀ (H : Heap) (locs : List Loc) (ls : Array Slot) (n : Nat) (w : Nat → Nat) (er : Int32) (fw fs fz : Nat → Int32) (gw gs gk : Nat → Int64) (gg : Nat → Int32) (fo : Nat → Int64), lwInv n w fw gw → va_P D cls2 [oD x qw qs qo (nI n) (nI (pu_sum w n)), aI qw cI fw, aI qs cI fs, aI qo cI fz, oM ym er (nI n) mw ms mk mg, aL mw cJ gw, aL ms cJ gs, aL mk cJ gk, aI mg cZ gg, aO qt cJ fo] H → va_D A [oD x qw qs qo (nI n) (nI (pu_sum w n)), aI qw cI fw, aI qs cI fs, aI qo cI fz, oM ym er (nI n) mw ms mk mg, aL mw cJ gw, aL ms cJ gs, aL mk cJ gk, aI mg cZ gg, aO qt cJ fo] → va_S A s.heap H locs → lv_has ls 8 [(4, .int (nI i)), (3, .ref qt), (2, .ref ym), (1, .ref x), (0, .ref b)] → W p l e room_1 s m #[Value.ref b] below meth c H locs (cells + 1) (slots + 6) Q (F0 m 547 ls [])) : W p l e room_1 s m #[Value.ref b] below meth c H locs cells slots Q (F0 m 491 ls []) := by
  obtain ⟨hn1, hn8, hw, hfw, hgw⟩ := id hinv
  by_cases hv : 0 ≤ (sc (i + 1)).toInt ∧ (sc (i + 1)).toInt < 3
  · obtain ⟨t, hb1, e1, f1⟩ := ti_nat (v := sc (i + 1)) (by omega)
    have ht : t < 3 := by omega
    refine lv_aload_n hx hb d_sl_law_491 rfl (lv_at hl 3 rfl) ?_
    refine lv_aload_n hx hb d_sl_law_492 rfl (lv_at hl 4 rfl) ?_
    refine lv_iload hx hb d_sl_law_493 (lv_at hl 0 rfl) ?_
    refine lv_iconst (v := nI 1) hx hb d_sl_law_495 (by decide) ?_
    refine lv_iadd hx hb d_sl_law_496 ?_
    refine xr_i (nI_add _ _) ?_
    refine sc_ld hx hb hX hbl hbA hS (by omega) hL d_sl_law_497 (v := nI t) e1 ?_
    refine lv_aload_n hx hb d_sl_law_498 rfl (lv_at hl 1 rfl) ?_
    refine es_i hx hb hml hown hg (c_sl_count l D cI cJ x qw qs qo qt H.size n t fw fo w hn1 hn8 hw hfw ht) ⟨k_189, k_190, k_0, k_191⟩ n_sl_count ⟨rfl, rfl, by decide, by decide⟩ gP_blind (pre_P (hK.sub (tys' := [(cI, .int), (cJ, .long)]) [0, 1] rfl) (hP.sub [0, 1, 9] rfl) (hD.sub [0, 1, 9] rfl rfl)) hP hD hS hA [0, 1, 9] [2, 3, 4, 5, 6, 7, 8] rfl (wr := [aI qs cI fs, aI qo cI fz, oM ym er (nI n) mw ms mk mg, aL mw cJ gw, aL ms cJ gs, aL mk cJ gk, aI mg cZ gg]) rfl rfl (by decide) hl.1 rfl (Nat.le_of_ble_eq_true rfl) d_sl_law_499 ⟨by show _ ≤ 1036; omega, by show _ ≤ 8272; omega⟩ (fun r0 _u H locs hu hP hD hS => ?_)
    subst hu
    have hP : va_P D cls2 [oD x qw qs qo (nI n) (nI (pu_sum w n)), aI qw cI fw, aI qs cI fs, aI qo cI fz, oM ym er (nI n) mw ms mk mg, aL mw cJ gw, aL ms cJ gs, aL mk cJ gk, aI mg cZ gg, aO qt cJ (vp_updL fo 0 (lN (if t = 0 then n else if t = 1 then pu_sum w n else pu_cnt w n)))] H := hP.sub [7, 8, 0, 1, 2, 3, 4, 5, 6, 9] rfl
    have hD : va_D A [oD x qw qs qo (nI n) (nI (pu_sum w n)), aI qw cI fw, aI qs cI fs, aI qo cI fz, oM ym er (nI n) mw ms mk mg, aL mw cJ gw, aL ms cJ gs, aL mk cJ gk, aI mg cZ gg, aO qt cJ (vp_updL fo 0 (lN (if t = 0 then n else if t = 1 then pu_sum w n else pu_cnt w n)))] := hD.sub [7, 8, 0, 1, 2, 3, 4, 5, 6, 9] rfl rfl
    refine lv_istore (lv' := [(5, .int (nI 0)), (4, .int (nI i)), (3, .ref qt), (2, .ref ym), (1, .ref x), (0, .ref b)]) hx hb d_sl_law_502 hl (by decide) rfl (fun ls hl => ?_)
    refine lv_aload_n hx hb d_sl_law_504 rfl (lv_at hl 3 rfl) ?_
    refine lv_aload_n hx hb d_sl_law_505 rfl (lv_at hl 5 rfl) ?_
    refine lv_iload hx hb d_sl_law_506 (lv_at hl 1 rfl) ?_
    refine lv_iconst (v := nI 1) hx hb d_sl_law_508 (by decide) ?_
    refine lv_iadd hx hb d_sl_law_509 ?_
    refine xr_i (nI_add _ _) ?_
    refine sc_ld hx hb hX hbl hbA hS (by omega) hL d_sl_law_510 (v := nI t) e1 ?_
    refine ev_i (C := "ShareDeskModel") hx hb hml hown hg (c_sm_count l D cJ cZ ym mw ms mk mg H.size n t er gw w hn1 hn8 hw hgw ht) ⟨k_286, k_287, k_288, k_2, k_289⟩ n_sm_count ⟨rfl, rfl, by decide, by decide⟩ (hK.sub (tys' := [(cJ, .long), (cZ, .boolean)]) [1, 2] rfl) hP hD hS hA [4, 5] [0, 1, 2, 3, 6, 7, 8, 9] rfl rfl (wr := [oD x qw qs qo (nI n) (nI (pu_sum w n)), aI qw cI fw, aI qs cI fs, aI qo cI fz, aL ms cJ gs, aL mk cJ gk, aI mg cZ gg, aO qt cJ (vp_updL fo 0 (lN (if t = 0 then n else if t = 1 then pu_sum w n else pu_cnt w n)))]) rfl rfl (by decide) (va_recv (q0 := 4) (ci := 1) hK hP rfl rfl) hl.1 rfl (Nat.le_of_ble_eq_true rfl) d_sl_law_511 ⟨by show _ ≤ 1036; omega, by show _ ≤ 8272; omega⟩ (fun rm _um H locs hm9 hP hD hS => ?_)
    have hP : va_P D cls2 [oD x qw qs qo (nI n) (nI (pu_sum w n)), aI qw cI fw, aI qs cI fs, aI qo cI fz, oM ym (nI 0) (nI n) mw ms mk mg, aL mw cJ gw, aL ms cJ gs, aL mk cJ gk, aI mg cZ gg, aO qt cJ (vp_updL fo 0 (lN (if t = 0 then n else if t = 1 then pu_sum w n else pu_cnt w n)))] H := hP.sub [0, 1, 2, 3, 8, 9, 4, 5, 6, 7] rfl
    have hD : va_D A [oD x qw qs qo (nI n) (nI (pu_sum w n)), aI qw cI fw, aI qs cI fs, aI qo cI fz, oM ym (nI 0) (nI n) mw ms mk mg, aL mw cJ gw, aL ms cJ gs, aL mk cJ gk, aI mg cZ gg, aO qt cJ (vp_updL fo 0 (lN (if t = 0 then n else if t = 1 then pu_sum w n else pu_cnt w n)))] := hD.sub [0, 1, 2, 3, 8, 9, 4, 5, 6, 7] rfl rfl
    subst hm9
    have hWb := pu_sum_bd hn8 hw
    have hcb := pu_cnt_le w n
    refine lv_istore (lv' := [(6, .int (nI (if t = 0 then n else if t = 1 then pu_sum w n else pu_cnt w n))), (5, .int (nI 0)), (4, .int (nI i)), (3, .ref qt), (2, .ref ym), (1, .ref x), (0, .ref b)]) hx hb d_sl_law_514 hl (by decide) rfl (fun ls hl => ?_)
    refine lv_aload_n hx hb d_sl_law_516 rfl (lv_at hl 4 rfl) ?_
    refine pv_i (C := "ShareDeskModel") hx hb hml hown hg (c_sm_thrown l D [(cI, .int), (cJ, .long), (cZ, .boolean)] ym mw ms mk mg H.size (nI 0) (nI n)) ⟨k_223, k_224, k_225, k_2, k_226⟩ n_sm_thrown ⟨rfl, rfl, by decide, by decide⟩ hK (hP.sub [4] rfl) (hD.sub [4] rfl rfl) (va_recv (q0 := 4) (ci := 1) hK hP rfl rfl) hl.1 rfl (Nat.le_of_ble_eq_true rfl) d_sl_law_517 ⟨by show _ ≤ 1036; omega, by show _ ≤ 8272; omega⟩ (fun rt hrt => ?_)
    subst hrt
    refine lv_iload hx hb d_sl_law_520 (lv_at hl 1 rfl) ?_
    refine xc_eq (tgt := 527) hx hb d_sl_law_522 (by decide) (by omega) (by omega) (fun hc9 => ?_) (fun hc9 => ?_)
    · refine lv_iload hx hb d_sl_law_527 (lv_at hl 1 rfl) ?_
      refine xz_ne (tgt := 544) hx hb d_sl_law_529 (by decide) (by omega) (fun h8 => ?_) (fun h8 => ?_)
      · exact absurd h8 (by decide)
      · refine lv_aload_n hx hb d_sl_law_532 rfl (lv_at hl 3 rfl) ?_
        refine lv_iconst (v := nI 0) hx hb d_sl_law_533 (by decide) ?_
        refine xo_ld hx hb hK hP 9 1 rfl rfl d_sl_law_534 (v := lN (if t = 0 then n else if t = 1 then pu_sum w n else pu_cnt w n)) pk_uLs ?_
        refine lv_iload hx hb d_sl_law_535 (lv_at hl 0 rfl) ?_
        refine lv_i2l (v := lN (if t = 0 then n else if t = 1 then pu_sum w n else pu_cnt w n)) hx hb d_sl_law_537 (nI_l (by split <;> (try split) <;> omega)) ?_
        refine W.lcmp hx hb d_sl_law_538 ?_
        refine lv_if_eq (tgt := 544) hx hb d_sl_law_539 (by decide) (fun _ => ?_) (fun h9 => absurd ((lg_cmp_eq _ _).mpr rfl) h9)
        refine lv_goto (tgt := 547) hx hb d_sl_law_544 (by decide) ?_
        refine W.widen (k := cells + 1) (n := slots + 6) (by omega) (by omega) ?_
        exact kk H locs ls n w (nI 0) fw fs fz gw gs gk gg _ hinv hP hD hS (lv_sub hl [2, 3, 4, 5, 6] rfl)
    · exact absurd rfl hc9
  · refine lv_aload_n hx hb d_sl_law_491 rfl (lv_at hl 3 rfl) ?_
    refine lv_aload_n hx hb d_sl_law_492 rfl (lv_at hl 4 rfl) ?_
    refine lv_iload hx hb d_sl_law_493 (lv_at hl 0 rfl) ?_
    refine lv_iconst (v := nI 1) hx hb d_sl_law_495 (by decide) ?_
    refine lv_iadd hx hb d_sl_law_496 ?_
    refine xr_i (nI_add _ _) ?_
    refine sc_ld hx hb hX hbl hbA hS (by omega) hL d_sl_law_497 (v := sc (i + 1)) rfl ?_
    refine lv_aload_n hx hb d_sl_law_498 rfl (lv_at hl 1 rfl) ?_
    refine es_i hx hb hml hown hg (t_sl_count1 l htr D [(cI, .int), (cJ, .long), (cZ, .boolean)] x qw qs qo qt H.size n (pu_sum w n) (sc (i + 1)) (by omega)) ⟨k_189, k_190, k_0, k_191⟩ n_sl_count ⟨rfl, rfl, by decide, by decide⟩ gX_blind (pre_X (hK.sub (tys' := [(cI, .int), (cJ, .long), (cZ, .boolean)]) [0, 1, 2] rfl) (hP.sub [0] rfl) (hD.sub [0] rfl rfl) hxs hS) hP hD hS hA [0] [1, 2, 3, 4, 5, 6, 7, 8, 9] rfl (wr := [aI qw cI fw, aI qs cI fs, aI qo cI fz, oM ym er (nI n) mw ms mk mg, aL mw cJ gw, aL ms cJ gs, aL mk cJ gk, aI mg cZ gg, aO qt cJ fo]) rfl rfl (by decide) hl.1 rfl (Nat.le_of_ble_eq_true rfl) d_sl_law_499 ⟨by show _ ≤ 1036; omega, by show _ ≤ 8272; omega⟩ (fun r0 _u H locs hu hP hD hS => ?_)
    subst hu
    have hP : va_P D cls2 [oD x qw qs qo (nI n) (nI (pu_sum w n)), aI qw cI fw, aI qs cI fs, aI qo cI fz, oM ym er (nI n) mw ms mk mg, aL mw cJ gw, aL ms cJ gs, aL mk cJ gk, aI mg cZ gg, aO qt cJ fo] H := hP.sub [9, 0, 1, 2, 3, 4, 5, 6, 7, 8] rfl
    have hD : va_D A [oD x qw qs qo (nI n) (nI (pu_sum w n)), aI qw cI fw, aI qs cI fs, aI qo cI fz, oM ym er (nI n) mw ms mk mg, aL mw cJ gw, aL ms cJ gs, aL mk cJ gk, aI mg cZ gg, aO qt cJ fo] := hD.sub [9, 0, 1, 2, 3, 4, 5, 6, 7, 8] rfl rfl
    refine lv_istore (lv' := [(5, .int (nI 1)), (4, .int (nI i)), (3, .ref qt), (2, .ref ym), (1, .ref x), (0, .ref b)]) hx hb d_sl_law_502 hl (by decide) rfl (fun ls hl => ?_)
    refine lv_aload_n hx hb d_sl_law_504 rfl (lv_at hl 3 rfl) ?_
    refine lv_aload_n hx hb d_sl_law_505 rfl (lv_at hl 5 rfl) ?_
    refine lv_iload hx hb d_sl_law_506 (lv_at hl 1 rfl) ?_
    refine lv_iconst (v := nI 1) hx hb d_sl_law_508 (by decide) ?_
    refine lv_iadd hx hb d_sl_law_509 ?_
    refine xr_i (nI_add _ _) ?_
    refine sc_ld hx hb hX hbl hbA hS (by omega) hL d_sl_law_510 (v := sc (i + 1)) rfl ?_
    refine ev_i (C := "ShareDeskModel") hx hb hml hown hg (c_sm_count1 l D cJ cZ ym mw ms mk mg H.size n er (sc (i + 1)) gw (by omega)) ⟨k_286, k_287, k_288, k_2, k_289⟩ n_sm_count ⟨rfl, rfl, by decide, by decide⟩ (hK.sub (tys' := [(cJ, .long), (cZ, .boolean)]) [1, 2] rfl) hP hD hS hA [4, 5] [0, 1, 2, 3, 6, 7, 8, 9] rfl rfl (wr := [oD x qw qs qo (nI n) (nI (pu_sum w n)), aI qw cI fw, aI qs cI fs, aI qo cI fz, aL ms cJ gs, aL mk cJ gk, aI mg cZ gg, aO qt cJ fo]) rfl rfl (by decide) (va_recv (q0 := 4) (ci := 1) hK hP rfl rfl) hl.1 rfl (Nat.le_of_ble_eq_true rfl) d_sl_law_511 ⟨by show _ ≤ 1036; omega, by show _ ≤ 8272; omega⟩ (fun rm _um H locs hm9 hP hD hS => ?_)
    have hP : va_P D cls2 [oD x qw qs qo (nI n) (nI (pu_sum w n)), aI qw cI fw, aI qs cI fs, aI qo cI fz, oM ym (nI 1) (nI n) mw ms mk mg, aL mw cJ gw, aL ms cJ gs, aL mk cJ gk, aI mg cZ gg, aO qt cJ fo] H := hP.sub [0, 1, 2, 3, 8, 9, 4, 5, 6, 7] rfl
    have hD : va_D A [oD x qw qs qo (nI n) (nI (pu_sum w n)), aI qw cI fw, aI qs cI fs, aI qo cI fz, oM ym (nI 1) (nI n) mw ms mk mg, aL mw cJ gw, aL ms cJ gs, aL mk cJ gk, aI mg cZ gg, aO qt cJ fo] := hD.sub [0, 1, 2, 3, 8, 9, 4, 5, 6, 7] rfl rfl
    refine lv_istore (lv' := [(6, .int rm), (5, .int (nI 1)), (4, .int (nI i)), (3, .ref qt), (2, .ref ym), (1, .ref x), (0, .ref b)]) hx hb d_sl_law_514 hl (by decide) rfl (fun ls hl => ?_)
    refine lv_aload_n hx hb d_sl_law_516 rfl (lv_at hl 4 rfl) ?_
    refine pv_i (C := "ShareDeskModel") hx hb hml hown hg (c_sm_thrown l D [(cI, .int), (cJ, .long), (cZ, .boolean)] ym mw ms mk mg H.size (nI 1) (nI n)) ⟨k_223, k_224, k_225, k_2, k_226⟩ n_sm_thrown ⟨rfl, rfl, by decide, by decide⟩ hK (hP.sub [4] rfl) (hD.sub [4] rfl rfl) (va_recv (q0 := 4) (ci := 1) hK hP rfl rfl) hl.1 rfl (Nat.le_of_ble_eq_true rfl) d_sl_law_517 ⟨by show _ ≤ 1036; omega, by show _ ≤ 8272; omega⟩ (fun rt hrt => ?_)
    subst hrt
    refine lv_iload hx hb d_sl_law_520 (lv_at hl 1 rfl) ?_
    refine xc_eq (tgt := 527) hx hb d_sl_law_522 (by decide) (by omega) (by omega) (fun hc9 => ?_) (fun hc9 => ?_)
    · refine lv_iload hx hb d_sl_law_527 (lv_at hl 1 rfl) ?_
      refine xz_ne (tgt := 544) hx hb d_sl_law_529 (by decide) (by omega) (fun h8 => ?_) (fun h8 => ?_)
      · refine lv_goto (tgt := 547) hx hb d_sl_law_544 (by decide) ?_
        refine W.widen (k := cells + 1) (n := slots + 6) (by omega) (by omega) ?_
        exact kk H locs ls n w (nI 1) fw fs fz gw gs gk gg fo hinv hP hD hS (lv_sub hl [2, 3, 4, 5, 6] rfl)
      · exact absurd h8 (by decide)
    · exact absurd rfl hc9
end LAWOPS
end
section
/-! the law's loop -/
theorem sl_gt {i L : Nat} (hL : L ≤ 2048) (hi : i ≤ 4000) : nI L - nI 4 < nI i ↔ L < i + 4 := by
  rw [Int32.lt_iff_toInt_lt, pk_sub_toInt (by omega) (by omega), nI_toInt (by omega)]
  omega
theorem xinc4 (k : Nat) : nI (4 * k) + Int32.ofInt 4 = nI (4 * (k + 1)) := nI_add (4 * k) 4
section LAWLOOP
variable {p : Program} {l : Launch} {e : Env} {s : State} {m : MethodId} {below : List Frame} {meth : Method} {c : Code} {Q : State → Prop}
variable {D : va_G} {A : Nat → Prop} {b L x qw qs qo ym mw ms mk mg qt : Nat} {cI cJ cZ : ClassId} {sc : Nat → Int32}
set_option maxRecDepth 20000 in
set_option maxHeartbeats 4000000 in
theorem law_loop (hx : p.tables.exec = Jvm.exec) (hb : c.code = code) (hml : c.maxLocals = 8) (hown : s.vm.findClass "ShareDeskLaw" = some m.cls) (hg : ∀ w ∈ gws, w.before #[Value.ref b] s = true) (htr : l.stackTraces = false) (hK : va_K D cls2 [(cI, .int), (cJ, .long), (cZ, .boolean)] s) (hA : ∀ q, s.heap.size ≤ q → A q) (hX : va_X b L sc s s.heap) (hbl : b < s.heap.size) (hbA : ¬ A b) (hxs : xs A s s.heap) (hnc : nc s) (hL : L ≤ 2048)
    (kend : ∀ (H : Heap) (locs : List Loc) (ls : Array Slot) (cells slots : Nat), cells ≤ 1036 → slots ≤ 8272 → va_S A s.heap H locs → W p l e room_1 s m #[Value.ref b] below meth c H locs cells slots Q (F0 m 553 ls [])) :
    ∀ (j k : Nat) (H : Heap) (locs : List Loc) (ls : Array Slot) (n : Nat) (w : Nat → Nat) (er : Int32) (fw fs fz : Nat → Int32) (gw gs gk : Nat → Int64) (gg : Nat → Int32) (fo : Nat → Int64), L ≤ 4 * k + 4 * j + 3 → 4 * k ≤ L + 3 → lwInv n w fw gw → va_P D cls2 [oD x qw qs qo (nI n) (nI (pu_sum w n)), aI qw cI fw, aI qs cI fs, aI qo cI fz, oM ym er (nI n) mw ms mk mg, aL mw cJ gw, aL ms cJ gs, aL mk cJ gk, aI mg cZ gg, aO qt cJ fo] H → va_D A [oD x qw qs qo (nI n) (nI (pu_sum w n)), aI qw cI fw, aI qs cI fs, aI qo cI fz, oM ym er (nI n) mw ms mk mg, aL mw cJ gw, aL ms cJ gs, aL mk cJ gk, aI mg cZ gg, aO qt cJ fo] → va_S A s.heap H locs → lv_has ls 8 [(4, .int (nI (4 * k))), (3, .ref qt), (2, .ref ym), (1, .ref x), (0, .ref b)] → W p l e room_1 s m #[Value.ref b] below meth c H locs (10 + k) (68 + 6 * k) Q (F0 m 23 ls []) := by
  intro j
  induction j with
  | zero =>
    intro k H locs ls n w er fw fs fz gw gs gk gg fo hj hk hinv hP hD hS hl
    refine lv_iload hx hb d_sl_law_23 (lv_at hl 0 rfl) ?_
    refine lv_aload_n hx hb d_sl_law_25 rfl (lv_at hl 4 rfl) ?_
    refine va_slen hx hb hX hbl hbA hS d_sl_law_26 ?_
    refine xr_i (y := nI L) rfl ?_
    refine lv_iconst (v := nI 4) hx hb d_sl_law_27 (by decide) ?_
    refine lv_isub hx hb d_sl_law_28 ?_
    refine lv_icmp_gt (tgt := 553) hx hb d_sl_law_29 (by decide) (fun hc => ?_) (fun hc => ?_)
    · exact kend H locs ls _ _ (by omega) (by omega) hS
    · exact absurd ((sl_gt hL (by omega)).mpr (by omega)) hc
  | succ j ih =>
    intro k H locs ls n w er fw fs fz gw gs gk gg fo hj hk hinv hP hD hS hl
    refine lv_iload hx hb d_sl_law_23 (lv_at hl 0 rfl) ?_
    refine lv_aload_n hx hb d_sl_law_25 rfl (lv_at hl 4 rfl) ?_
    refine va_slen hx hb hX hbl hbA hS d_sl_law_26 ?_
    refine xr_i (y := nI L) rfl ?_
    refine lv_iconst (v := nI 4) hx hb d_sl_law_27 (by decide) ?_
    refine lv_isub hx hb d_sl_law_28 ?_
    refine lv_icmp_gt (tgt := 553) hx hb d_sl_law_29 (by decide) (fun hc => ?_) (fun hc => ?_)
    · exact kend H locs ls _ _ (by omega) (by omega) hS
    · have hi : 4 * k + 4 ≤ L := Nat.le_of_not_lt (fun q => hc ((sl_gt hL (by omega)).mpr (by omega)))
      refine lv_aload_n hx hb d_sl_law_32 rfl (lv_at hl 4 rfl) ?_
      refine lv_iload hx hb d_sl_law_33 (lv_at hl 0 rfl) ?_
      refine sc_ld hx hb hX hbl hbA hS (by omega) hL d_sl_law_35 rfl ?_
      refine lv_bipush (v := nI 7) hx hb d_sl_law_36 (by decide) ?_
      refine lv_iand hx hb d_sl_law_38 ?_
      obtain ⟨op, hop, eop⟩ := pk_andE (sc (4 * k)) (m := nI 7) 3 (by decide)
      refine xr_i (y := nI op) eop ?_
      have kk : ∀ (H : Heap) (locs : List Loc) (ls : Array Slot) (n : Nat) (w : Nat → Nat) (er : Int32) (fw fs fz : Nat → Int32) (gw gs gk : Nat → Int64) (gg : Nat → Int32) (fo : Nat → Int64), lwInv n w fw gw → va_P D cls2 [oD x qw qs qo (nI n) (nI (pu_sum w n)), aI qw cI fw, aI qs cI fs, aI qo cI fz, oM ym er (nI n) mw ms mk mg, aL mw cJ gw, aL ms cJ gs, aL mk cJ gk, aI mg cZ gg, aO qt cJ fo] H → va_D A [oD x qw qs qo (nI n) (nI (pu_sum w n)), aI qw cI fw, aI qs cI fs, aI qo cI fz, oM ym er (nI n) mw ms mk mg, aL mw cJ gw, aL ms cJ gs, aL mk cJ gk, aI mg cZ gg, aO qt cJ fo] → va_S A s.heap H locs → lv_has ls 8 [(4, .int (nI (4 * k))), (3, .ref qt), (2, .ref ym), (1, .ref x), (0, .ref b)] → W p l e room_1 s m #[Value.ref b] below meth c H locs (10 + k + 1) (68 + 6 * k + 6) Q (F0 m 547 ls []) := by
        intro H locs ls n w er fw fs fz gw gs gk gg fo hinv hP hD hS hl
        refine lv_iinc (k := 0) (v := nI (4 * (k + 1))) (lv' := [(4, .int (nI (4 * (k + 1)))), (3, .ref qt), (2, .ref ym), (1, .ref x), (0, .ref b)]) hx hb d_sl_law_547 hl rfl (xinc4 k) (by decide) rfl (fun ls hl => ?_)
        refine lv_goto (tgt := 23) hx hb d_sl_law_550 (by decide) ?_
        refine W.widen (k := 10 + (k + 1)) (n := 68 + 6 * (k + 1)) (by omega) (by omega) ?_
        exact ih (k + 1) H locs ls n w er fw fs fz gw gs gk gg fo (by omega) (by omega) hinv hP hD hS hl
      rcases (show op = 0 ∨ op = 1 ∨ op = 2 ∨ op = 3 ∨ op = 4 ∨ op = 5 ∨ op = 6 ∨ op = 7 by omega) with rfl | rfl | rfl | rfl | rfl | rfl | rfl | rfl
      · refine lv_tableIn (off := 41) (tgt := 80) hx hb d_sl_law_39 (by decide) (by decide) (by decide) (by decide) ?_
        exact law_begin hx hb hml hown hg htr hK hA hX hbl hbA hxs hnc hL hinv hi (by omega) hP hD hS hl kk
      · refine lv_tableIn (off := 77) (tgt := 116) hx hb d_sl_law_39 (by decide) (by decide) (by decide) (by decide) ?_
        exact law_weight hx hb hml hown hg htr hK hA hX hbl hbA hxs hnc hL hinv hi (by omega) hP hD hS hl kk
      · refine lv_tableIn (off := 145) (tgt := 184) hx hb d_sl_law_39 (by decide) (by decide) (by decide) (by decide) ?_
        exact law_share hx hb hml hown hg htr hK hA hX hbl hbA hxs hnc hL hinv hi (by omega) hP hD hS hl kk
      · refine lv_tableIn (off := 225) (tgt := 264) hx hb d_sl_law_39 (by decide) (by decide) (by decide) (by decide) ?_
        exact law_over hx hb hml hown hg htr hK hA hX hbl hbA hxs hnc hL hinv hi (by omega) hP hD hS hl kk
      · refine lv_tableIn (off := 304) (tgt := 343) hx hb d_sl_law_39 (by decide) (by decide) (by decide) (by decide) ?_
        exact law_next hx hb hml hown hg htr hK hA hX hbl hbA hxs hnc hL hinv hi (by omega) hP hD hS hl kk
      · refine lv_tableIn (off := 372) (tgt := 411) hx hb d_sl_law_39 (by decide) (by decide) (by decide) (by decide) ?_
        exact law_least hx hb hml hown hg htr hK hA hX hbl hbA hxs hnc hL hinv hi (by omega) hP hD hS hl kk
      · refine lv_tableIn (off := 452) (tgt := 491) hx hb d_sl_law_39 (by decide) (by decide) (by decide) (by decide) ?_
        exact law_count hx hb hml hown hg htr hK hA hX hbl hbA hxs hnc hL hinv hi (by omega) hP hD hS hl kk
      · refine lv_tableOut (tgt := 547) hx hb d_sl_law_39 (Or.inr (by decide)) (by decide) ?_
        refine W.widen (k := 10 + k + 1) (n := 68 + 6 * k + 6) (by omega) (by omega) ?_
        exact kk H locs ls n w er fw fs fz gw gs gk gg fo hinv hP hD hS hl
end LAWLOOP
end
section
/-! THE CLAIM OUT OF ONE WALK OF THE LAW'S BODY. Your part is whole_start (and what it stands on); all else here is the same for every law, but numbers. -/
def R_law : String := "ShareDeskLaw"
def lw_P (b : Addr) (xs : List Int32) (args : Array Value) (s : State) : Prop := args = #[.ref b] ∧ s.IntsAt b xs ∧ xs.length ≤ 2048 ∧ (Jvm.Cond.and given_1 narrow_1).before args s = true
def lw_Q (_ : Array Value) (s : State) (o : Outcome) (t : State) : Prop := o = .returned (some (.int 1)) ∧ Framed s o t [] 1036 8272
def lw_Z (below : List Frame) (a : Array Value) (s : State) : State → Prop := fun t => ∃ o, t.status = .running ∧ Ended t below o ∧ lw_Q a s o t
/-- the law's own end, with 1 on the stack, nothing written that was there before, its room as the claim has it -/
theorem lw_ret {p : Program} {l : Launch} {e : Env} {s : State} {m : MethodId} {below : List Frame} {meth : Method} {c : Code} {b : Nat} (hx : p.tables.exec = Jvm.exec) (hb : c.code = code) (hr : meth.sig.returnType = ret) (hlocks : meth.locks = false) {pc : Nat} {H : Heap} {ls : Array Slot} (hdg : decode code pc = .ok (.ireturn, 1)) : W p l e room_1 s m #[Value.ref b] below meth c H [] 1036 8272 (lw_Z below #[Value.ref b] s) (F0 m pc ls [.int 1]) := by
  intro T hT X
  obtain ⟨fs, hret, hrun, hended, hW, hframe⟩ := X.leave (v := some (.int 1)) (hlocks := hlocks) (fun h => by rw [hr] at h; cases h)
  have hmeth' : T.vm.method? m = some meth := X.method'
  refine ⟨T.setFrames fs, ?_, .returned (some (.int 1)), hrun, hended, rfl, ⟨_, rfl⟩, hW, hframe⟩
  jvm_step X.here [X.here.top, hx, hb, hdg, hmeth', hr, ret, narrow_b1]
  (try refine ⟨rfl, ?_⟩); (try refine ⟨rfl, ?_⟩)
  first | (intro acts; rw [hret _ acts rfl rfl rfl]) | rw [hret _ _ rfl rfl rfl]
  exact Steps.refl _
/-- what holds at the law's entry: the machine, the code, the tables' words (any of lw_tbl by 'hts w (by decide +kernel)'), the script of L ints xs at the cell b, what the Statement gives of the start (any of its parts by flat_of_before) -/
def lw_At (p : Program) (s : State) (m : MethodId) (meth : Method) (c : Code) (b L : Nat) (xs : Nat → Int32) : Prop :=
  p.tables.exec = Jvm.exec ∧ c.code = code ∧ meth.sig.returnType = ret ∧ c.maxLocals = 8 ∧ s.vm.findClass R_law = some m.cls ∧ (∀ w ∈ lw_tbl, w.before #[Value.ref b] s = true) ∧ va_X b L xs s s.heap ∧ b < s.heap.size ∧ meth.locks = false ∧ (Jvm.Cond.and given_1 narrow_1).before #[Value.ref b] s = true
set_option maxRecDepth 20000 in
set_option maxHeartbeats 4000000 in
theorem whole_start {p : Program} {e : Env} {s : State} {m : MethodId} {below : List Frame} {meth : Method} {c : Code} (l : Launch) (htr : l.stackTraces = false) {b L : Nat} {sc : Nat → Int32} (hL : L ≤ 2048) (C0 : lw_At p s m meth c b L sc) : W p l e room_1 s m #[Value.ref b] below meth c s.heap [] 0 0 (lw_Z below #[Value.ref b] s) (entryFrame m ([Value.ref b] : List Value).toArray 8) := by
  obtain ⟨hx, hb, hr, hml, hown, hts, hX, hbl, hlk, hgv⟩ := C0
  have hown : s.vm.findClass "ShareDeskLaw" = some m.cls := hown
  have hg : ∀ w ∈ gws, w.before #[Value.ref b] s = true := fun w hw => hts w (List.mem_filter.mp hw).1
  have hs := flat_of_before _ hgv
  obtain ⟨A, hAe⟩ : ∃ A : Nat → Prop, A = fun q => s.heap.size ≤ q := ⟨_, rfl⟩
  have hA : ∀ q, s.heap.size ≤ q → A q := fun q h => by rw [hAe]; exact h
  have hbA : ¬ A b := by rw [hAe]; show ¬ s.heap.size ≤ b; omega
  have hAn : ∀ a : Nat, a < s.heap.size → ¬ A a := fun a h => by rw [hAe]; show ¬ s.heap.size ≤ a; omega
  have hxs : xs A s s.heap := ⟨xs1.of (hts _ (List.mem_of_getElem? (i := 84) rfl)) (hs _ (by decide +kernel)) hAn, xs1.of (hts _ (List.mem_of_getElem? (i := 86) rfl)) (hs _ (by decide +kernel)) hAn⟩
  have hnc : nc s := nc.of (hg _ k_132) (hg _ k_46) (hs _ (by decide +kernel))
  obtain ⟨c0, i0, hk0⟩ := u_known hg u_sd (hg _ k_10)
  obtain ⟨c1, i1, hk1⟩ := u_known hg u_sm (hg _ k_197)
  obtain ⟨D, hDe⟩ : ∃ D : va_G, D = (fun k => if k = 0 then c0 else c1, fun k => if k = 0 then i0 else i1) := ⟨_, rfl⟩
  have hK : va_K D cls2 [] s := by
    refine ⟨fun k q hq => ?_, fun k q h => by cases k <;> cases h⟩
    rw [hDe]
    match k, hq with
    | 0, hq => cases hq; exact hk0
    | 1, hq => cases hq; exact hk1
    | k + 2, hq => cases k <;> cases hq
  have hP : va_P D cls2 [] s.heap := fun k q h => by cases k <;> cases h
  have hD : va_D A [] := ⟨fun i j p q h => (by cases i <;> cases h), fun k q h => (by cases k <;> cases h)⟩
  have hS : va_S A s.heap s.heap [] := va_S.rf
  have hl := lv_entry ([.ref b]) (n := 8) (Nat.le_of_ble_eq_true rfl)
  rw [lg_entry_eq]
  generalize (lg_sl ([.ref b]) ++ List.replicate (8 - (lg_sl ([.ref b])).length) Slot.unset).toArray = ls at hl ⊢
  have hl : lv_has ls 8 [(0, .ref b)] := hl
  refine va_new (ci := 0) (fs := [.null, .null, .null, .int 0, .int 0]) (C := "ShareDesk") (T := F_sd) (N := 5) hx hb hg u_sd t_sd t_sd_ok hown (hg _ k_9) (hg _ k_10) (hg _ k_1) hK hP hD hS hA rfl (fun j hj => by rcases (show j = 0 ∨ j = 1 ∨ j = 2 ∨ j = 3 ∨ j = 4 by omega) with rfl | rfl | rfl | rfl | rfl <;> rfl) (by decide) (by decide) d_sl_law_0 (fun x H hP hD hS => ?_)
  have hP : va_P D cls2 [(x, .inr (0, [.null, .null, .null, .int 0, .int 0]))] H := hP
  have hD : va_D A [(x, .inr (0, [.null, .null, .null, .int 0, .int 0]))] := hD
  refine lv_dup hx hb d_sl_law_3 rfl ?_
  refine ev_I hx hb hml hown hg (c_sd_init l D x H.size) ⟨k_11, k_12, k_1, k_13⟩ rfl n_sd_init ⟨rfl, rfl, by decide, by decide⟩ hK hP hD hS hA [0] [] rfl rfl (wr := []) rfl rfl (by decide) hl.1 rfl (Nat.le_of_ble_eq_true rfl) d_sl_law_4 ⟨by decide, by decide⟩ (fun u H locs _ hK1 hP hD hS => ?_)
  obtain ⟨cI, qw, qs, qo⟩ := u
  have hP : va_P D cls2 [oD x qw qs qo (nI 2) (nI 0), aI qw cI (fun _ => 0), aI qs cI (fun _ => 0), aI qo cI (fun _ => 0)] H := hP
  have hD : va_D A [oD x qw qs qo (nI 2) (nI 0), aI qw cI (fun _ => 0), aI qs cI (fun _ => 0), aI qo cI (fun _ => 0)] := hD
  refine lv_astore_n (lv' := [(1, .ref x), (0, .ref b)]) hx hb d_sl_law_7 rfl hl (by decide) rfl (fun ls hl => ?_)
  refine va_new (ci := 1) (fs := [.int 0, .int 0, .null, .null, .null, .null]) (C := "ShareDeskModel") (T := F_sm) (N := 6) hx hb hg u_sm t_sm t_sm_ok hown (hg _ k_196) (hg _ k_197) (hg _ k_2) hK hP hD hS hA rfl (fun j hj => by rcases (show j = 0 ∨ j = 1 ∨ j = 2 ∨ j = 3 ∨ j = 4 ∨ j = 5 by omega) with rfl | rfl | rfl | rfl | rfl | rfl <;> rfl) (by decide) (by decide) d_sl_law_8 (fun ym H hP hD hS => ?_)
  have hP : va_P D cls2 [oD x qw qs qo (nI 2) (nI 0), aI qw cI (fun _ => 0), aI qs cI (fun _ => 0), aI qo cI (fun _ => 0), (ym, .inr (1, [.int 0, .int 0, .null, .null, .null, .null]))] H := hP
  have hD : va_D A [oD x qw qs qo (nI 2) (nI 0), aI qw cI (fun _ => 0), aI qs cI (fun _ => 0), aI qo cI (fun _ => 0), (ym, .inr (1, [.int 0, .int 0, .null, .null, .null, .null]))] := hD
  refine lv_dup hx hb d_sl_law_11 rfl ?_
  refine ev_I hx hb hml hown hg (c_sm_init l D ym H.size) ⟨k_198, k_199, k_2, k_200⟩ rfl n_sm_init ⟨rfl, rfl, by decide, by decide⟩ hK hP hD hS hA [4] [0, 1, 2, 3] rfl rfl (wr := [oD x qw qs qo (nI 2) (nI 0), aI qw cI (fun _ => 0), aI qs cI (fun _ => 0), aI qo cI (fun _ => 0)]) rfl rfl (by decide) hl.1 rfl (Nat.le_of_ble_eq_true rfl) d_sl_law_12 ⟨by decide, by decide⟩ (fun u H locs _ hK2 hP hD hS => ?_)
  obtain ⟨cJ, cZ, mw, ms, mk, mg⟩ := u
  have hP : va_P D cls2 [oD x qw qs qo (nI 2) (nI 0), aI qw cI (fun _ => 0), aI qs cI (fun _ => 0), aI qo cI (fun _ => 0), oM ym (nI 0) (nI 2) mw ms mk mg, aL mw cJ (fun _ => 0), aL ms cJ (fun _ => 0), aL mk cJ (fun _ => 0), aI mg cZ (fun _ => 0)] H := hP
  have hD : va_D A [oD x qw qs qo (nI 2) (nI 0), aI qw cI (fun _ => 0), aI qs cI (fun _ => 0), aI qo cI (fun _ => 0), oM ym (nI 0) (nI 2) mw ms mk mg, aL mw cJ (fun _ => 0), aL ms cJ (fun _ => 0), aL mk cJ (fun _ => 0), aI mg cZ (fun _ => 0)] := hD
  have hK : va_K D cls2 [(cI, .int), (cJ, .long), (cZ, .boolean)] s := hK1.app hK2
  refine lv_astore_n (lv' := [(2, .ref ym), (1, .ref x), (0, .ref b)]) hx hb d_sl_law_15 rfl hl (by decide) rfl (fun ls hl => ?_)
  refine lv_iconst (v := nI 1) hx hb d_sl_law_16 (by decide) ?_
  refine va_newa (atype := .long) (a0 := (1, .inr (.inl (fun _ => 0)))) (ty := .long) hx hb (hg _ k_221) rfl hK hP hD hS hA (fun _ => rfl) (n := nI 1) (N' := 1) (by decide) (by decide) (by decide) (by decide) (by decide) d_sl_law_17 (fun qt cO H hK hP hD hS => ?_)
  obtain rfl : cJ = cO := kl_eq hK 1 3 rfl rfl
  have hK : va_K D cls2 [(cI, .int), (cJ, .long), (cZ, .boolean)] s := hK.sub [0, 1, 2] rfl
  refine lv_astore_n (lv' := [(3, .ref qt), (2, .ref ym), (1, .ref x), (0, .ref b)]) hx hb d_sl_law_19 rfl hl (by decide) rfl (fun ls hl => ?_)
  refine lv_iconst (v := nI 0) hx hb d_sl_law_20 (by decide) ?_
  refine lv_istore (lv' := [(4, .int (nI 0)), (3, .ref qt), (2, .ref ym), (1, .ref x), (0, .ref b)]) hx hb d_sl_law_21 hl (by decide) rfl (fun ls hl => ?_)
  refine W.widen (k := 10 + 0) (n := 68 + 6 * 0) (by decide) (by decide) ?_
  refine law_loop hx hb hml hown hg htr hK hA hX hbl hbA hxs hnc hL (fun H locs ls cells slots hc1 hc2 hS => ?_) L 0 H locs ls 2 (fun _ => 0) (nI 0) (fun _ => 0) (fun _ => 0) (fun _ => 0) (fun _ => 0) (fun _ => 0) (fun _ => 0) (fun _ => 0) (fun _ => 0) (by omega) (by omega) ⟨by decide, by decide, fun q => Nat.zero_le _, fun q _ => nI_0.symm, fun q _ => rfl⟩ (by rw [pu_zero]; exact hP) (by rw [pu_zero]; exact hD) hS hl
  refine lv_iconst (v := 1) hx hb d_sl_law_553 (by decide) ?_
  refine W.widen (k := 1036) (n := 8272) hc1 hc2 ?_
  refine va_forget (fun q hq => by have := hS.2.2 q hq; rw [hAe] at this; exact this) ?_
  exact lw_ret hx hb hr hlk d_sl_law_554
set_option maxHeartbeats 4000000 in
theorem lw_walk (l : Launch) (htr : l.stackTraces = false) (b : Addr) (xs : List Int32) : MetFree l x (headSpec (Jvm.Cond.code x code maxLocals ret :: tables_1) room_1) (lw_P b xs) (fun _ _ _ _ _ => True) lw_Q := by
  refine MetFree.of_bodyS (code := code) (maxLocals := maxLocals) (ret := ret) (by decide) ?_ ?_
  · intro args s m h hn
    obtain ⟨meth, c, h1, h2, h3, h4, h5, h6, -, -⟩ := Cond.code_spec hn (atoms_spec (ws := Jvm.Cond.code x code maxLocals ret :: tables_1) h _ List.mem_cons_self)
    exact ⟨meth, c, h1, h2, h3, h4, h5, h6⟩
  · intro p e s m args below meth c s₁ B hml0 hP _
    obtain ⟨rfl, hx, hbd, hgv⟩ := hP
    obtain ⟨scr, harrAt, hlist, hof, hsmall⟩ := hx
    obtain ⟨hcb, hkn, -, -⟩ := State.arrayAt?_spec harrAt
    have hown : s.vm.findClass R_law = some m.cls := findClass_of_methodNamed B.named
    have hts0 : ∀ c ∈ (Jvm.Cond.code x code maxLocals ret :: tables_1), c.before #[Value.ref b] s = true := atoms_spec (ws := Jvm.Cond.code x code maxLocals ret :: tables_1) B.pre
    have hts : ∀ w ∈ lw_tbl, w.before #[Value.ref b] s = true := k2_hts_sels lw_privs (fun w hw => hts0 w (List.mem_cons_of_mem _ hw)) lw_privs_ok
    have hml : c.maxLocals = 8 := B.maxLocals_eq (hts0 _ List.mem_cons_self)
    have X₀ : Stand p l e room_1 s m #[Value.ref b] below meth c s₁ [] 0 0 := Stand.of_body B
    have hh0 : s₁.heap = s.heap := by rw [B.state]; rfl
    have hsz : scr.slots.size = xs.length := by rw [← Array.length_toList, hlist, List.length_map]
    have hval : ∀ j : Nat, j < xs.length → scr.slots[j]? = some (.int (xs.getD j 0)) := fun j hj => by
      rw [← Array.getElem?_toList, hlist]
      simp [hj]
    have hbl : b < s.heap.size := (Array.getElem?_eq_some_iff.mp hcb).1
    have hX : va_X b xs.length (fun j => xs.getD j 0) s s.heap := ⟨scr, hcb, hof, hkn, hsz, hval⟩
    have K : W p l e room_1 s m #[Value.ref b] below meth c s₁.heap [] 0 0 (lw_Z below #[Value.ref b] s) (entryFrame m ([Value.ref b] : List Value).toArray 8) := by
      rw [hh0]
      exact whole_start l htr hbd ⟨B.exec, B.bytes, B.returns, hml, hown, hts, hX, hbl, B.notSynchronized, hgv⟩
    obtain ⟨t, a1, o, b1, b2, b3⟩ := K s₁ rfl X₀
    exact ⟨t, o, a1, b1, b2, b3⟩
theorem lw_pre_spec {args : Array Value} {s : State} (h : (Jvm.Cond.and given_1 narrow_1).before args s = true) (hr : rest_1_c.before args s = true) : ∃ (b : Addr) (xs : List Int32), lw_P b xs args s := by
  have hs := flat_of_before _ h
  have hq := flat_of_before _ hr
  have hc : (Cond.count 1).before args s = true := hs _ (by decide +kernel)
  have harr : (Cond.arrayOf (.arg 0) .int).before args s = true := hs _ (by decide +kernel)
  have hle : (Cond.le (.length (.arg 0)) (.int 2048)).before args s = true := hs _ (by decide +kernel)
  have hlen : (Cond.isInt (.length (.arg 0))).before args s = true := hq _ (by decide +kernel)
  have hall : (Cond.all (.arg 0) (.isInt (.elem (.arg 0) (.index 0)))).before args s = true := hq _ (by decide +kernel)
  obtain ⟨b, xs, hb, hx⟩ := State.ints_of_pre rfl harr hlen hall
  have hsm : xs.length < 2 ^ 31 := hx.choose_spec.2.2.2
  have hev : (Term.length (.arg 0)).eval args s none [] s = some (.int xs.length.toInt32) := hx.length_eval hb
  have hv := Cond.le_ints hev (show (Term.int 2048).eval args s none [] s = some (.int 2048) from rfl)
  have hd : xs.length.toInt32 ≤ 2048 := by
    simpa [Cond.before, Cond.holds, hv] using hle
  have hN : xs.length ≤ 2048 := (Int32.ofNat_le_ofNat hsm (by decide)).mp (show Int32.ofNat xs.length ≤ Int32.ofNat 2048 from hd)
  exact ⟨b, xs, Cond.one_arg hc (show args[0]? = some (.ref b) from hb), hx, hN, h⟩
theorem lw_comes (l : Launch) (htr : l.stackTraces = false) : Comes l x (Jvm.Cond.code x code maxLocals ret :: tables_1) room_1 (fun tb e args s => Calls_1 tb e args s ∧ rest_1 tb e args s ∧ Pre_1 tb e args s)
    (fun _ _ args s o t => lw_Q args s o t) := by
  intro p e ha hc hk s m args below hf hfit hheap happ hpre
  obtain ⟨b, xs, hP⟩ := lw_pre_spec hpre.2.2 hpre.2.1
  obtain ⟨k, o, h1, h2, h3, hQ⟩ := lw_walk l htr b xs p e ha hc hk s m args below hf ((Spec.applies_iff_loose hf).mp happ).1 hP trivial
  exact ⟨k, o, h1, h2, h3, hQ⟩
theorem lw_frame {s t : State} {o : Outcome} {args : Array Value} (h : Framed s o t [] 1036 8272) :
    Framed s o t (fieldLocs frame_1_writes args s ++ arrayLocs frame_1_arrays args s ++ staticLocs frame_1_statics s) 1036 8272 := h
theorem lw_limb (L : Cond) (hL : ∀ (args : Array Value) (s t : State), L.after args s (.returned (some (.int 1))) t = true) :
    ArmFor flags0 classFile x code maxLocals ret World_1 tables_1 room_1 Calls_1 rest_1 Pre_1
      (fun tb e a s o t => postC L tb e a s o t ∧ Framed s o t (fieldLocs frame_1_writes a s ++ arrayLocs frame_1_arrays a s ++ staticLocs frame_1_statics s) 1036 8272) := by
  intro l hfl _ _ p e ha hc hk s m args below hf hfit hheap happ hpre
  have htr : l.stackTraces = false := by rw [Launch.stackTraces, hfl]; decide +kernel
  obtain ⟨k, o, h1, h2, h3, rfl, hF⟩ := lw_comes l htr p e ha hc hk s m args below hf hfit hheap happ hpre
  exact ⟨k, _, h1, h2, h3, hL args s _, lw_frame hF⟩
theorem i_vc : Claimed_1_1 ∧ Claimed_1_2 := ⟨lw_limb limb_1_1 (fun args s t => by simp [limb_1_1, Cond.after, Cond.holds, Cond.value]), lw_limb limb_1_2 (fun args s t => Cond.after_iff.mpr (by
  first | (rw [show limb_1_2 = Cond.eq .result (.int 1) from rfl, Cond.eq_ints (x := 1) (y := 1) rfl rfl]; simp; done) | (simp [limb_1_2, Cond.value, Term.eval]; done)))⟩
end
