section
-- ===== PART A: goes FIRST, ahead of the names: the tables' words, and 'selects' of the private methods out of them =====
/-- a private method of a class that the tables say can be made, by its rows of tables_1 -/
def lw_okq (q : MethodName × Nat) : Prop := (q.1.cls ≠ "java/lang/invoke/MethodHandle" ∧ q.1.cls ≠ "java/lang/invoke/VarHandle") ∧ Cond.instantiable q.1.cls q.2 ∈ tables_1 ∧ Cond.privateMethod q.1 ∈ tables_1 ∧ Cond.instanceMethod q.1 ∈ tables_1
theorem lw_p0 : lw_okq (⟨"DensestSubgraph", "bad", "(I)Z"⟩, 12) := ⟨⟨by decide +kernel, by decide +kernel⟩, List.mem_of_getElem? (i := 4) (by decide +kernel), List.mem_of_getElem? (i := 55) (by decide +kernel), List.mem_of_getElem? (i := 56) (by decide +kernel)⟩
theorem lw_p1 : lw_okq (⟨"DensestSubgraph", "solve", "()Z"⟩, 12) := ⟨⟨by decide +kernel, by decide +kernel⟩, List.mem_of_getElem? (i := 4) (by decide +kernel), List.mem_of_getElem? (i := 75) (by decide +kernel), List.mem_of_getElem? (i := 76) (by decide +kernel)⟩
theorem lw_p2 : lw_okq (⟨"DensestSubgraph", "takeDensity", "(I)V"⟩, 12) := ⟨⟨by decide +kernel, by decide +kernel⟩, List.mem_of_getElem? (i := 4) (by decide +kernel), List.mem_of_getElem? (i := 79) (by decide +kernel), List.mem_of_getElem? (i := 80) (by decide +kernel)⟩
theorem lw_p3 : lw_okq (⟨"DensestSubgraph", "cut", "(II)V"⟩, 12) := ⟨⟨by decide +kernel, by decide +kernel⟩, List.mem_of_getElem? (i := 4) (by decide +kernel), List.mem_of_getElem? (i := 90) (by decide +kernel), List.mem_of_getElem? (i := 91) (by decide +kernel)⟩
theorem lw_p4 : lw_okq (⟨"DensestSubgraph", "buildNetwork", "(II)V"⟩, 12) := ⟨⟨by decide +kernel, by decide +kernel⟩, List.mem_of_getElem? (i := 4) (by decide +kernel), List.mem_of_getElem? (i := 94) (by decide +kernel), List.mem_of_getElem? (i := 95) (by decide +kernel)⟩
theorem lw_p5 : lw_okq (⟨"DensestSubgraph", "findWay", "()Z"⟩, 12) := ⟨⟨by decide +kernel, by decide +kernel⟩, List.mem_of_getElem? (i := 4) (by decide +kernel), List.mem_of_getElem? (i := 99) (by decide +kernel), List.mem_of_getElem? (i := 100) (by decide +kernel)⟩
theorem lw_p6 : lw_okq (⟨"DensestSubgraph", "isNode", "(I)Z"⟩, 12) := ⟨⟨by decide +kernel, by decide +kernel⟩, List.mem_of_getElem? (i := 4) (by decide +kernel), List.mem_of_getElem? (i := 103) (by decide +kernel), List.mem_of_getElem? (i := 104) (by decide +kernel)⟩
theorem lw_p7 : lw_okq (⟨"DensestSubgraph", "sendAlong", "()V"⟩, 12) := ⟨⟨by decide +kernel, by decide +kernel⟩, List.mem_of_getElem? (i := 4) (by decide +kernel), List.mem_of_getElem? (i := 107) (by decide +kernel), List.mem_of_getElem? (i := 108) (by decide +kernel)⟩
theorem lw_p8 : lw_okq (⟨"DensestSubgraph", "valueOf", "(III)I"⟩, 12) := ⟨⟨by decide +kernel, by decide +kernel⟩, List.mem_of_getElem? (i := 4) (by decide +kernel), List.mem_of_getElem? (i := 112) (by decide +kernel), List.mem_of_getElem? (i := 113) (by decide +kernel)⟩
theorem lw_p9 : lw_okq (⟨"DensestSubgraphModel", "bad", "(I)Z"⟩, 3) := ⟨⟨by decide +kernel, by decide +kernel⟩, List.mem_of_getElem? (i := 138) (by decide +kernel), List.mem_of_getElem? (i := 158) (by decide +kernel), List.mem_of_getElem? (i := 159) (by decide +kernel)⟩
theorem lw_p10 : lw_okq (⟨"DensestSubgraphModel", "oneDensest", "()I"⟩, 3) := ⟨⟨by decide +kernel, by decide +kernel⟩, List.mem_of_getElem? (i := 138) (by decide +kernel), List.mem_of_getElem? (i := 178) (by decide +kernel), List.mem_of_getElem? (i := 179) (by decide +kernel)⟩
theorem lw_p11 : lw_okq (⟨"DensestSubgraphModel", "allowed", "(I)Z"⟩, 3) := ⟨⟨by decide +kernel, by decide +kernel⟩, List.mem_of_getElem? (i := 138) (by decide +kernel), List.mem_of_getElem? (i := 182) (by decide +kernel), List.mem_of_getElem? (i := 183) (by decide +kernel)⟩
theorem lw_p12 : lw_okq (⟨"DensestSubgraphModel", "size", "(I)I"⟩, 3) := ⟨⟨by decide +kernel, by decide +kernel⟩, List.mem_of_getElem? (i := 138) (by decide +kernel), List.mem_of_getElem? (i := 187) (by decide +kernel), List.mem_of_getElem? (i := 188) (by decide +kernel)⟩
theorem lw_p13 : lw_okq (⟨"DensestSubgraphModel", "common", "(I)I"⟩, 3) := ⟨⟨by decide +kernel, by decide +kernel⟩, List.mem_of_getElem? (i := 138) (by decide +kernel), List.mem_of_getElem? (i := 191) (by decide +kernel), List.mem_of_getElem? (i := 192) (by decide +kernel)⟩
theorem lw_p14 : lw_okq (⟨"DensestSubgraphModel", "badPrice", "(II)Z"⟩, 3) := ⟨⟨by decide +kernel, by decide +kernel⟩, List.mem_of_getElem? (i := 138) (by decide +kernel), List.mem_of_getElem? (i := 207) (by decide +kernel), List.mem_of_getElem? (i := 208) (by decide +kernel)⟩
def lw_privs_1 : List (MethodName × Nat) := [(⟨"DensestSubgraph", "bad", "(I)Z"⟩, 12), (⟨"DensestSubgraph", "solve", "()Z"⟩, 12), (⟨"DensestSubgraph", "takeDensity", "(I)V"⟩, 12), (⟨"DensestSubgraph", "cut", "(II)V"⟩, 12), (⟨"DensestSubgraph", "buildNetwork", "(II)V"⟩, 12), (⟨"DensestSubgraph", "findWay", "()Z"⟩, 12), (⟨"DensestSubgraph", "isNode", "(I)Z"⟩, 12), (⟨"DensestSubgraph", "sendAlong", "()V"⟩, 12), (⟨"DensestSubgraph", "valueOf", "(III)I"⟩, 12), (⟨"DensestSubgraphModel", "bad", "(I)Z"⟩, 3), (⟨"DensestSubgraphModel", "oneDensest", "()I"⟩, 3), (⟨"DensestSubgraphModel", "allowed", "(I)Z"⟩, 3), (⟨"DensestSubgraphModel", "size", "(I)I"⟩, 3), (⟨"DensestSubgraphModel", "common", "(I)I"⟩, 3), (⟨"DensestSubgraphModel", "badPrice", "(II)Z"⟩, 3)]
theorem lw_r1 : ∀ q ∈ lw_privs_1, lw_okq q := List.forall_mem_cons.mpr ⟨lw_p0, List.forall_mem_cons.mpr ⟨lw_p1, List.forall_mem_cons.mpr ⟨lw_p2, List.forall_mem_cons.mpr ⟨lw_p3, List.forall_mem_cons.mpr ⟨lw_p4, List.forall_mem_cons.mpr ⟨lw_p5, List.forall_mem_cons.mpr ⟨lw_p6, List.forall_mem_cons.mpr ⟨lw_p7, List.forall_mem_cons.mpr ⟨lw_p8, List.forall_mem_cons.mpr ⟨lw_p9, List.forall_mem_cons.mpr ⟨lw_p10, List.forall_mem_cons.mpr ⟨lw_p11, List.forall_mem_cons.mpr ⟨lw_p12, List.forall_mem_cons.mpr ⟨lw_p13, List.forall_mem_cons.mpr ⟨lw_p14, fun _ h => absurd h List.not_mem_nil⟩⟩⟩⟩⟩⟩⟩⟩⟩⟩⟩⟩⟩⟩⟩
def lw_privs : List (MethodName × Nat) := lw_privs_1
def lw_tbl : List Cond := k2_sels lw_privs ++ tables_1
theorem lw_privs_ok : ∀ q ∈ lw_privs, lw_okq q := lw_r1
def R_law : String := "DensestSubgraphLaw"
/-- the words that a callee may be handed -/
def tb : List Cond := lw_tbl.filter goodWord
end
section
def R_D : String := "DensestSubgraph"
def F_D : u_T := fun k => match k with
  | 0 => ("DensestSubgraph", "n", "I", true)
  | 1 => ("DensestSubgraph", "pair", "[I", true)
  | 2 => ("DensestSubgraph", "extra", "[I", true)
  | 3 => ("DensestSubgraph", "modes", "[I", true)
  | 4 => ("DensestSubgraph", "residual", "[I", true)
  | 5 => ("DensestSubgraph", "cameFrom", "[I", true)
  | 6 => ("DensestSubgraph", "queue", "[I", true)
  | 7 => ("DensestSubgraph", "reaches", "[Z", true)
  | 8 => ("DensestSubgraph", "cutSet", "I", false)
  | 9 => ("DensestSubgraph", "bestTop", "I", false)
  | 10 => ("DensestSubgraph", "bestBottom", "I", false)
  | _ => ("DensestSubgraph", "bestSet", "I", false)
def t_D : Nat → FieldType := fun k => match k with
  | 0 => .int
  | 1 => .array .int
  | 2 => .array .int
  | 3 => .array .int
  | 4 => .array .int
  | 5 => .array .int
  | 6 => .array .int
  | 7 => .array .boolean
  | 8 => .int
  | 9 => .int
  | 10 => .int
  | _ => .int
abbrev w_D : List Cond := u_ws R_D F_D 12
def R_M : String := "DensestSubgraphModel"
def F_M : u_T := fun k => match k with
  | 0 => ("DensestSubgraphModel", "n", "I", true)
  | 1 => ("DensestSubgraphModel", "w", "[I", true)
  | _ => ("DensestSubgraphModel", "modes", "[I", true)
def t_M : Nat → FieldType := fun k => match k with
  | 0 => .int
  | 1 => .array .int
  | _ => .array .int
abbrev w_M : List Cond := u_ws R_M F_M 3
abbrev classes : List vw_C := [(R_D, F_D, 12), (R_M, F_M, 3)]
abbrev b_D_init : ByteArray := prog_1_method_1_code
def y_D_init : MethodName := ⟨R_D, "<init>", "(I)V"⟩
def w_D_init : List Cond := .code y_D_init b_D_init 3 none :: tb
abbrev b_D_bad : ByteArray := prog_1_method_2_code
def y_D_bad : MethodName := ⟨R_D, "bad", "(I)Z"⟩
def w_D_bad : List Cond := .code y_D_bad b_D_bad 2 (some .boolean) :: tb
abbrev b_D_edge : ByteArray := prog_1_method_3_code
def y_D_edge : MethodName := ⟨R_D, "edge", "(III)I"⟩
def w_D_edge : List Cond := .code y_D_edge b_D_edge 5 (some .int) :: tb
abbrev b_D_bonus : ByteArray := prog_1_method_4_code
def y_D_bonus : MethodName := ⟨R_D, "bonus", "(II)I"⟩
def w_D_bonus : List Cond := .code y_D_bonus b_D_bonus 4 (some .int) :: tb
abbrev b_D_mode : ByteArray := prog_1_method_5_code
def y_D_mode : MethodName := ⟨R_D, "mode", "(II)I"⟩
def w_D_mode : List Cond := .code y_D_mode b_D_mode 4 (some .int) :: tb
abbrev b_D_weight : ByteArray := prog_1_method_6_code
def y_D_weight : MethodName := ⟨R_D, "weight", "(I)I"⟩
def w_D_weight : List Cond := .code y_D_weight b_D_weight 5 (some .int) :: tb
abbrev b_D_members : ByteArray := prog_1_method_7_code
def y_D_members : MethodName := ⟨R_D, "members", "(I)I"⟩
def w_D_members : List Cond := .code y_D_members b_D_members 3 (some .int) :: tb
abbrev b_D_build : ByteArray := prog_1_method_8_code
def y_D_build : MethodName := ⟨R_D, "buildNetwork", "(II)V"⟩
def w_D_build : List Cond := .code y_D_build b_D_build 6 none :: tb
abbrev b_D_isNode : ByteArray := prog_1_method_9_code
def y_D_isNode : MethodName := ⟨R_D, "isNode", "(I)Z"⟩
def w_D_isNode : List Cond := .code y_D_isNode b_D_isNode 2 (some .boolean) :: tb
abbrev b_D_findWay : ByteArray := prog_1_method_10_code
def y_D_findWay : MethodName := ⟨R_D, "findWay", "()Z"⟩
def w_D_findWay : List Cond := .code y_D_findWay b_D_findWay 5 (some .boolean) :: tb
abbrev b_D_send : ByteArray := prog_1_method_11_code
def y_D_send : MethodName := ⟨R_D, "sendAlong", "()V"⟩
def w_D_send : List Cond := .code y_D_send b_D_send 5 none :: tb
abbrev b_D_cut : ByteArray := prog_1_method_12_code
def y_D_cut : MethodName := ⟨R_D, "cut", "(II)V"⟩
def w_D_cut : List Cond := .code y_D_cut b_D_cut 8 none :: tb
abbrev b_D_valueOf : ByteArray := prog_1_method_13_code
def y_D_valueOf : MethodName := ⟨R_D, "valueOf", "(III)I"⟩
def w_D_valueOf : List Cond := .code y_D_valueOf b_D_valueOf 6 (some .int) :: tb
abbrev b_D_gcd : ByteArray := prog_1_method_14_code
def y_D_gcd : MethodName := ⟨R_D, "gcd", "(II)I"⟩
def w_D_gcd : List Cond := .code y_D_gcd b_D_gcd 6 (some .int) :: tb
abbrev b_D_take : ByteArray := prog_1_method_15_code
def y_D_take : MethodName := ⟨R_D, "takeDensity", "(I)V"⟩
def w_D_take : List Cond := .code y_D_take b_D_take 5 none :: tb
abbrev b_D_solve : ByteArray := prog_1_method_16_code
def y_D_solve : MethodName := ⟨R_D, "solve", "()Z"⟩
def w_D_solve : List Cond := .code y_D_solve b_D_solve 5 (some .boolean) :: tb
abbrev b_D_dTop : ByteArray := prog_1_method_17_code
def y_D_dTop : MethodName := ⟨R_D, "densityTop", "()I"⟩
def w_D_dTop : List Cond := .code y_D_dTop b_D_dTop 2 (some .int) :: tb
abbrev b_D_dBot : ByteArray := prog_1_method_18_code
def y_D_dBot : MethodName := ⟨R_D, "densityBottom", "()I"⟩
def w_D_dBot : List Cond := .code y_D_dBot b_D_dBot 2 (some .int) :: tb
abbrev b_D_densest : ByteArray := prog_1_method_19_code
def y_D_densest : MethodName := ⟨R_D, "densest", "()I"⟩
def w_D_densest : List Cond := .code y_D_densest b_D_densest 2 (some .int) :: tb
abbrev b_D_badPrice : ByteArray := prog_1_method_20_code
def y_D_badPrice : MethodName := ⟨R_D, "badPrice", "(II)Z"⟩
def w_D_badPrice : List Cond := .code y_D_badPrice b_D_badPrice 2 (some .boolean) :: tb
abbrev b_D_excess : ByteArray := prog_1_method_21_code
def y_D_excess : MethodName := ⟨R_D, "excess", "(II)I"⟩
def w_D_excess : List Cond := .code y_D_excess b_D_excess 3 (some .int) :: tb
abbrev b_D_exSet : ByteArray := prog_1_method_22_code
def y_D_exSet : MethodName := ⟨R_D, "excessSet", "(II)I"⟩
def w_D_exSet : List Cond := .code y_D_exSet b_D_exSet 3 (some .int) :: tb
abbrev b_M_init : ByteArray := prog_3_method_1_code
def y_M_init : MethodName := ⟨R_M, "<init>", "(I)V"⟩
def w_M_init : List Cond := .code y_M_init b_M_init 3 none :: tb
abbrev b_M_bad : ByteArray := prog_3_method_2_code
def y_M_bad : MethodName := ⟨R_M, "bad", "(I)Z"⟩
def w_M_bad : List Cond := .code y_M_bad b_M_bad 2 (some .boolean) :: tb
abbrev b_M_edge : ByteArray := prog_3_method_3_code
def y_M_edge : MethodName := ⟨R_M, "edge", "(III)I"⟩
def w_M_edge : List Cond := .code y_M_edge b_M_edge 5 (some .int) :: tb
abbrev b_M_bonus : ByteArray := prog_3_method_4_code
def y_M_bonus : MethodName := ⟨R_M, "bonus", "(II)I"⟩
def w_M_bonus : List Cond := .code y_M_bonus b_M_bonus 4 (some .int) :: tb
abbrev b_M_mode : ByteArray := prog_3_method_5_code
def y_M_mode : MethodName := ⟨R_M, "mode", "(II)I"⟩
def w_M_mode : List Cond := .code y_M_mode b_M_mode 4 (some .int) :: tb
abbrev b_M_weight : ByteArray := prog_3_method_6_code
def y_M_weight : MethodName := ⟨R_M, "weight", "(I)I"⟩
def w_M_weight : List Cond := .code y_M_weight b_M_weight 5 (some .int) :: tb
abbrev b_M_size : ByteArray := prog_3_method_7_code
def y_M_size : MethodName := ⟨R_M, "size", "(I)I"⟩
def w_M_size : List Cond := .code y_M_size b_M_size 4 (some .int) :: tb
abbrev b_M_allowed : ByteArray := prog_3_method_8_code
def y_M_allowed : MethodName := ⟨R_M, "allowed", "(I)Z"⟩
def w_M_allowed : List Cond := .code y_M_allowed b_M_allowed 4 (some .boolean) :: tb
abbrev b_M_one : ByteArray := prog_3_method_9_code
def y_M_one : MethodName := ⟨R_M, "oneDensest", "()I"⟩
def w_M_one : List Cond := .code y_M_one b_M_one 7 (some .int) :: tb
abbrev b_M_common : ByteArray := prog_3_method_10_code
def y_M_common : MethodName := ⟨R_M, "common", "(I)I"⟩
def w_M_common : List Cond := .code y_M_common b_M_common 5 (some .int) :: tb
abbrev b_M_dTop : ByteArray := prog_3_method_11_code
def y_M_dTop : MethodName := ⟨R_M, "densityTop", "()I"⟩
def w_M_dTop : List Cond := .code y_M_dTop b_M_dTop 4 (some .int) :: tb
abbrev b_M_dBot : ByteArray := prog_3_method_12_code
def y_M_dBot : MethodName := ⟨R_M, "densityBottom", "()I"⟩
def w_M_dBot : List Cond := .code y_M_dBot b_M_dBot 4 (some .int) :: tb
abbrev b_M_densest : ByteArray := prog_3_method_13_code
def y_M_densest : MethodName := ⟨R_M, "densest", "()I"⟩
def w_M_densest : List Cond := .code y_M_densest b_M_densest 8 (some .int) :: tb
abbrev b_M_badPrice : ByteArray := prog_3_method_14_code
def y_M_badPrice : MethodName := ⟨R_M, "badPrice", "(II)Z"⟩
def w_M_badPrice : List Cond := .code y_M_badPrice b_M_badPrice 3 (some .boolean) :: tb
abbrev b_M_excess : ByteArray := prog_3_method_15_code
def y_M_excess : MethodName := ⟨R_M, "excess", "(II)I"⟩
def w_M_excess : List Cond := .code y_M_excess b_M_excess 6 (some .int) :: tb
abbrev b_M_exSet : ByteArray := prog_3_method_16_code
def y_M_exSet : MethodName := ⟨R_M, "excessSet", "(II)I"⟩
def w_M_exSet : List Cond := .code y_M_exSet b_M_exSet 7 (some .int) :: tb
abbrev b_L_cell : ByteArray := method_2_code
def y_L_cell : MethodName := ⟨R_law, "cell", "([II)I"⟩
def w_L_cell : List Cond := .code y_L_cell b_L_cell 2 (some .int) :: tb
abbrev b_L_law : ByteArray := code
def y_L_law : MethodName := ⟨R_law, "law", "([I)Z"⟩
theorem n_D : ∀ a, a < 12 → ∀ b, b < 12 → a ≠ b → (F_D a).2.1 ≠ (F_D b).2.1 := by decide +kernel
theorem t_D_ok : ∀ k, k < 12 → parseFieldDescriptor (F_D k).2.2.1 = some (t_D k) := by decide +kernel
theorem i_D : ∀ w ∈ w_D, w ∈ tb := by decide +kernel
theorem n_M : ∀ a, a < 3 → ∀ b, b < 3 → a ≠ b → (F_M a).2.1 ≠ (F_M b).2.1 := by decide +kernel
theorem t_M_ok : ∀ k, k < 3 → parseFieldDescriptor (F_M k).2.2.1 = some (t_M k) := by decide +kernel
theorem i_M : ∀ w ∈ w_M, w ∈ tb := by decide +kernel
theorem e_in_L : Cond.initialized R_law ∈ tb := List.mem_filter.mpr ⟨List.mem_of_getElem? (i := 15) rfl, rfl⟩
theorem e_in_D : Cond.initialized R_D ∈ tb := List.mem_filter.mpr ⟨List.mem_of_getElem? (i := 16) rfl, rfl⟩
theorem e_in_M : Cond.initialized R_M ∈ tb := List.mem_filter.mpr ⟨List.mem_of_getElem? (i := 17) rfl, rfl⟩
theorem e_cl_D : Cond.classLink R_law 7 R_D ∈ tb := List.mem_filter.mpr ⟨List.mem_of_getElem? (i := 18) rfl, rfl⟩
theorem e_ins_D : Cond.instantiable R_D 12 ∈ tb := List.mem_filter.mpr ⟨List.mem_of_getElem? (i := 19) rfl, rfl⟩
theorem e_ml_L_D_init : Cond.methodLink R_law 15 y_D_init ∈ tb := List.mem_filter.mpr ⟨List.mem_of_getElem? (i := 20) rfl, rfl⟩
theorem e_im_D_init : Cond.instanceMethod y_D_init ∈ tb := List.mem_filter.mpr ⟨List.mem_of_getElem? (i := 21) rfl, rfl⟩
theorem e_co_D_init : Cond.code y_D_init b_D_init 3 none ∈ tb := List.mem_filter.mpr ⟨List.mem_of_getElem? (i := 22) rfl, rfl⟩
theorem e_ml_D_obj : Cond.methodLink R_D 1 objectInit ∈ tb := List.mem_filter.mpr ⟨List.mem_of_getElem? (i := 23) rfl, rfl⟩
theorem e_im_obj : Cond.instanceMethod objectInit ∈ tb := List.mem_filter.mpr ⟨List.mem_of_getElem? (i := 24) rfl, rfl⟩
theorem e_co_obj : Cond.code objectInit ⟨#[0xb1]⟩ 1 none ∈ tb := List.mem_filter.mpr ⟨List.mem_of_getElem? (i := 25) rfl, rfl⟩
theorem e_fl_D_n : Cond.fieldLink R_D 32 "DensestSubgraph" "n" "I" ∈ tb := List.mem_filter.mpr ⟨List.mem_of_getElem? (i := 26) rfl, rfl⟩
theorem e_fl_D_pair : Cond.fieldLink R_D 7 "DensestSubgraph" "pair" "[I" ∈ tb := List.mem_filter.mpr ⟨List.mem_of_getElem? (i := 27) rfl, rfl⟩
theorem e_fl_D_extra : Cond.fieldLink R_D 13 "DensestSubgraph" "extra" "[I" ∈ tb := List.mem_filter.mpr ⟨List.mem_of_getElem? (i := 28) rfl, rfl⟩
theorem e_fl_D_modes : Cond.fieldLink R_D 16 "DensestSubgraph" "modes" "[I" ∈ tb := List.mem_filter.mpr ⟨List.mem_of_getElem? (i := 29) rfl, rfl⟩
theorem e_fl_D_residual : Cond.fieldLink R_D 19 "DensestSubgraph" "residual" "[I" ∈ tb := List.mem_filter.mpr ⟨List.mem_of_getElem? (i := 30) rfl, rfl⟩
theorem e_fl_D_cameFrom : Cond.fieldLink R_D 22 "DensestSubgraph" "cameFrom" "[I" ∈ tb := List.mem_filter.mpr ⟨List.mem_of_getElem? (i := 31) rfl, rfl⟩
theorem e_fl_D_queue : Cond.fieldLink R_D 25 "DensestSubgraph" "queue" "[I" ∈ tb := List.mem_filter.mpr ⟨List.mem_of_getElem? (i := 32) rfl, rfl⟩
theorem e_fl_D_reaches : Cond.fieldLink R_D 28 "DensestSubgraph" "reaches" "[Z" ∈ tb := List.mem_filter.mpr ⟨List.mem_of_getElem? (i := 33) rfl, rfl⟩
theorem e_fl_D_cutSet : Cond.fieldLink R_D 56 "DensestSubgraph" "cutSet" "I" ∈ tb := List.mem_filter.mpr ⟨List.mem_of_getElem? (i := 34) rfl, rfl⟩
theorem e_fl_D_bestTop : Cond.fieldLink R_D 70 "DensestSubgraph" "bestTop" "I" ∈ tb := List.mem_filter.mpr ⟨List.mem_of_getElem? (i := 35) rfl, rfl⟩
theorem e_fl_D_bestBottom : Cond.fieldLink R_D 73 "DensestSubgraph" "bestBottom" "I" ∈ tb := List.mem_filter.mpr ⟨List.mem_of_getElem? (i := 36) rfl, rfl⟩
theorem e_fl_D_bestSet : Cond.fieldLink R_D 76 "DensestSubgraph" "bestSet" "I" ∈ tb := List.mem_filter.mpr ⟨List.mem_of_getElem? (i := 37) rfl, rfl⟩
theorem e_ac_int : Cond.arrayClass .int ∈ tb := List.mem_filter.mpr ⟨List.mem_of_getElem? (i := 63) rfl, rfl⟩
theorem e_ac_boolean : Cond.arrayClass .boolean ∈ tb := List.mem_filter.mpr ⟨List.mem_of_getElem? (i := 64) rfl, rfl⟩
theorem e_ml_L_D_edge : Cond.methodLink R_law 21 y_D_edge ∈ tb := List.mem_filter.mpr ⟨List.mem_of_getElem? (i := 65) rfl, rfl⟩
theorem e_im_D_edge : Cond.instanceMethod y_D_edge ∈ tb := List.mem_filter.mpr ⟨List.mem_of_getElem? (i := 66) rfl, rfl⟩
theorem e_se_D_edge : Cond.selects R_D y_D_edge y_D_edge ∈ tb := List.mem_filter.mpr ⟨List.mem_of_getElem? (i := 67) rfl, rfl⟩
theorem e_co_D_edge : Cond.code y_D_edge b_D_edge 5 (some .int) ∈ tb := List.mem_filter.mpr ⟨List.mem_of_getElem? (i := 68) rfl, rfl⟩
theorem e_ml_D_D_bad : Cond.methodLink R_D 36 y_D_bad ∈ tb := List.mem_filter.mpr ⟨List.mem_of_getElem? (i := 69) rfl, rfl⟩
theorem e_im_D_bad : Cond.instanceMethod y_D_bad ∈ tb := List.mem_filter.mpr ⟨List.mem_of_getElem? (i := 71) rfl, rfl⟩
theorem e_co_D_bad : Cond.code y_D_bad b_D_bad 2 (some .boolean) ∈ tb := List.mem_filter.mpr ⟨List.mem_of_getElem? (i := 72) rfl, rfl⟩
theorem e_ml_L_D_bonus : Cond.methodLink R_law 26 y_D_bonus ∈ tb := List.mem_filter.mpr ⟨List.mem_of_getElem? (i := 73) rfl, rfl⟩
theorem e_im_D_bonus : Cond.instanceMethod y_D_bonus ∈ tb := List.mem_filter.mpr ⟨List.mem_of_getElem? (i := 74) rfl, rfl⟩
theorem e_se_D_bonus : Cond.selects R_D y_D_bonus y_D_bonus ∈ tb := List.mem_filter.mpr ⟨List.mem_of_getElem? (i := 75) rfl, rfl⟩
theorem e_co_D_bonus : Cond.code y_D_bonus b_D_bonus 4 (some .int) ∈ tb := List.mem_filter.mpr ⟨List.mem_of_getElem? (i := 76) rfl, rfl⟩
theorem e_ml_L_D_mode : Cond.methodLink R_law 31 y_D_mode ∈ tb := List.mem_filter.mpr ⟨List.mem_of_getElem? (i := 77) rfl, rfl⟩
theorem e_im_D_mode : Cond.instanceMethod y_D_mode ∈ tb := List.mem_filter.mpr ⟨List.mem_of_getElem? (i := 78) rfl, rfl⟩
theorem e_se_D_mode : Cond.selects R_D y_D_mode y_D_mode ∈ tb := List.mem_filter.mpr ⟨List.mem_of_getElem? (i := 79) rfl, rfl⟩
theorem e_co_D_mode : Cond.code y_D_mode b_D_mode 4 (some .int) ∈ tb := List.mem_filter.mpr ⟨List.mem_of_getElem? (i := 80) rfl, rfl⟩
theorem e_ml_L_D_weight : Cond.methodLink R_law 35 y_D_weight ∈ tb := List.mem_filter.mpr ⟨List.mem_of_getElem? (i := 81) rfl, rfl⟩
theorem e_im_D_weight : Cond.instanceMethod y_D_weight ∈ tb := List.mem_filter.mpr ⟨List.mem_of_getElem? (i := 82) rfl, rfl⟩
theorem e_se_D_weight : Cond.selects R_D y_D_weight y_D_weight ∈ tb := List.mem_filter.mpr ⟨List.mem_of_getElem? (i := 83) rfl, rfl⟩
theorem e_co_D_weight : Cond.code y_D_weight b_D_weight 5 (some .int) ∈ tb := List.mem_filter.mpr ⟨List.mem_of_getElem? (i := 84) rfl, rfl⟩
theorem e_ml_L_D_dTop : Cond.methodLink R_law 40 y_D_dTop ∈ tb := List.mem_filter.mpr ⟨List.mem_of_getElem? (i := 85) rfl, rfl⟩
theorem e_im_D_dTop : Cond.instanceMethod y_D_dTop ∈ tb := List.mem_filter.mpr ⟨List.mem_of_getElem? (i := 86) rfl, rfl⟩
theorem e_se_D_dTop : Cond.selects R_D y_D_dTop y_D_dTop ∈ tb := List.mem_filter.mpr ⟨List.mem_of_getElem? (i := 87) rfl, rfl⟩
theorem e_co_D_dTop : Cond.code y_D_dTop b_D_dTop 2 (some .int) ∈ tb := List.mem_filter.mpr ⟨List.mem_of_getElem? (i := 88) rfl, rfl⟩
theorem e_ml_D_D_solve : Cond.methodLink R_D 90 y_D_solve ∈ tb := List.mem_filter.mpr ⟨List.mem_of_getElem? (i := 89) rfl, rfl⟩
theorem e_im_D_solve : Cond.instanceMethod y_D_solve ∈ tb := List.mem_filter.mpr ⟨List.mem_of_getElem? (i := 91) rfl, rfl⟩
theorem e_co_D_solve : Cond.code y_D_solve b_D_solve 5 (some .boolean) ∈ tb := List.mem_filter.mpr ⟨List.mem_of_getElem? (i := 92) rfl, rfl⟩
theorem e_ml_D_D_take : Cond.methodLink R_D 79 y_D_take ∈ tb := List.mem_filter.mpr ⟨List.mem_of_getElem? (i := 93) rfl, rfl⟩
theorem e_im_D_take : Cond.instanceMethod y_D_take ∈ tb := List.mem_filter.mpr ⟨List.mem_of_getElem? (i := 95) rfl, rfl⟩
theorem e_co_D_take : Cond.code y_D_take b_D_take 5 none ∈ tb := List.mem_filter.mpr ⟨List.mem_of_getElem? (i := 96) rfl, rfl⟩
theorem e_ml_D_D_weight : Cond.methodLink R_D 59 y_D_weight ∈ tb := List.mem_filter.mpr ⟨List.mem_of_getElem? (i := 97) rfl, rfl⟩
theorem e_ml_D_D_members : Cond.methodLink R_D 63 y_D_members ∈ tb := List.mem_filter.mpr ⟨List.mem_of_getElem? (i := 98) rfl, rfl⟩
theorem e_im_D_members : Cond.static y_D_members ∈ tb := List.mem_filter.mpr ⟨List.mem_of_getElem? (i := 99) rfl, rfl⟩
theorem e_co_D_members : Cond.code y_D_members b_D_members 3 (some .int) ∈ tb := List.mem_filter.mpr ⟨List.mem_of_getElem? (i := 100) rfl, rfl⟩
theorem e_ml_D_D_gcd : Cond.methodLink R_D 66 y_D_gcd ∈ tb := List.mem_filter.mpr ⟨List.mem_of_getElem? (i := 101) rfl, rfl⟩
theorem e_im_D_gcd : Cond.static y_D_gcd ∈ tb := List.mem_filter.mpr ⟨List.mem_of_getElem? (i := 102) rfl, rfl⟩
theorem e_co_D_gcd : Cond.code y_D_gcd b_D_gcd 6 (some .int) ∈ tb := List.mem_filter.mpr ⟨List.mem_of_getElem? (i := 103) rfl, rfl⟩
theorem e_ml_D_D_cut : Cond.methodLink R_D 83 y_D_cut ∈ tb := List.mem_filter.mpr ⟨List.mem_of_getElem? (i := 104) rfl, rfl⟩
theorem e_im_D_cut : Cond.instanceMethod y_D_cut ∈ tb := List.mem_filter.mpr ⟨List.mem_of_getElem? (i := 106) rfl, rfl⟩
theorem e_co_D_cut : Cond.code y_D_cut b_D_cut 8 none ∈ tb := List.mem_filter.mpr ⟨List.mem_of_getElem? (i := 107) rfl, rfl⟩
theorem e_ml_D_D_build : Cond.methodLink R_D 45 y_D_build ∈ tb := List.mem_filter.mpr ⟨List.mem_of_getElem? (i := 108) rfl, rfl⟩
theorem e_im_D_build : Cond.instanceMethod y_D_build ∈ tb := List.mem_filter.mpr ⟨List.mem_of_getElem? (i := 110) rfl, rfl⟩
theorem e_co_D_build : Cond.code y_D_build b_D_build 6 none ∈ tb := List.mem_filter.mpr ⟨List.mem_of_getElem? (i := 111) rfl, rfl⟩
theorem e_k_D_40 : Cond.constant R_D 40 (1000000) ∈ tb := List.mem_filter.mpr ⟨List.mem_of_getElem? (i := 112) rfl, rfl⟩
theorem e_ml_D_D_findWay : Cond.methodLink R_D 49 y_D_findWay ∈ tb := List.mem_filter.mpr ⟨List.mem_of_getElem? (i := 113) rfl, rfl⟩
theorem e_im_D_findWay : Cond.instanceMethod y_D_findWay ∈ tb := List.mem_filter.mpr ⟨List.mem_of_getElem? (i := 115) rfl, rfl⟩
theorem e_co_D_findWay : Cond.code y_D_findWay b_D_findWay 5 (some .boolean) ∈ tb := List.mem_filter.mpr ⟨List.mem_of_getElem? (i := 116) rfl, rfl⟩
theorem e_ml_D_D_isNode : Cond.methodLink R_D 41 y_D_isNode ∈ tb := List.mem_filter.mpr ⟨List.mem_of_getElem? (i := 117) rfl, rfl⟩
theorem e_im_D_isNode : Cond.instanceMethod y_D_isNode ∈ tb := List.mem_filter.mpr ⟨List.mem_of_getElem? (i := 119) rfl, rfl⟩
theorem e_co_D_isNode : Cond.code y_D_isNode b_D_isNode 2 (some .boolean) ∈ tb := List.mem_filter.mpr ⟨List.mem_of_getElem? (i := 120) rfl, rfl⟩
theorem e_ml_D_D_send : Cond.methodLink R_D 53 y_D_send ∈ tb := List.mem_filter.mpr ⟨List.mem_of_getElem? (i := 121) rfl, rfl⟩
theorem e_im_D_send : Cond.instanceMethod y_D_send ∈ tb := List.mem_filter.mpr ⟨List.mem_of_getElem? (i := 123) rfl, rfl⟩
theorem e_co_D_send : Cond.code y_D_send b_D_send 5 none ∈ tb := List.mem_filter.mpr ⟨List.mem_of_getElem? (i := 124) rfl, rfl⟩
theorem e_k_D_44 : Cond.constant R_D 44 (2000000) ∈ tb := List.mem_filter.mpr ⟨List.mem_of_getElem? (i := 125) rfl, rfl⟩
theorem e_ml_D_D_valueOf : Cond.methodLink R_D 86 y_D_valueOf ∈ tb := List.mem_filter.mpr ⟨List.mem_of_getElem? (i := 126) rfl, rfl⟩
theorem e_im_D_valueOf : Cond.instanceMethod y_D_valueOf ∈ tb := List.mem_filter.mpr ⟨List.mem_of_getElem? (i := 128) rfl, rfl⟩
theorem e_co_D_valueOf : Cond.code y_D_valueOf b_D_valueOf 6 (some .int) ∈ tb := List.mem_filter.mpr ⟨List.mem_of_getElem? (i := 129) rfl, rfl⟩
theorem e_ml_L_D_dBot : Cond.methodLink R_law 45 y_D_dBot ∈ tb := List.mem_filter.mpr ⟨List.mem_of_getElem? (i := 130) rfl, rfl⟩
theorem e_im_D_dBot : Cond.instanceMethod y_D_dBot ∈ tb := List.mem_filter.mpr ⟨List.mem_of_getElem? (i := 131) rfl, rfl⟩
theorem e_se_D_dBot : Cond.selects R_D y_D_dBot y_D_dBot ∈ tb := List.mem_filter.mpr ⟨List.mem_of_getElem? (i := 132) rfl, rfl⟩
theorem e_co_D_dBot : Cond.code y_D_dBot b_D_dBot 2 (some .int) ∈ tb := List.mem_filter.mpr ⟨List.mem_of_getElem? (i := 133) rfl, rfl⟩
theorem e_ml_L_D_densest : Cond.methodLink R_law 49 y_D_densest ∈ tb := List.mem_filter.mpr ⟨List.mem_of_getElem? (i := 134) rfl, rfl⟩
theorem e_im_D_densest : Cond.instanceMethod y_D_densest ∈ tb := List.mem_filter.mpr ⟨List.mem_of_getElem? (i := 135) rfl, rfl⟩
theorem e_se_D_densest : Cond.selects R_D y_D_densest y_D_densest ∈ tb := List.mem_filter.mpr ⟨List.mem_of_getElem? (i := 136) rfl, rfl⟩
theorem e_co_D_densest : Cond.code y_D_densest b_D_densest 2 (some .int) ∈ tb := List.mem_filter.mpr ⟨List.mem_of_getElem? (i := 137) rfl, rfl⟩
theorem e_ml_L_D_excess : Cond.methodLink R_law 53 y_D_excess ∈ tb := List.mem_filter.mpr ⟨List.mem_of_getElem? (i := 138) rfl, rfl⟩
theorem e_im_D_excess : Cond.instanceMethod y_D_excess ∈ tb := List.mem_filter.mpr ⟨List.mem_of_getElem? (i := 139) rfl, rfl⟩
theorem e_se_D_excess : Cond.selects R_D y_D_excess y_D_excess ∈ tb := List.mem_filter.mpr ⟨List.mem_of_getElem? (i := 140) rfl, rfl⟩
theorem e_co_D_excess : Cond.code y_D_excess b_D_excess 3 (some .int) ∈ tb := List.mem_filter.mpr ⟨List.mem_of_getElem? (i := 141) rfl, rfl⟩
theorem e_ml_D_D_badPrice : Cond.methodLink R_D 93 y_D_badPrice ∈ tb := List.mem_filter.mpr ⟨List.mem_of_getElem? (i := 142) rfl, rfl⟩
theorem e_im_D_badPrice : Cond.static y_D_badPrice ∈ tb := List.mem_filter.mpr ⟨List.mem_of_getElem? (i := 143) rfl, rfl⟩
theorem e_co_D_badPrice : Cond.code y_D_badPrice b_D_badPrice 2 (some .boolean) ∈ tb := List.mem_filter.mpr ⟨List.mem_of_getElem? (i := 144) rfl, rfl⟩
theorem e_ml_L_D_exSet : Cond.methodLink R_law 57 y_D_exSet ∈ tb := List.mem_filter.mpr ⟨List.mem_of_getElem? (i := 145) rfl, rfl⟩
theorem e_im_D_exSet : Cond.instanceMethod y_D_exSet ∈ tb := List.mem_filter.mpr ⟨List.mem_of_getElem? (i := 146) rfl, rfl⟩
theorem e_se_D_exSet : Cond.selects R_D y_D_exSet y_D_exSet ∈ tb := List.mem_filter.mpr ⟨List.mem_of_getElem? (i := 147) rfl, rfl⟩
theorem e_co_D_exSet : Cond.code y_D_exSet b_D_exSet 3 (some .int) ∈ tb := List.mem_filter.mpr ⟨List.mem_of_getElem? (i := 148) rfl, rfl⟩
theorem e_ml_L_L_cell : Cond.methodLink R_law 9 y_L_cell ∈ tb := List.mem_filter.mpr ⟨List.mem_of_getElem? (i := 149) rfl, rfl⟩
theorem e_im_L_cell : Cond.static y_L_cell ∈ tb := List.mem_filter.mpr ⟨List.mem_of_getElem? (i := 150) rfl, rfl⟩
theorem e_co_L_cell : Cond.code y_L_cell b_L_cell 2 (some .int) ∈ tb := List.mem_filter.mpr ⟨List.mem_of_getElem? (i := 151) rfl, rfl⟩
theorem e_cl_M : Cond.classLink R_law 18 R_M ∈ tb := List.mem_filter.mpr ⟨List.mem_of_getElem? (i := 152) rfl, rfl⟩
theorem e_ins_M : Cond.instantiable R_M 3 ∈ tb := List.mem_filter.mpr ⟨List.mem_of_getElem? (i := 153) rfl, rfl⟩
theorem e_ml_L_M_init : Cond.methodLink R_law 20 y_M_init ∈ tb := List.mem_filter.mpr ⟨List.mem_of_getElem? (i := 154) rfl, rfl⟩
theorem e_im_M_init : Cond.instanceMethod y_M_init ∈ tb := List.mem_filter.mpr ⟨List.mem_of_getElem? (i := 155) rfl, rfl⟩
theorem e_co_M_init : Cond.code y_M_init b_M_init 3 none ∈ tb := List.mem_filter.mpr ⟨List.mem_of_getElem? (i := 156) rfl, rfl⟩
theorem e_ml_M_obj : Cond.methodLink R_M 1 objectInit ∈ tb := List.mem_filter.mpr ⟨List.mem_of_getElem? (i := 157) rfl, rfl⟩
theorem e_fl_M_n : Cond.fieldLink R_M 16 "DensestSubgraphModel" "n" "I" ∈ tb := List.mem_filter.mpr ⟨List.mem_of_getElem? (i := 158) rfl, rfl⟩
theorem e_fl_M_w : Cond.fieldLink R_M 7 "DensestSubgraphModel" "w" "[I" ∈ tb := List.mem_filter.mpr ⟨List.mem_of_getElem? (i := 159) rfl, rfl⟩
theorem e_fl_M_modes : Cond.fieldLink R_M 13 "DensestSubgraphModel" "modes" "[I" ∈ tb := List.mem_filter.mpr ⟨List.mem_of_getElem? (i := 160) rfl, rfl⟩
theorem e_ml_L_M_edge : Cond.methodLink R_law 25 y_M_edge ∈ tb := List.mem_filter.mpr ⟨List.mem_of_getElem? (i := 168) rfl, rfl⟩
theorem e_im_M_edge : Cond.instanceMethod y_M_edge ∈ tb := List.mem_filter.mpr ⟨List.mem_of_getElem? (i := 169) rfl, rfl⟩
theorem e_se_M_edge : Cond.selects R_M y_M_edge y_M_edge ∈ tb := List.mem_filter.mpr ⟨List.mem_of_getElem? (i := 170) rfl, rfl⟩
theorem e_co_M_edge : Cond.code y_M_edge b_M_edge 5 (some .int) ∈ tb := List.mem_filter.mpr ⟨List.mem_of_getElem? (i := 171) rfl, rfl⟩
theorem e_ml_M_M_bad : Cond.methodLink R_M 20 y_M_bad ∈ tb := List.mem_filter.mpr ⟨List.mem_of_getElem? (i := 172) rfl, rfl⟩
theorem e_im_M_bad : Cond.instanceMethod y_M_bad ∈ tb := List.mem_filter.mpr ⟨List.mem_of_getElem? (i := 174) rfl, rfl⟩
theorem e_co_M_bad : Cond.code y_M_bad b_M_bad 2 (some .boolean) ∈ tb := List.mem_filter.mpr ⟨List.mem_of_getElem? (i := 175) rfl, rfl⟩
theorem e_ml_L_M_bonus : Cond.methodLink R_law 30 y_M_bonus ∈ tb := List.mem_filter.mpr ⟨List.mem_of_getElem? (i := 176) rfl, rfl⟩
theorem e_im_M_bonus : Cond.instanceMethod y_M_bonus ∈ tb := List.mem_filter.mpr ⟨List.mem_of_getElem? (i := 177) rfl, rfl⟩
theorem e_se_M_bonus : Cond.selects R_M y_M_bonus y_M_bonus ∈ tb := List.mem_filter.mpr ⟨List.mem_of_getElem? (i := 178) rfl, rfl⟩
theorem e_co_M_bonus : Cond.code y_M_bonus b_M_bonus 4 (some .int) ∈ tb := List.mem_filter.mpr ⟨List.mem_of_getElem? (i := 179) rfl, rfl⟩
theorem e_ml_L_M_mode : Cond.methodLink R_law 34 y_M_mode ∈ tb := List.mem_filter.mpr ⟨List.mem_of_getElem? (i := 180) rfl, rfl⟩
theorem e_im_M_mode : Cond.instanceMethod y_M_mode ∈ tb := List.mem_filter.mpr ⟨List.mem_of_getElem? (i := 181) rfl, rfl⟩
theorem e_se_M_mode : Cond.selects R_M y_M_mode y_M_mode ∈ tb := List.mem_filter.mpr ⟨List.mem_of_getElem? (i := 182) rfl, rfl⟩
theorem e_co_M_mode : Cond.code y_M_mode b_M_mode 4 (some .int) ∈ tb := List.mem_filter.mpr ⟨List.mem_of_getElem? (i := 183) rfl, rfl⟩
theorem e_ml_L_M_weight : Cond.methodLink R_law 39 y_M_weight ∈ tb := List.mem_filter.mpr ⟨List.mem_of_getElem? (i := 184) rfl, rfl⟩
theorem e_im_M_weight : Cond.instanceMethod y_M_weight ∈ tb := List.mem_filter.mpr ⟨List.mem_of_getElem? (i := 185) rfl, rfl⟩
theorem e_se_M_weight : Cond.selects R_M y_M_weight y_M_weight ∈ tb := List.mem_filter.mpr ⟨List.mem_of_getElem? (i := 186) rfl, rfl⟩
theorem e_co_M_weight : Cond.code y_M_weight b_M_weight 5 (some .int) ∈ tb := List.mem_filter.mpr ⟨List.mem_of_getElem? (i := 187) rfl, rfl⟩
theorem e_ml_L_M_dTop : Cond.methodLink R_law 44 y_M_dTop ∈ tb := List.mem_filter.mpr ⟨List.mem_of_getElem? (i := 188) rfl, rfl⟩
theorem e_im_M_dTop : Cond.instanceMethod y_M_dTop ∈ tb := List.mem_filter.mpr ⟨List.mem_of_getElem? (i := 189) rfl, rfl⟩
theorem e_se_M_dTop : Cond.selects R_M y_M_dTop y_M_dTop ∈ tb := List.mem_filter.mpr ⟨List.mem_of_getElem? (i := 190) rfl, rfl⟩
theorem e_co_M_dTop : Cond.code y_M_dTop b_M_dTop 4 (some .int) ∈ tb := List.mem_filter.mpr ⟨List.mem_of_getElem? (i := 191) rfl, rfl⟩
theorem e_ml_M_M_one : Cond.methodLink R_M 34 y_M_one ∈ tb := List.mem_filter.mpr ⟨List.mem_of_getElem? (i := 192) rfl, rfl⟩
theorem e_im_M_one : Cond.instanceMethod y_M_one ∈ tb := List.mem_filter.mpr ⟨List.mem_of_getElem? (i := 194) rfl, rfl⟩
theorem e_co_M_one : Cond.code y_M_one b_M_one 7 (some .int) ∈ tb := List.mem_filter.mpr ⟨List.mem_of_getElem? (i := 195) rfl, rfl⟩
theorem e_ml_M_M_allowed : Cond.methodLink R_M 24 y_M_allowed ∈ tb := List.mem_filter.mpr ⟨List.mem_of_getElem? (i := 196) rfl, rfl⟩
theorem e_im_M_allowed : Cond.instanceMethod y_M_allowed ∈ tb := List.mem_filter.mpr ⟨List.mem_of_getElem? (i := 198) rfl, rfl⟩
theorem e_co_M_allowed : Cond.code y_M_allowed b_M_allowed 4 (some .boolean) ∈ tb := List.mem_filter.mpr ⟨List.mem_of_getElem? (i := 199) rfl, rfl⟩
theorem e_ml_M_M_weight : Cond.methodLink R_M 27 y_M_weight ∈ tb := List.mem_filter.mpr ⟨List.mem_of_getElem? (i := 200) rfl, rfl⟩
theorem e_ml_M_M_size : Cond.methodLink R_M 31 y_M_size ∈ tb := List.mem_filter.mpr ⟨List.mem_of_getElem? (i := 201) rfl, rfl⟩
theorem e_im_M_size : Cond.instanceMethod y_M_size ∈ tb := List.mem_filter.mpr ⟨List.mem_of_getElem? (i := 203) rfl, rfl⟩
theorem e_co_M_size : Cond.code y_M_size b_M_size 4 (some .int) ∈ tb := List.mem_filter.mpr ⟨List.mem_of_getElem? (i := 204) rfl, rfl⟩
theorem e_ml_M_M_common : Cond.methodLink R_M 38 y_M_common ∈ tb := List.mem_filter.mpr ⟨List.mem_of_getElem? (i := 205) rfl, rfl⟩
theorem e_im_M_common : Cond.instanceMethod y_M_common ∈ tb := List.mem_filter.mpr ⟨List.mem_of_getElem? (i := 207) rfl, rfl⟩
theorem e_co_M_common : Cond.code y_M_common b_M_common 5 (some .int) ∈ tb := List.mem_filter.mpr ⟨List.mem_of_getElem? (i := 208) rfl, rfl⟩
theorem e_ml_L_M_dBot : Cond.methodLink R_law 48 y_M_dBot ∈ tb := List.mem_filter.mpr ⟨List.mem_of_getElem? (i := 209) rfl, rfl⟩
theorem e_im_M_dBot : Cond.instanceMethod y_M_dBot ∈ tb := List.mem_filter.mpr ⟨List.mem_of_getElem? (i := 210) rfl, rfl⟩
theorem e_se_M_dBot : Cond.selects R_M y_M_dBot y_M_dBot ∈ tb := List.mem_filter.mpr ⟨List.mem_of_getElem? (i := 211) rfl, rfl⟩
theorem e_co_M_dBot : Cond.code y_M_dBot b_M_dBot 4 (some .int) ∈ tb := List.mem_filter.mpr ⟨List.mem_of_getElem? (i := 212) rfl, rfl⟩
theorem e_ml_L_M_densest : Cond.methodLink R_law 52 y_M_densest ∈ tb := List.mem_filter.mpr ⟨List.mem_of_getElem? (i := 213) rfl, rfl⟩
theorem e_im_M_densest : Cond.instanceMethod y_M_densest ∈ tb := List.mem_filter.mpr ⟨List.mem_of_getElem? (i := 214) rfl, rfl⟩
theorem e_se_M_densest : Cond.selects R_M y_M_densest y_M_densest ∈ tb := List.mem_filter.mpr ⟨List.mem_of_getElem? (i := 215) rfl, rfl⟩
theorem e_co_M_densest : Cond.code y_M_densest b_M_densest 8 (some .int) ∈ tb := List.mem_filter.mpr ⟨List.mem_of_getElem? (i := 216) rfl, rfl⟩
theorem e_ml_L_M_excess : Cond.methodLink R_law 56 y_M_excess ∈ tb := List.mem_filter.mpr ⟨List.mem_of_getElem? (i := 217) rfl, rfl⟩
theorem e_im_M_excess : Cond.instanceMethod y_M_excess ∈ tb := List.mem_filter.mpr ⟨List.mem_of_getElem? (i := 218) rfl, rfl⟩
theorem e_se_M_excess : Cond.selects R_M y_M_excess y_M_excess ∈ tb := List.mem_filter.mpr ⟨List.mem_of_getElem? (i := 219) rfl, rfl⟩
theorem e_co_M_excess : Cond.code y_M_excess b_M_excess 6 (some .int) ∈ tb := List.mem_filter.mpr ⟨List.mem_of_getElem? (i := 220) rfl, rfl⟩
theorem e_ml_M_M_badPrice : Cond.methodLink R_M 41 y_M_badPrice ∈ tb := List.mem_filter.mpr ⟨List.mem_of_getElem? (i := 221) rfl, rfl⟩
theorem e_im_M_badPrice : Cond.instanceMethod y_M_badPrice ∈ tb := List.mem_filter.mpr ⟨List.mem_of_getElem? (i := 223) rfl, rfl⟩
theorem e_co_M_badPrice : Cond.code y_M_badPrice b_M_badPrice 3 (some .boolean) ∈ tb := List.mem_filter.mpr ⟨List.mem_of_getElem? (i := 224) rfl, rfl⟩
theorem e_k_M_45 : Cond.constant R_M 45 (-1000000) ∈ tb := List.mem_filter.mpr ⟨List.mem_of_getElem? (i := 225) rfl, rfl⟩
theorem e_ml_L_M_exSet : Cond.methodLink R_law 60 y_M_exSet ∈ tb := List.mem_filter.mpr ⟨List.mem_of_getElem? (i := 226) rfl, rfl⟩
theorem e_im_M_exSet : Cond.instanceMethod y_M_exSet ∈ tb := List.mem_filter.mpr ⟨List.mem_of_getElem? (i := 227) rfl, rfl⟩
theorem e_se_M_exSet : Cond.selects R_M y_M_exSet y_M_exSet ∈ tb := List.mem_filter.mpr ⟨List.mem_of_getElem? (i := 228) rfl, rfl⟩
theorem e_co_M_exSet : Cond.code y_M_exSet b_M_exSet 7 (some .int) ∈ tb := List.mem_filter.mpr ⟨List.mem_of_getElem? (i := 229) rfl, rfl⟩
theorem e_ml_M_M_excess : Cond.methodLink R_M 46 y_M_excess ∈ tb := List.mem_filter.mpr ⟨List.mem_of_getElem? (i := 230) rfl, rfl⟩
theorem e_se_D_bad : Cond.selects R_D y_D_bad y_D_bad ∈ tb := List.mem_filter.mpr ⟨List.mem_of_getElem? (i := 0) rfl, rfl⟩
theorem e_se_D_solve : Cond.selects R_D y_D_solve y_D_solve ∈ tb := List.mem_filter.mpr ⟨List.mem_of_getElem? (i := 1) rfl, rfl⟩
theorem e_se_D_take : Cond.selects R_D y_D_take y_D_take ∈ tb := List.mem_filter.mpr ⟨List.mem_of_getElem? (i := 2) rfl, rfl⟩
theorem e_se_D_cut : Cond.selects R_D y_D_cut y_D_cut ∈ tb := List.mem_filter.mpr ⟨List.mem_of_getElem? (i := 3) rfl, rfl⟩
theorem e_se_D_build : Cond.selects R_D y_D_build y_D_build ∈ tb := List.mem_filter.mpr ⟨List.mem_of_getElem? (i := 4) rfl, rfl⟩
theorem e_se_D_findWay : Cond.selects R_D y_D_findWay y_D_findWay ∈ tb := List.mem_filter.mpr ⟨List.mem_of_getElem? (i := 5) rfl, rfl⟩
theorem e_se_D_isNode : Cond.selects R_D y_D_isNode y_D_isNode ∈ tb := List.mem_filter.mpr ⟨List.mem_of_getElem? (i := 6) rfl, rfl⟩
theorem e_se_D_send : Cond.selects R_D y_D_send y_D_send ∈ tb := List.mem_filter.mpr ⟨List.mem_of_getElem? (i := 7) rfl, rfl⟩
theorem e_se_D_valueOf : Cond.selects R_D y_D_valueOf y_D_valueOf ∈ tb := List.mem_filter.mpr ⟨List.mem_of_getElem? (i := 8) rfl, rfl⟩
theorem e_se_M_bad : Cond.selects R_M y_M_bad y_M_bad ∈ tb := List.mem_filter.mpr ⟨List.mem_of_getElem? (i := 9) rfl, rfl⟩
theorem e_se_M_one : Cond.selects R_M y_M_one y_M_one ∈ tb := List.mem_filter.mpr ⟨List.mem_of_getElem? (i := 10) rfl, rfl⟩
theorem e_se_M_allowed : Cond.selects R_M y_M_allowed y_M_allowed ∈ tb := List.mem_filter.mpr ⟨List.mem_of_getElem? (i := 11) rfl, rfl⟩
theorem e_se_M_size : Cond.selects R_M y_M_size y_M_size ∈ tb := List.mem_filter.mpr ⟨List.mem_of_getElem? (i := 12) rfl, rfl⟩
theorem e_se_M_common : Cond.selects R_M y_M_common y_M_common ∈ tb := List.mem_filter.mpr ⟨List.mem_of_getElem? (i := 13) rfl, rfl⟩
theorem e_se_M_badPrice : Cond.selects R_M y_M_badPrice y_M_badPrice ∈ tb := List.mem_filter.mpr ⟨List.mem_of_getElem? (i := 14) rfl, rfl⟩
theorem good_tbl : ∀ w ∈ tb, w ∈ tb ∧ ((w.onTables && w.keeps) = true ∨ ∃ ty, w = .arrayClass ty) := fun w h => ⟨h, good_of_word (List.mem_filter.mp h).2⟩
theorem good_cons {w : Cond} (h : w ∈ tb) : GoodIn tb (w :: tb) := fun v hv => good_tbl v (by rcases List.mem_cons.mp hv with rfl | h2 <;> assumption)
theorem good_V {own C : String} {idx : Nat} {y : MethodName} {w : Cond} (h1 : Cond.methodLink own idx y ∈ tb) (h2 : Cond.instanceMethod y ∈ tb) (h3 : Cond.selects C y y ∈ tb) (h4 : Cond.initialized C ∈ tb) (h : w ∈ tb) : GoodIn tb (wsV own idx C y (w :: tb)) := by
  intro v hv
  refine good_tbl v ?_
  simp only [wsV, List.cons_append, List.nil_append, List.mem_cons] at hv
  rcases hv with rfl | rfl | rfl | rfl | rfl | hv <;> assumption
theorem good_S {own : String} {idx : Nat} {y : MethodName} {w : Cond} (h1 : Cond.methodLink own idx y ∈ tb) (h2 : Cond.static y ∈ tb) (h4 : Cond.initialized own ∈ tb) (h : w ∈ tb) : GoodIn tb (wsS own idx y (w :: tb)) := by
  intro v hv
  refine good_tbl v ?_
  simp only [wsS, List.cons_append, List.nil_append, List.mem_cons] at hv
  rcases hv with rfl | rfl | rfl | rfl | hv <;> assumption
end
section
theorem d_D_init_0 : decode b_D_init 0 = .ok (.aload_n 0, 1) := by decide +kernel
theorem d_D_init_1 : decode b_D_init 1 = .ok (.invokespecial 1, 3) := by decide +kernel
theorem d_D_init_4 : decode b_D_init 4 = .ok (.aload_n 0, 1) := by decide +kernel
theorem d_D_init_5 : decode b_D_init 5 = .ok (.bipush 100, 2) := by decide +kernel
theorem d_D_init_7 : decode b_D_init 7 = .ok (.newarray .int, 2) := by decide +kernel
theorem d_D_init_9 : decode b_D_init 9 = .ok (.putfield 7, 3) := by decide +kernel
theorem d_D_init_12 : decode b_D_init 12 = .ok (.aload_n 0, 1) := by decide +kernel
theorem d_D_init_13 : decode b_D_init 13 = .ok (.bipush 10, 2) := by decide +kernel
theorem d_D_init_15 : decode b_D_init 15 = .ok (.newarray .int, 2) := by decide +kernel
theorem d_D_init_17 : decode b_D_init 17 = .ok (.putfield 13, 3) := by decide +kernel
theorem d_D_init_20 : decode b_D_init 20 = .ok (.aload_n 0, 1) := by decide +kernel
theorem d_D_init_21 : decode b_D_init 21 = .ok (.bipush 10, 2) := by decide +kernel
theorem d_D_init_23 : decode b_D_init 23 = .ok (.newarray .int, 2) := by decide +kernel
theorem d_D_init_25 : decode b_D_init 25 = .ok (.putfield 16, 3) := by decide +kernel
theorem d_D_init_28 : decode b_D_init 28 = .ok (.aload_n 0, 1) := by decide +kernel
theorem d_D_init_29 : decode b_D_init 29 = .ok (.sipush 144, 3) := by decide +kernel
theorem d_D_init_32 : decode b_D_init 32 = .ok (.newarray .int, 2) := by decide +kernel
theorem d_D_init_34 : decode b_D_init 34 = .ok (.putfield 19, 3) := by decide +kernel
theorem d_D_init_37 : decode b_D_init 37 = .ok (.aload_n 0, 1) := by decide +kernel
theorem d_D_init_38 : decode b_D_init 38 = .ok (.bipush 12, 2) := by decide +kernel
theorem d_D_init_40 : decode b_D_init 40 = .ok (.newarray .int, 2) := by decide +kernel
theorem d_D_init_42 : decode b_D_init 42 = .ok (.putfield 22, 3) := by decide +kernel
theorem d_D_init_45 : decode b_D_init 45 = .ok (.aload_n 0, 1) := by decide +kernel
theorem d_D_init_46 : decode b_D_init 46 = .ok (.bipush 12, 2) := by decide +kernel
theorem d_D_init_48 : decode b_D_init 48 = .ok (.newarray .int, 2) := by decide +kernel
theorem d_D_init_50 : decode b_D_init 50 = .ok (.putfield 25, 3) := by decide +kernel
theorem d_D_init_53 : decode b_D_init 53 = .ok (.aload_n 0, 1) := by decide +kernel
theorem d_D_init_54 : decode b_D_init 54 = .ok (.bipush 12, 2) := by decide +kernel
theorem d_D_init_56 : decode b_D_init 56 = .ok (.newarray .boolean, 2) := by decide +kernel
theorem d_D_init_58 : decode b_D_init 58 = .ok (.putfield 28, 3) := by decide +kernel
theorem d_D_init_61 : decode b_D_init 61 = .ok (.iload_n 1, 1) := by decide +kernel
theorem d_D_init_62 : decode b_D_init 62 = .ok (.istore_n 2, 1) := by decide +kernel
theorem d_D_init_63 : decode b_D_init 63 = .ok (.iload_n 2, 1) := by decide +kernel
theorem d_D_init_64 : decode b_D_init 64 = .ok (.iconst 1, 1) := by decide +kernel
theorem d_D_init_65 : decode b_D_init 65 = .ok (.if_icmp .ge 5, 3) := by decide +kernel
theorem d_D_init_68 : decode b_D_init 68 = .ok (.iconst 1, 1) := by decide +kernel
theorem d_D_init_69 : decode b_D_init 69 = .ok (.istore_n 2, 1) := by decide +kernel
theorem d_D_init_70 : decode b_D_init 70 = .ok (.iload_n 2, 1) := by decide +kernel
theorem d_D_init_71 : decode b_D_init 71 = .ok (.bipush 10, 2) := by decide +kernel
theorem d_D_init_73 : decode b_D_init 73 = .ok (.if_icmp .le 6, 3) := by decide +kernel
theorem d_D_init_76 : decode b_D_init 76 = .ok (.bipush 10, 2) := by decide +kernel
theorem d_D_init_78 : decode b_D_init 78 = .ok (.istore_n 2, 1) := by decide +kernel
theorem d_D_init_79 : decode b_D_init 79 = .ok (.aload_n 0, 1) := by decide +kernel
theorem d_D_init_80 : decode b_D_init 80 = .ok (.iload_n 2, 1) := by decide +kernel
theorem d_D_init_81 : decode b_D_init 81 = .ok (.putfield 32, 3) := by decide +kernel
theorem d_D_init_84 : decode b_D_init 84 = .ok (.return_, 1) := by decide +kernel
theorem d_D_bad_0 : decode b_D_bad 0 = .ok (.iload_n 1, 1) := by decide +kernel
theorem d_D_bad_1 : decode b_D_bad 1 = .ok (.ifCond .lt 11, 3) := by decide +kernel
theorem d_D_bad_4 : decode b_D_bad 4 = .ok (.iload_n 1, 1) := by decide +kernel
theorem d_D_bad_5 : decode b_D_bad 5 = .ok (.aload_n 0, 1) := by decide +kernel
theorem d_D_bad_6 : decode b_D_bad 6 = .ok (.getfield 32, 3) := by decide +kernel
theorem d_D_bad_9 : decode b_D_bad 9 = .ok (.if_icmp .lt 7, 3) := by decide +kernel
theorem d_D_bad_12 : decode b_D_bad 12 = .ok (.iconst 1, 1) := by decide +kernel
theorem d_D_bad_13 : decode b_D_bad 13 = .ok (.goto 4, 3) := by decide +kernel
theorem d_D_bad_16 : decode b_D_bad 16 = .ok (.iconst 0, 1) := by decide +kernel
theorem d_D_bad_17 : decode b_D_bad 17 = .ok (.ireturn, 1) := by decide +kernel
theorem d_D_edge_0 : decode b_D_edge 0 = .ok (.aload_n 0, 1) := by decide +kernel
theorem d_D_edge_1 : decode b_D_edge 1 = .ok (.iload_n 1, 1) := by decide +kernel
theorem d_D_edge_2 : decode b_D_edge 2 = .ok (.invokevirtual 36, 3) := by decide +kernel
theorem d_D_edge_5 : decode b_D_edge 5 = .ok (.ifCond .ne 16, 3) := by decide +kernel
theorem d_D_edge_8 : decode b_D_edge 8 = .ok (.aload_n 0, 1) := by decide +kernel
theorem d_D_edge_9 : decode b_D_edge 9 = .ok (.iload_n 2, 1) := by decide +kernel
theorem d_D_edge_10 : decode b_D_edge 10 = .ok (.invokevirtual 36, 3) := by decide +kernel
theorem d_D_edge_13 : decode b_D_edge 13 = .ok (.ifCond .ne 8, 3) := by decide +kernel
theorem d_D_edge_16 : decode b_D_edge 16 = .ok (.iload_n 1, 1) := by decide +kernel
theorem d_D_edge_17 : decode b_D_edge 17 = .ok (.iload_n 2, 1) := by decide +kernel
theorem d_D_edge_18 : decode b_D_edge 18 = .ok (.if_icmp .ne 5, 3) := by decide +kernel
theorem d_D_edge_21 : decode b_D_edge 21 = .ok (.iconst (-1), 1) := by decide +kernel
theorem d_D_edge_22 : decode b_D_edge 22 = .ok (.ireturn, 1) := by decide +kernel
theorem d_D_edge_23 : decode b_D_edge 23 = .ok (.iload_n 3, 1) := by decide +kernel
theorem d_D_edge_24 : decode b_D_edge 24 = .ok (.ifCond .lt 9, 3) := by decide +kernel
theorem d_D_edge_27 : decode b_D_edge 27 = .ok (.iload_n 3, 1) := by decide +kernel
theorem d_D_edge_28 : decode b_D_edge 28 = .ok (.bipush 20, 2) := by decide +kernel
theorem d_D_edge_30 : decode b_D_edge 30 = .ok (.if_icmp .le 6, 3) := by decide +kernel
theorem d_D_edge_33 : decode b_D_edge 33 = .ok (.bipush (-2), 2) := by decide +kernel
theorem d_D_edge_35 : decode b_D_edge 35 = .ok (.ireturn, 1) := by decide +kernel
theorem d_D_edge_36 : decode b_D_edge 36 = .ok (.aload_n 0, 1) := by decide +kernel
theorem d_D_edge_37 : decode b_D_edge 37 = .ok (.getfield 7, 3) := by decide +kernel
theorem d_D_edge_40 : decode b_D_edge 40 = .ok (.iload_n 1, 1) := by decide +kernel
theorem d_D_edge_41 : decode b_D_edge 41 = .ok (.bipush 10, 2) := by decide +kernel
theorem d_D_edge_43 : decode b_D_edge 43 = .ok (.imul, 1) := by decide +kernel
theorem d_D_edge_44 : decode b_D_edge 44 = .ok (.iload_n 2, 1) := by decide +kernel
theorem d_D_edge_45 : decode b_D_edge 45 = .ok (.iadd, 1) := by decide +kernel
theorem d_D_edge_46 : decode b_D_edge 46 = .ok (.iaload, 1) := by decide +kernel
theorem d_D_edge_47 : decode b_D_edge 47 = .ok (.istore 4, 2) := by decide +kernel
theorem d_D_edge_49 : decode b_D_edge 49 = .ok (.aload_n 0, 1) := by decide +kernel
theorem d_D_edge_50 : decode b_D_edge 50 = .ok (.getfield 7, 3) := by decide +kernel
theorem d_D_edge_53 : decode b_D_edge 53 = .ok (.iload_n 1, 1) := by decide +kernel
theorem d_D_edge_54 : decode b_D_edge 54 = .ok (.bipush 10, 2) := by decide +kernel
theorem d_D_edge_56 : decode b_D_edge 56 = .ok (.imul, 1) := by decide +kernel
theorem d_D_edge_57 : decode b_D_edge 57 = .ok (.iload_n 2, 1) := by decide +kernel
theorem d_D_edge_58 : decode b_D_edge 58 = .ok (.iadd, 1) := by decide +kernel
theorem d_D_edge_59 : decode b_D_edge 59 = .ok (.iload_n 3, 1) := by decide +kernel
theorem d_D_edge_60 : decode b_D_edge 60 = .ok (.iastore, 1) := by decide +kernel
theorem d_D_edge_61 : decode b_D_edge 61 = .ok (.aload_n 0, 1) := by decide +kernel
theorem d_D_edge_62 : decode b_D_edge 62 = .ok (.getfield 7, 3) := by decide +kernel
theorem d_D_edge_65 : decode b_D_edge 65 = .ok (.iload_n 2, 1) := by decide +kernel
theorem d_D_edge_66 : decode b_D_edge 66 = .ok (.bipush 10, 2) := by decide +kernel
theorem d_D_edge_68 : decode b_D_edge 68 = .ok (.imul, 1) := by decide +kernel
theorem d_D_edge_69 : decode b_D_edge 69 = .ok (.iload_n 1, 1) := by decide +kernel
theorem d_D_edge_70 : decode b_D_edge 70 = .ok (.iadd, 1) := by decide +kernel
theorem d_D_edge_71 : decode b_D_edge 71 = .ok (.iload_n 3, 1) := by decide +kernel
theorem d_D_edge_72 : decode b_D_edge 72 = .ok (.iastore, 1) := by decide +kernel
theorem d_D_edge_73 : decode b_D_edge 73 = .ok (.iload 4, 2) := by decide +kernel
theorem d_D_edge_75 : decode b_D_edge 75 = .ok (.ireturn, 1) := by decide +kernel
theorem d_D_bonus_0 : decode b_D_bonus 0 = .ok (.aload_n 0, 1) := by decide +kernel
theorem d_D_bonus_1 : decode b_D_bonus 1 = .ok (.iload_n 1, 1) := by decide +kernel
theorem d_D_bonus_2 : decode b_D_bonus 2 = .ok (.invokevirtual 36, 3) := by decide +kernel
theorem d_D_bonus_5 : decode b_D_bonus 5 = .ok (.ifCond .eq 5, 3) := by decide +kernel
theorem d_D_bonus_8 : decode b_D_bonus 8 = .ok (.iconst (-1), 1) := by decide +kernel
theorem d_D_bonus_9 : decode b_D_bonus 9 = .ok (.ireturn, 1) := by decide +kernel
theorem d_D_bonus_10 : decode b_D_bonus 10 = .ok (.iload_n 2, 1) := by decide +kernel
theorem d_D_bonus_11 : decode b_D_bonus 11 = .ok (.ifCond .lt 9, 3) := by decide +kernel
theorem d_D_bonus_14 : decode b_D_bonus 14 = .ok (.iload_n 2, 1) := by decide +kernel
theorem d_D_bonus_15 : decode b_D_bonus 15 = .ok (.bipush 20, 2) := by decide +kernel
theorem d_D_bonus_17 : decode b_D_bonus 17 = .ok (.if_icmp .le 6, 3) := by decide +kernel
theorem d_D_bonus_20 : decode b_D_bonus 20 = .ok (.bipush (-2), 2) := by decide +kernel
theorem d_D_bonus_22 : decode b_D_bonus 22 = .ok (.ireturn, 1) := by decide +kernel
theorem d_D_bonus_23 : decode b_D_bonus 23 = .ok (.aload_n 0, 1) := by decide +kernel
theorem d_D_bonus_24 : decode b_D_bonus 24 = .ok (.getfield 13, 3) := by decide +kernel
theorem d_D_bonus_27 : decode b_D_bonus 27 = .ok (.iload_n 1, 1) := by decide +kernel
theorem d_D_bonus_28 : decode b_D_bonus 28 = .ok (.iaload, 1) := by decide +kernel
theorem d_D_bonus_29 : decode b_D_bonus 29 = .ok (.istore_n 3, 1) := by decide +kernel
theorem d_D_bonus_30 : decode b_D_bonus 30 = .ok (.aload_n 0, 1) := by decide +kernel
theorem d_D_bonus_31 : decode b_D_bonus 31 = .ok (.getfield 13, 3) := by decide +kernel
theorem d_D_bonus_34 : decode b_D_bonus 34 = .ok (.iload_n 1, 1) := by decide +kernel
theorem d_D_bonus_35 : decode b_D_bonus 35 = .ok (.iload_n 2, 1) := by decide +kernel
theorem d_D_bonus_36 : decode b_D_bonus 36 = .ok (.iastore, 1) := by decide +kernel
theorem d_D_bonus_37 : decode b_D_bonus 37 = .ok (.iload_n 3, 1) := by decide +kernel
theorem d_D_bonus_38 : decode b_D_bonus 38 = .ok (.ireturn, 1) := by decide +kernel
theorem d_D_mode_0 : decode b_D_mode 0 = .ok (.aload_n 0, 1) := by decide +kernel
theorem d_D_mode_1 : decode b_D_mode 1 = .ok (.iload_n 1, 1) := by decide +kernel
theorem d_D_mode_2 : decode b_D_mode 2 = .ok (.invokevirtual 36, 3) := by decide +kernel
theorem d_D_mode_5 : decode b_D_mode 5 = .ok (.ifCond .eq 5, 3) := by decide +kernel
theorem d_D_mode_8 : decode b_D_mode 8 = .ok (.iconst (-1), 1) := by decide +kernel
theorem d_D_mode_9 : decode b_D_mode 9 = .ok (.ireturn, 1) := by decide +kernel
theorem d_D_mode_10 : decode b_D_mode 10 = .ok (.iload_n 2, 1) := by decide +kernel
theorem d_D_mode_11 : decode b_D_mode 11 = .ok (.ifCond .lt 8, 3) := by decide +kernel
theorem d_D_mode_14 : decode b_D_mode 14 = .ok (.iload_n 2, 1) := by decide +kernel
theorem d_D_mode_15 : decode b_D_mode 15 = .ok (.iconst 2, 1) := by decide +kernel
theorem d_D_mode_16 : decode b_D_mode 16 = .ok (.if_icmp .le 6, 3) := by decide +kernel
theorem d_D_mode_19 : decode b_D_mode 19 = .ok (.bipush (-3), 2) := by decide +kernel
theorem d_D_mode_21 : decode b_D_mode 21 = .ok (.ireturn, 1) := by decide +kernel
theorem d_D_mode_22 : decode b_D_mode 22 = .ok (.aload_n 0, 1) := by decide +kernel
theorem d_D_mode_23 : decode b_D_mode 23 = .ok (.getfield 16, 3) := by decide +kernel
theorem d_D_mode_26 : decode b_D_mode 26 = .ok (.iload_n 1, 1) := by decide +kernel
theorem d_D_mode_27 : decode b_D_mode 27 = .ok (.iaload, 1) := by decide +kernel
theorem d_D_mode_28 : decode b_D_mode 28 = .ok (.istore_n 3, 1) := by decide +kernel
theorem d_D_mode_29 : decode b_D_mode 29 = .ok (.aload_n 0, 1) := by decide +kernel
theorem d_D_mode_30 : decode b_D_mode 30 = .ok (.getfield 16, 3) := by decide +kernel
theorem d_D_mode_33 : decode b_D_mode 33 = .ok (.iload_n 1, 1) := by decide +kernel
theorem d_D_mode_34 : decode b_D_mode 34 = .ok (.iload_n 2, 1) := by decide +kernel
theorem d_D_mode_35 : decode b_D_mode 35 = .ok (.iastore, 1) := by decide +kernel
theorem d_D_mode_36 : decode b_D_mode 36 = .ok (.iload_n 3, 1) := by decide +kernel
theorem d_D_mode_37 : decode b_D_mode 37 = .ok (.ireturn, 1) := by decide +kernel
theorem d_D_weight_0 : decode b_D_weight 0 = .ok (.iconst 0, 1) := by decide +kernel
theorem d_D_weight_1 : decode b_D_weight 1 = .ok (.istore_n 2, 1) := by decide +kernel
theorem d_D_weight_2 : decode b_D_weight 2 = .ok (.iconst 0, 1) := by decide +kernel
theorem d_D_weight_3 : decode b_D_weight 3 = .ok (.istore_n 3, 1) := by decide +kernel
theorem d_D_weight_4 : decode b_D_weight 4 = .ok (.iload_n 3, 1) := by decide +kernel
theorem d_D_weight_5 : decode b_D_weight 5 = .ok (.aload_n 0, 1) := by decide +kernel
theorem d_D_weight_6 : decode b_D_weight 6 = .ok (.getfield 32, 3) := by decide +kernel
theorem d_D_weight_9 : decode b_D_weight 9 = .ok (.if_icmp .ge 74, 3) := by decide +kernel
theorem d_D_weight_12 : decode b_D_weight 12 = .ok (.iload_n 1, 1) := by decide +kernel
theorem d_D_weight_13 : decode b_D_weight 13 = .ok (.iload_n 3, 1) := by decide +kernel
theorem d_D_weight_14 : decode b_D_weight 14 = .ok (.ishr, 1) := by decide +kernel
theorem d_D_weight_15 : decode b_D_weight 15 = .ok (.iconst 1, 1) := by decide +kernel
theorem d_D_weight_16 : decode b_D_weight 16 = .ok (.iand, 1) := by decide +kernel
theorem d_D_weight_17 : decode b_D_weight 17 = .ok (.ifCond .ne 6, 3) := by decide +kernel
theorem d_D_weight_20 : decode b_D_weight 20 = .ok (.goto 57, 3) := by decide +kernel
theorem d_D_weight_23 : decode b_D_weight 23 = .ok (.iload_n 2, 1) := by decide +kernel
theorem d_D_weight_24 : decode b_D_weight 24 = .ok (.aload_n 0, 1) := by decide +kernel
theorem d_D_weight_25 : decode b_D_weight 25 = .ok (.getfield 13, 3) := by decide +kernel
theorem d_D_weight_28 : decode b_D_weight 28 = .ok (.iload_n 3, 1) := by decide +kernel
theorem d_D_weight_29 : decode b_D_weight 29 = .ok (.iaload, 1) := by decide +kernel
theorem d_D_weight_30 : decode b_D_weight 30 = .ok (.iadd, 1) := by decide +kernel
theorem d_D_weight_31 : decode b_D_weight 31 = .ok (.istore_n 2, 1) := by decide +kernel
theorem d_D_weight_32 : decode b_D_weight 32 = .ok (.iload_n 3, 1) := by decide +kernel
theorem d_D_weight_33 : decode b_D_weight 33 = .ok (.iconst 1, 1) := by decide +kernel
theorem d_D_weight_34 : decode b_D_weight 34 = .ok (.iadd, 1) := by decide +kernel
theorem d_D_weight_35 : decode b_D_weight 35 = .ok (.istore 4, 2) := by decide +kernel
theorem d_D_weight_37 : decode b_D_weight 37 = .ok (.iload 4, 2) := by decide +kernel
theorem d_D_weight_39 : decode b_D_weight 39 = .ok (.aload_n 0, 1) := by decide +kernel
theorem d_D_weight_40 : decode b_D_weight 40 = .ok (.getfield 32, 3) := by decide +kernel
theorem d_D_weight_43 : decode b_D_weight 43 = .ok (.if_icmp .ge 34, 3) := by decide +kernel
theorem d_D_weight_46 : decode b_D_weight 46 = .ok (.iload_n 1, 1) := by decide +kernel
theorem d_D_weight_47 : decode b_D_weight 47 = .ok (.iload 4, 2) := by decide +kernel
theorem d_D_weight_49 : decode b_D_weight 49 = .ok (.ishr, 1) := by decide +kernel
theorem d_D_weight_50 : decode b_D_weight 50 = .ok (.iconst 1, 1) := by decide +kernel
theorem d_D_weight_51 : decode b_D_weight 51 = .ok (.iand, 1) := by decide +kernel
theorem d_D_weight_52 : decode b_D_weight 52 = .ok (.iconst 1, 1) := by decide +kernel
theorem d_D_weight_53 : decode b_D_weight 53 = .ok (.if_icmp .ne 18, 3) := by decide +kernel
theorem d_D_weight_56 : decode b_D_weight 56 = .ok (.iload_n 2, 1) := by decide +kernel
theorem d_D_weight_57 : decode b_D_weight 57 = .ok (.aload_n 0, 1) := by decide +kernel
theorem d_D_weight_58 : decode b_D_weight 58 = .ok (.getfield 7, 3) := by decide +kernel
theorem d_D_weight_61 : decode b_D_weight 61 = .ok (.iload_n 3, 1) := by decide +kernel
theorem d_D_weight_62 : decode b_D_weight 62 = .ok (.bipush 10, 2) := by decide +kernel
theorem d_D_weight_64 : decode b_D_weight 64 = .ok (.imul, 1) := by decide +kernel
theorem d_D_weight_65 : decode b_D_weight 65 = .ok (.iload 4, 2) := by decide +kernel
theorem d_D_weight_67 : decode b_D_weight 67 = .ok (.iadd, 1) := by decide +kernel
theorem d_D_weight_68 : decode b_D_weight 68 = .ok (.iaload, 1) := by decide +kernel
theorem d_D_weight_69 : decode b_D_weight 69 = .ok (.iadd, 1) := by decide +kernel
theorem d_D_weight_70 : decode b_D_weight 70 = .ok (.istore_n 2, 1) := by decide +kernel
theorem d_D_weight_71 : decode b_D_weight 71 = .ok (.iinc 4 1, 3) := by decide +kernel
theorem d_D_weight_74 : decode b_D_weight 74 = .ok (.goto (-37), 3) := by decide +kernel
theorem d_D_weight_77 : decode b_D_weight 77 = .ok (.iinc 3 1, 3) := by decide +kernel
theorem d_D_weight_80 : decode b_D_weight 80 = .ok (.goto (-76), 3) := by decide +kernel
theorem d_D_weight_83 : decode b_D_weight 83 = .ok (.iload_n 2, 1) := by decide +kernel
theorem d_D_weight_84 : decode b_D_weight 84 = .ok (.ireturn, 1) := by decide +kernel
theorem d_D_members_0 : decode b_D_members 0 = .ok (.iconst 0, 1) := by decide +kernel
theorem d_D_members_1 : decode b_D_members 1 = .ok (.istore_n 1, 1) := by decide +kernel
theorem d_D_members_2 : decode b_D_members 2 = .ok (.iconst 0, 1) := by decide +kernel
theorem d_D_members_3 : decode b_D_members 3 = .ok (.istore_n 2, 1) := by decide +kernel
theorem d_D_members_4 : decode b_D_members 4 = .ok (.iload_n 2, 1) := by decide +kernel
theorem d_D_members_5 : decode b_D_members 5 = .ok (.bipush 10, 2) := by decide +kernel
theorem d_D_members_7 : decode b_D_members 7 = .ok (.if_icmp .ge 17, 3) := by decide +kernel
theorem d_D_members_10 : decode b_D_members 10 = .ok (.iload_n 1, 1) := by decide +kernel
theorem d_D_members_11 : decode b_D_members 11 = .ok (.iload_n 0, 1) := by decide +kernel
theorem d_D_members_12 : decode b_D_members 12 = .ok (.iload_n 2, 1) := by decide +kernel
theorem d_D_members_13 : decode b_D_members 13 = .ok (.ishr, 1) := by decide +kernel
theorem d_D_members_14 : decode b_D_members 14 = .ok (.iconst 1, 1) := by decide +kernel
theorem d_D_members_15 : decode b_D_members 15 = .ok (.iand, 1) := by decide +kernel
theorem d_D_members_16 : decode b_D_members 16 = .ok (.iadd, 1) := by decide +kernel
theorem d_D_members_17 : decode b_D_members 17 = .ok (.istore_n 1, 1) := by decide +kernel
theorem d_D_members_18 : decode b_D_members 18 = .ok (.iinc 2 1, 3) := by decide +kernel
theorem d_D_members_21 : decode b_D_members 21 = .ok (.goto (-17), 3) := by decide +kernel
theorem d_D_members_24 : decode b_D_members 24 = .ok (.iload_n 1, 1) := by decide +kernel
theorem d_D_members_25 : decode b_D_members 25 = .ok (.ireturn, 1) := by decide +kernel
theorem d_D_build_0 : decode b_D_build 0 = .ok (.iconst 0, 1) := by decide +kernel
theorem d_D_build_1 : decode b_D_build 1 = .ok (.istore_n 3, 1) := by decide +kernel
theorem d_D_build_2 : decode b_D_build 2 = .ok (.iload_n 3, 1) := by decide +kernel
theorem d_D_build_3 : decode b_D_build 3 = .ok (.sipush 144, 3) := by decide +kernel
theorem d_D_build_6 : decode b_D_build 6 = .ok (.if_icmp .ge 16, 3) := by decide +kernel
theorem d_D_build_9 : decode b_D_build 9 = .ok (.aload_n 0, 1) := by decide +kernel
theorem d_D_build_10 : decode b_D_build 10 = .ok (.getfield 19, 3) := by decide +kernel
theorem d_D_build_13 : decode b_D_build 13 = .ok (.iload_n 3, 1) := by decide +kernel
theorem d_D_build_14 : decode b_D_build 14 = .ok (.iconst 0, 1) := by decide +kernel
theorem d_D_build_15 : decode b_D_build 15 = .ok (.iastore, 1) := by decide +kernel
theorem d_D_build_16 : decode b_D_build 16 = .ok (.iinc 3 1, 3) := by decide +kernel
theorem d_D_build_19 : decode b_D_build 19 = .ok (.goto (-17), 3) := by decide +kernel
theorem d_D_build_22 : decode b_D_build 22 = .ok (.iconst 0, 1) := by decide +kernel
theorem d_D_build_23 : decode b_D_build 23 = .ok (.istore_n 3, 1) := by decide +kernel
theorem d_D_build_24 : decode b_D_build 24 = .ok (.iload_n 3, 1) := by decide +kernel
theorem d_D_build_25 : decode b_D_build 25 = .ok (.aload_n 0, 1) := by decide +kernel
theorem d_D_build_26 : decode b_D_build 26 = .ok (.getfield 32, 3) := by decide +kernel
theorem d_D_build_29 : decode b_D_build 29 = .ok (.if_icmp .ge 167, 3) := by decide +kernel
theorem d_D_build_32 : decode b_D_build 32 = .ok (.iconst 2, 1) := by decide +kernel
theorem d_D_build_33 : decode b_D_build 33 = .ok (.iload_n 1, 1) := by decide +kernel
theorem d_D_build_34 : decode b_D_build 34 = .ok (.imul, 1) := by decide +kernel
theorem d_D_build_35 : decode b_D_build 35 = .ok (.aload_n 0, 1) := by decide +kernel
theorem d_D_build_36 : decode b_D_build 36 = .ok (.getfield 13, 3) := by decide +kernel
theorem d_D_build_39 : decode b_D_build 39 = .ok (.iload_n 3, 1) := by decide +kernel
theorem d_D_build_40 : decode b_D_build 40 = .ok (.iaload, 1) := by decide +kernel
theorem d_D_build_41 : decode b_D_build 41 = .ok (.imul, 1) := by decide +kernel
theorem d_D_build_42 : decode b_D_build 42 = .ok (.iconst 2, 1) := by decide +kernel
theorem d_D_build_43 : decode b_D_build 43 = .ok (.iload_n 2, 1) := by decide +kernel
theorem d_D_build_44 : decode b_D_build 44 = .ok (.imul, 1) := by decide +kernel
theorem d_D_build_45 : decode b_D_build 45 = .ok (.isub, 1) := by decide +kernel
theorem d_D_build_46 : decode b_D_build 46 = .ok (.istore 4, 2) := by decide +kernel
theorem d_D_build_48 : decode b_D_build 48 = .ok (.iconst 0, 1) := by decide +kernel
theorem d_D_build_49 : decode b_D_build 49 = .ok (.istore 5, 2) := by decide +kernel
theorem d_D_build_51 : decode b_D_build 51 = .ok (.iload 5, 2) := by decide +kernel
theorem d_D_build_53 : decode b_D_build 53 = .ok (.aload_n 0, 1) := by decide +kernel
theorem d_D_build_54 : decode b_D_build 54 = .ok (.getfield 32, 3) := by decide +kernel
theorem d_D_build_57 : decode b_D_build 57 = .ok (.if_icmp .ge 54, 3) := by decide +kernel
theorem d_D_build_60 : decode b_D_build 60 = .ok (.iload 4, 2) := by decide +kernel
theorem d_D_build_62 : decode b_D_build 62 = .ok (.iload_n 1, 1) := by decide +kernel
theorem d_D_build_63 : decode b_D_build 63 = .ok (.aload_n 0, 1) := by decide +kernel
theorem d_D_build_64 : decode b_D_build 64 = .ok (.getfield 7, 3) := by decide +kernel
theorem d_D_build_67 : decode b_D_build 67 = .ok (.iload_n 3, 1) := by decide +kernel
theorem d_D_build_68 : decode b_D_build 68 = .ok (.bipush 10, 2) := by decide +kernel
theorem d_D_build_70 : decode b_D_build 70 = .ok (.imul, 1) := by decide +kernel
theorem d_D_build_71 : decode b_D_build 71 = .ok (.iload 5, 2) := by decide +kernel
theorem d_D_build_73 : decode b_D_build 73 = .ok (.iadd, 1) := by decide +kernel
theorem d_D_build_74 : decode b_D_build 74 = .ok (.iaload, 1) := by decide +kernel
theorem d_D_build_75 : decode b_D_build 75 = .ok (.imul, 1) := by decide +kernel
theorem d_D_build_76 : decode b_D_build 76 = .ok (.iadd, 1) := by decide +kernel
theorem d_D_build_77 : decode b_D_build 77 = .ok (.istore 4, 2) := by decide +kernel
theorem d_D_build_79 : decode b_D_build 79 = .ok (.aload_n 0, 1) := by decide +kernel
theorem d_D_build_80 : decode b_D_build 80 = .ok (.getfield 19, 3) := by decide +kernel
theorem d_D_build_83 : decode b_D_build 83 = .ok (.iload_n 3, 1) := by decide +kernel
theorem d_D_build_84 : decode b_D_build 84 = .ok (.bipush 12, 2) := by decide +kernel
theorem d_D_build_86 : decode b_D_build 86 = .ok (.imul, 1) := by decide +kernel
theorem d_D_build_87 : decode b_D_build 87 = .ok (.iload 5, 2) := by decide +kernel
theorem d_D_build_89 : decode b_D_build 89 = .ok (.iadd, 1) := by decide +kernel
theorem d_D_build_90 : decode b_D_build 90 = .ok (.iload_n 1, 1) := by decide +kernel
theorem d_D_build_91 : decode b_D_build 91 = .ok (.aload_n 0, 1) := by decide +kernel
theorem d_D_build_92 : decode b_D_build 92 = .ok (.getfield 7, 3) := by decide +kernel
theorem d_D_build_95 : decode b_D_build 95 = .ok (.iload_n 3, 1) := by decide +kernel
theorem d_D_build_96 : decode b_D_build 96 = .ok (.bipush 10, 2) := by decide +kernel
theorem d_D_build_98 : decode b_D_build 98 = .ok (.imul, 1) := by decide +kernel
theorem d_D_build_99 : decode b_D_build 99 = .ok (.iload 5, 2) := by decide +kernel
theorem d_D_build_101 : decode b_D_build 101 = .ok (.iadd, 1) := by decide +kernel
theorem d_D_build_102 : decode b_D_build 102 = .ok (.iaload, 1) := by decide +kernel
theorem d_D_build_103 : decode b_D_build 103 = .ok (.imul, 1) := by decide +kernel
theorem d_D_build_104 : decode b_D_build 104 = .ok (.iastore, 1) := by decide +kernel
theorem d_D_build_105 : decode b_D_build 105 = .ok (.iinc 5 1, 3) := by decide +kernel
theorem d_D_build_108 : decode b_D_build 108 = .ok (.goto (-57), 3) := by decide +kernel
theorem d_D_build_111 : decode b_D_build 111 = .ok (.iload 4, 2) := by decide +kernel
theorem d_D_build_113 : decode b_D_build 113 = .ok (.ifCond .le 17, 3) := by decide +kernel
theorem d_D_build_116 : decode b_D_build 116 = .ok (.aload_n 0, 1) := by decide +kernel
theorem d_D_build_117 : decode b_D_build 117 = .ok (.getfield 19, 3) := by decide +kernel
theorem d_D_build_120 : decode b_D_build 120 = .ok (.bipush 120, 2) := by decide +kernel
theorem d_D_build_122 : decode b_D_build 122 = .ok (.iload_n 3, 1) := by decide +kernel
theorem d_D_build_123 : decode b_D_build 123 = .ok (.iadd, 1) := by decide +kernel
theorem d_D_build_124 : decode b_D_build 124 = .ok (.iload 4, 2) := by decide +kernel
theorem d_D_build_126 : decode b_D_build 126 = .ok (.iastore, 1) := by decide +kernel
theorem d_D_build_127 : decode b_D_build 127 = .ok (.goto 18, 3) := by decide +kernel
theorem d_D_build_130 : decode b_D_build 130 = .ok (.aload_n 0, 1) := by decide +kernel
theorem d_D_build_131 : decode b_D_build 131 = .ok (.getfield 19, 3) := by decide +kernel
theorem d_D_build_134 : decode b_D_build 134 = .ok (.iload_n 3, 1) := by decide +kernel
theorem d_D_build_135 : decode b_D_build 135 = .ok (.bipush 12, 2) := by decide +kernel
theorem d_D_build_137 : decode b_D_build 137 = .ok (.imul, 1) := by decide +kernel
theorem d_D_build_138 : decode b_D_build 138 = .ok (.bipush 11, 2) := by decide +kernel
theorem d_D_build_140 : decode b_D_build 140 = .ok (.iadd, 1) := by decide +kernel
theorem d_D_build_141 : decode b_D_build 141 = .ok (.iload 4, 2) := by decide +kernel
theorem d_D_build_143 : decode b_D_build 143 = .ok (.ineg, 1) := by decide +kernel
theorem d_D_build_144 : decode b_D_build 144 = .ok (.iastore, 1) := by decide +kernel
theorem d_D_build_145 : decode b_D_build 145 = .ok (.aload_n 0, 1) := by decide +kernel
theorem d_D_build_146 : decode b_D_build 146 = .ok (.getfield 16, 3) := by decide +kernel
theorem d_D_build_149 : decode b_D_build 149 = .ok (.iload_n 3, 1) := by decide +kernel
theorem d_D_build_150 : decode b_D_build 150 = .ok (.iaload, 1) := by decide +kernel
theorem d_D_build_151 : decode b_D_build 151 = .ok (.iconst 1, 1) := by decide +kernel
theorem d_D_build_152 : decode b_D_build 152 = .ok (.if_icmp .ne 14, 3) := by decide +kernel
theorem d_D_build_155 : decode b_D_build 155 = .ok (.aload_n 0, 1) := by decide +kernel
theorem d_D_build_156 : decode b_D_build 156 = .ok (.getfield 19, 3) := by decide +kernel
theorem d_D_build_159 : decode b_D_build 159 = .ok (.bipush 120, 2) := by decide +kernel
theorem d_D_build_161 : decode b_D_build 161 = .ok (.iload_n 3, 1) := by decide +kernel
theorem d_D_build_162 : decode b_D_build 162 = .ok (.iadd, 1) := by decide +kernel
theorem d_D_build_163 : decode b_D_build 163 = .ok (.ldc 40, 2) := by decide +kernel
theorem d_D_build_165 : decode b_D_build 165 = .ok (.iastore, 1) := by decide +kernel
theorem d_D_build_166 : decode b_D_build 166 = .ok (.aload_n 0, 1) := by decide +kernel
theorem d_D_build_167 : decode b_D_build 167 = .ok (.getfield 16, 3) := by decide +kernel
theorem d_D_build_170 : decode b_D_build 170 = .ok (.iload_n 3, 1) := by decide +kernel
theorem d_D_build_171 : decode b_D_build 171 = .ok (.iaload, 1) := by decide +kernel
theorem d_D_build_172 : decode b_D_build 172 = .ok (.iconst 2, 1) := by decide +kernel
theorem d_D_build_173 : decode b_D_build 173 = .ok (.if_icmp .ne 17, 3) := by decide +kernel
theorem d_D_build_176 : decode b_D_build 176 = .ok (.aload_n 0, 1) := by decide +kernel
theorem d_D_build_177 : decode b_D_build 177 = .ok (.getfield 19, 3) := by decide +kernel
theorem d_D_build_180 : decode b_D_build 180 = .ok (.iload_n 3, 1) := by decide +kernel
theorem d_D_build_181 : decode b_D_build 181 = .ok (.bipush 12, 2) := by decide +kernel
theorem d_D_build_183 : decode b_D_build 183 = .ok (.imul, 1) := by decide +kernel
theorem d_D_build_184 : decode b_D_build 184 = .ok (.bipush 11, 2) := by decide +kernel
theorem d_D_build_186 : decode b_D_build 186 = .ok (.iadd, 1) := by decide +kernel
theorem d_D_build_187 : decode b_D_build 187 = .ok (.ldc 40, 2) := by decide +kernel
theorem d_D_build_189 : decode b_D_build 189 = .ok (.iastore, 1) := by decide +kernel
theorem d_D_build_190 : decode b_D_build 190 = .ok (.iinc 3 1, 3) := by decide +kernel
theorem d_D_build_193 : decode b_D_build 193 = .ok (.goto (-169), 3) := by decide +kernel
theorem d_D_build_196 : decode b_D_build 196 = .ok (.return_, 1) := by decide +kernel
theorem d_D_isNode_0 : decode b_D_isNode 0 = .ok (.iload_n 1, 1) := by decide +kernel
theorem d_D_isNode_1 : decode b_D_isNode 1 = .ok (.aload_n 0, 1) := by decide +kernel
theorem d_D_isNode_2 : decode b_D_isNode 2 = .ok (.getfield 32, 3) := by decide +kernel
theorem d_D_isNode_5 : decode b_D_isNode 5 = .ok (.if_icmp .lt 9, 3) := by decide +kernel
theorem d_D_isNode_8 : decode b_D_isNode 8 = .ok (.iload_n 1, 1) := by decide +kernel
theorem d_D_isNode_9 : decode b_D_isNode 9 = .ok (.bipush 10, 2) := by decide +kernel
theorem d_D_isNode_11 : decode b_D_isNode 11 = .ok (.if_icmp .lt 7, 3) := by decide +kernel
theorem d_D_isNode_14 : decode b_D_isNode 14 = .ok (.iconst 1, 1) := by decide +kernel
theorem d_D_isNode_15 : decode b_D_isNode 15 = .ok (.goto 4, 3) := by decide +kernel
theorem d_D_isNode_18 : decode b_D_isNode 18 = .ok (.iconst 0, 1) := by decide +kernel
theorem d_D_isNode_19 : decode b_D_isNode 19 = .ok (.ireturn, 1) := by decide +kernel
end
section
theorem d_D_findWay_0 : decode b_D_findWay 0 = .ok (.iconst 0, 1) := by decide +kernel
theorem d_D_findWay_1 : decode b_D_findWay 1 = .ok (.istore_n 1, 1) := by decide +kernel
theorem d_D_findWay_2 : decode b_D_findWay 2 = .ok (.iload_n 1, 1) := by decide +kernel
theorem d_D_findWay_3 : decode b_D_findWay 3 = .ok (.bipush 12, 2) := by decide +kernel
theorem d_D_findWay_5 : decode b_D_findWay 5 = .ok (.if_icmp .ge 16, 3) := by decide +kernel
theorem d_D_findWay_8 : decode b_D_findWay 8 = .ok (.aload_n 0, 1) := by decide +kernel
theorem d_D_findWay_9 : decode b_D_findWay 9 = .ok (.getfield 22, 3) := by decide +kernel
theorem d_D_findWay_12 : decode b_D_findWay 12 = .ok (.iload_n 1, 1) := by decide +kernel
theorem d_D_findWay_13 : decode b_D_findWay 13 = .ok (.iconst (-1), 1) := by decide +kernel
theorem d_D_findWay_14 : decode b_D_findWay 14 = .ok (.iastore, 1) := by decide +kernel
theorem d_D_findWay_15 : decode b_D_findWay 15 = .ok (.iinc 1 1, 3) := by decide +kernel
theorem d_D_findWay_18 : decode b_D_findWay 18 = .ok (.goto (-16), 3) := by decide +kernel
theorem d_D_findWay_21 : decode b_D_findWay 21 = .ok (.aload_n 0, 1) := by decide +kernel
theorem d_D_findWay_22 : decode b_D_findWay 22 = .ok (.getfield 22, 3) := by decide +kernel
theorem d_D_findWay_25 : decode b_D_findWay 25 = .ok (.bipush 10, 2) := by decide +kernel
theorem d_D_findWay_27 : decode b_D_findWay 27 = .ok (.bipush 10, 2) := by decide +kernel
theorem d_D_findWay_29 : decode b_D_findWay 29 = .ok (.iastore, 1) := by decide +kernel
theorem d_D_findWay_30 : decode b_D_findWay 30 = .ok (.aload_n 0, 1) := by decide +kernel
theorem d_D_findWay_31 : decode b_D_findWay 31 = .ok (.getfield 25, 3) := by decide +kernel
theorem d_D_findWay_34 : decode b_D_findWay 34 = .ok (.iconst 0, 1) := by decide +kernel
theorem d_D_findWay_35 : decode b_D_findWay 35 = .ok (.bipush 10, 2) := by decide +kernel
theorem d_D_findWay_37 : decode b_D_findWay 37 = .ok (.iastore, 1) := by decide +kernel
theorem d_D_findWay_38 : decode b_D_findWay 38 = .ok (.iconst 1, 1) := by decide +kernel
theorem d_D_findWay_39 : decode b_D_findWay 39 = .ok (.istore_n 1, 1) := by decide +kernel
theorem d_D_findWay_40 : decode b_D_findWay 40 = .ok (.iconst 0, 1) := by decide +kernel
theorem d_D_findWay_41 : decode b_D_findWay 41 = .ok (.istore_n 2, 1) := by decide +kernel
theorem d_D_findWay_42 : decode b_D_findWay 42 = .ok (.iload_n 2, 1) := by decide +kernel
theorem d_D_findWay_43 : decode b_D_findWay 43 = .ok (.iload_n 1, 1) := by decide +kernel
theorem d_D_findWay_44 : decode b_D_findWay 44 = .ok (.if_icmp .ge 91, 3) := by decide +kernel
theorem d_D_findWay_47 : decode b_D_findWay 47 = .ok (.iload_n 2, 1) := by decide +kernel
theorem d_D_findWay_48 : decode b_D_findWay 48 = .ok (.bipush 12, 2) := by decide +kernel
theorem d_D_findWay_50 : decode b_D_findWay 50 = .ok (.if_icmp .ge 85, 3) := by decide +kernel
theorem d_D_findWay_53 : decode b_D_findWay 53 = .ok (.aload_n 0, 1) := by decide +kernel
theorem d_D_findWay_54 : decode b_D_findWay 54 = .ok (.getfield 25, 3) := by decide +kernel
theorem d_D_findWay_57 : decode b_D_findWay 57 = .ok (.iload_n 2, 1) := by decide +kernel
theorem d_D_findWay_58 : decode b_D_findWay 58 = .ok (.iaload, 1) := by decide +kernel
theorem d_D_findWay_59 : decode b_D_findWay 59 = .ok (.istore_n 3, 1) := by decide +kernel
theorem d_D_findWay_60 : decode b_D_findWay 60 = .ok (.iconst 0, 1) := by decide +kernel
theorem d_D_findWay_61 : decode b_D_findWay 61 = .ok (.istore 4, 2) := by decide +kernel
theorem d_D_findWay_63 : decode b_D_findWay 63 = .ok (.iload 4, 2) := by decide +kernel
theorem d_D_findWay_65 : decode b_D_findWay 65 = .ok (.bipush 12, 2) := by decide +kernel
theorem d_D_findWay_67 : decode b_D_findWay 67 = .ok (.if_icmp .ge 62, 3) := by decide +kernel
theorem d_D_findWay_70 : decode b_D_findWay 70 = .ok (.aload_n 0, 1) := by decide +kernel
theorem d_D_findWay_71 : decode b_D_findWay 71 = .ok (.iload 4, 2) := by decide +kernel
theorem d_D_findWay_73 : decode b_D_findWay 73 = .ok (.invokevirtual 41, 3) := by decide +kernel
theorem d_D_findWay_76 : decode b_D_findWay 76 = .ok (.ifCond .eq 47, 3) := by decide +kernel
theorem d_D_findWay_79 : decode b_D_findWay 79 = .ok (.aload_n 0, 1) := by decide +kernel
theorem d_D_findWay_80 : decode b_D_findWay 80 = .ok (.getfield 22, 3) := by decide +kernel
theorem d_D_findWay_83 : decode b_D_findWay 83 = .ok (.iload 4, 2) := by decide +kernel
theorem d_D_findWay_85 : decode b_D_findWay 85 = .ok (.iaload, 1) := by decide +kernel
theorem d_D_findWay_86 : decode b_D_findWay 86 = .ok (.ifCond .ge 37, 3) := by decide +kernel
theorem d_D_findWay_89 : decode b_D_findWay 89 = .ok (.aload_n 0, 1) := by decide +kernel
theorem d_D_findWay_90 : decode b_D_findWay 90 = .ok (.getfield 19, 3) := by decide +kernel
theorem d_D_findWay_93 : decode b_D_findWay 93 = .ok (.iload_n 3, 1) := by decide +kernel
theorem d_D_findWay_94 : decode b_D_findWay 94 = .ok (.bipush 12, 2) := by decide +kernel
theorem d_D_findWay_96 : decode b_D_findWay 96 = .ok (.imul, 1) := by decide +kernel
theorem d_D_findWay_97 : decode b_D_findWay 97 = .ok (.iload 4, 2) := by decide +kernel
theorem d_D_findWay_99 : decode b_D_findWay 99 = .ok (.iadd, 1) := by decide +kernel
theorem d_D_findWay_100 : decode b_D_findWay 100 = .ok (.iaload, 1) := by decide +kernel
theorem d_D_findWay_101 : decode b_D_findWay 101 = .ok (.ifCond .le 22, 3) := by decide +kernel
theorem d_D_findWay_104 : decode b_D_findWay 104 = .ok (.aload_n 0, 1) := by decide +kernel
theorem d_D_findWay_105 : decode b_D_findWay 105 = .ok (.getfield 22, 3) := by decide +kernel
theorem d_D_findWay_108 : decode b_D_findWay 108 = .ok (.iload 4, 2) := by decide +kernel
theorem d_D_findWay_110 : decode b_D_findWay 110 = .ok (.iload_n 3, 1) := by decide +kernel
theorem d_D_findWay_111 : decode b_D_findWay 111 = .ok (.iastore, 1) := by decide +kernel
theorem d_D_findWay_112 : decode b_D_findWay 112 = .ok (.aload_n 0, 1) := by decide +kernel
theorem d_D_findWay_113 : decode b_D_findWay 113 = .ok (.getfield 25, 3) := by decide +kernel
theorem d_D_findWay_116 : decode b_D_findWay 116 = .ok (.iload_n 1, 1) := by decide +kernel
theorem d_D_findWay_117 : decode b_D_findWay 117 = .ok (.iload 4, 2) := by decide +kernel
theorem d_D_findWay_119 : decode b_D_findWay 119 = .ok (.iastore, 1) := by decide +kernel
theorem d_D_findWay_120 : decode b_D_findWay 120 = .ok (.iinc 1 1, 3) := by decide +kernel
theorem d_D_findWay_123 : decode b_D_findWay 123 = .ok (.iinc 4 1, 3) := by decide +kernel
theorem d_D_findWay_126 : decode b_D_findWay 126 = .ok (.goto (-63), 3) := by decide +kernel
theorem d_D_findWay_129 : decode b_D_findWay 129 = .ok (.iinc 2 1, 3) := by decide +kernel
theorem d_D_findWay_132 : decode b_D_findWay 132 = .ok (.goto (-90), 3) := by decide +kernel
theorem d_D_findWay_135 : decode b_D_findWay 135 = .ok (.aload_n 0, 1) := by decide +kernel
theorem d_D_findWay_136 : decode b_D_findWay 136 = .ok (.getfield 22, 3) := by decide +kernel
theorem d_D_findWay_139 : decode b_D_findWay 139 = .ok (.bipush 11, 2) := by decide +kernel
theorem d_D_findWay_141 : decode b_D_findWay 141 = .ok (.iaload, 1) := by decide +kernel
theorem d_D_findWay_142 : decode b_D_findWay 142 = .ok (.ifCond .lt 7, 3) := by decide +kernel
theorem d_D_findWay_145 : decode b_D_findWay 145 = .ok (.iconst 1, 1) := by decide +kernel
theorem d_D_findWay_146 : decode b_D_findWay 146 = .ok (.goto 4, 3) := by decide +kernel
theorem d_D_findWay_149 : decode b_D_findWay 149 = .ok (.iconst 0, 1) := by decide +kernel
theorem d_D_findWay_150 : decode b_D_findWay 150 = .ok (.ireturn, 1) := by decide +kernel
theorem d_D_send_0 : decode b_D_send 0 = .ok (.ldc 44, 2) := by decide +kernel
theorem d_D_send_2 : decode b_D_send 2 = .ok (.istore_n 1, 1) := by decide +kernel
theorem d_D_send_3 : decode b_D_send 3 = .ok (.bipush 11, 2) := by decide +kernel
theorem d_D_send_5 : decode b_D_send 5 = .ok (.istore_n 2, 1) := by decide +kernel
theorem d_D_send_6 : decode b_D_send 6 = .ok (.iconst 0, 1) := by decide +kernel
theorem d_D_send_7 : decode b_D_send 7 = .ok (.istore_n 3, 1) := by decide +kernel
theorem d_D_send_8 : decode b_D_send 8 = .ok (.iload_n 3, 1) := by decide +kernel
theorem d_D_send_9 : decode b_D_send 9 = .ok (.bipush 12, 2) := by decide +kernel
theorem d_D_send_11 : decode b_D_send 11 = .ok (.if_icmp .ge 55, 3) := by decide +kernel
theorem d_D_send_14 : decode b_D_send 14 = .ok (.iload_n 2, 1) := by decide +kernel
theorem d_D_send_15 : decode b_D_send 15 = .ok (.bipush 10, 2) := by decide +kernel
theorem d_D_send_17 : decode b_D_send 17 = .ok (.if_icmp .eq 49, 3) := by decide +kernel
theorem d_D_send_20 : decode b_D_send 20 = .ok (.aload_n 0, 1) := by decide +kernel
theorem d_D_send_21 : decode b_D_send 21 = .ok (.getfield 22, 3) := by decide +kernel
theorem d_D_send_24 : decode b_D_send 24 = .ok (.iload_n 2, 1) := by decide +kernel
theorem d_D_send_25 : decode b_D_send 25 = .ok (.iaload, 1) := by decide +kernel
theorem d_D_send_26 : decode b_D_send 26 = .ok (.istore 4, 2) := by decide +kernel
theorem d_D_send_28 : decode b_D_send 28 = .ok (.aload_n 0, 1) := by decide +kernel
theorem d_D_send_29 : decode b_D_send 29 = .ok (.getfield 19, 3) := by decide +kernel
theorem d_D_send_32 : decode b_D_send 32 = .ok (.iload 4, 2) := by decide +kernel
theorem d_D_send_34 : decode b_D_send 34 = .ok (.bipush 12, 2) := by decide +kernel
theorem d_D_send_36 : decode b_D_send 36 = .ok (.imul, 1) := by decide +kernel
theorem d_D_send_37 : decode b_D_send 37 = .ok (.iload_n 2, 1) := by decide +kernel
theorem d_D_send_38 : decode b_D_send 38 = .ok (.iadd, 1) := by decide +kernel
theorem d_D_send_39 : decode b_D_send 39 = .ok (.iaload, 1) := by decide +kernel
theorem d_D_send_40 : decode b_D_send 40 = .ok (.iload_n 1, 1) := by decide +kernel
theorem d_D_send_41 : decode b_D_send 41 = .ok (.if_icmp .ge 16, 3) := by decide +kernel
theorem d_D_send_44 : decode b_D_send 44 = .ok (.aload_n 0, 1) := by decide +kernel
theorem d_D_send_45 : decode b_D_send 45 = .ok (.getfield 19, 3) := by decide +kernel
theorem d_D_send_48 : decode b_D_send 48 = .ok (.iload 4, 2) := by decide +kernel
theorem d_D_send_50 : decode b_D_send 50 = .ok (.bipush 12, 2) := by decide +kernel
theorem d_D_send_52 : decode b_D_send 52 = .ok (.imul, 1) := by decide +kernel
theorem d_D_send_53 : decode b_D_send 53 = .ok (.iload_n 2, 1) := by decide +kernel
theorem d_D_send_54 : decode b_D_send 54 = .ok (.iadd, 1) := by decide +kernel
theorem d_D_send_55 : decode b_D_send 55 = .ok (.iaload, 1) := by decide +kernel
theorem d_D_send_56 : decode b_D_send 56 = .ok (.istore_n 1, 1) := by decide +kernel
theorem d_D_send_57 : decode b_D_send 57 = .ok (.iload 4, 2) := by decide +kernel
theorem d_D_send_59 : decode b_D_send 59 = .ok (.istore_n 2, 1) := by decide +kernel
theorem d_D_send_60 : decode b_D_send 60 = .ok (.iinc 3 1, 3) := by decide +kernel
theorem d_D_send_63 : decode b_D_send 63 = .ok (.goto (-55), 3) := by decide +kernel
theorem d_D_send_66 : decode b_D_send 66 = .ok (.bipush 11, 2) := by decide +kernel
theorem d_D_send_68 : decode b_D_send 68 = .ok (.istore_n 2, 1) := by decide +kernel
theorem d_D_send_69 : decode b_D_send 69 = .ok (.iconst 0, 1) := by decide +kernel
theorem d_D_send_70 : decode b_D_send 70 = .ok (.istore_n 3, 1) := by decide +kernel
theorem d_D_send_71 : decode b_D_send 71 = .ok (.iload_n 3, 1) := by decide +kernel
theorem d_D_send_72 : decode b_D_send 72 = .ok (.bipush 12, 2) := by decide +kernel
theorem d_D_send_74 : decode b_D_send 74 = .ok (.if_icmp .ge 58, 3) := by decide +kernel
theorem d_D_send_77 : decode b_D_send 77 = .ok (.iload_n 2, 1) := by decide +kernel
theorem d_D_send_78 : decode b_D_send 78 = .ok (.bipush 10, 2) := by decide +kernel
theorem d_D_send_80 : decode b_D_send 80 = .ok (.if_icmp .eq 52, 3) := by decide +kernel
theorem d_D_send_83 : decode b_D_send 83 = .ok (.aload_n 0, 1) := by decide +kernel
theorem d_D_send_84 : decode b_D_send 84 = .ok (.getfield 22, 3) := by decide +kernel
theorem d_D_send_87 : decode b_D_send 87 = .ok (.iload_n 2, 1) := by decide +kernel
theorem d_D_send_88 : decode b_D_send 88 = .ok (.iaload, 1) := by decide +kernel
theorem d_D_send_89 : decode b_D_send 89 = .ok (.istore 4, 2) := by decide +kernel
theorem d_D_send_91 : decode b_D_send 91 = .ok (.aload_n 0, 1) := by decide +kernel
theorem d_D_send_92 : decode b_D_send 92 = .ok (.getfield 19, 3) := by decide +kernel
theorem d_D_send_95 : decode b_D_send 95 = .ok (.iload 4, 2) := by decide +kernel
theorem d_D_send_97 : decode b_D_send 97 = .ok (.bipush 12, 2) := by decide +kernel
theorem d_D_send_99 : decode b_D_send 99 = .ok (.imul, 1) := by decide +kernel
theorem d_D_send_100 : decode b_D_send 100 = .ok (.iload_n 2, 1) := by decide +kernel
theorem d_D_send_101 : decode b_D_send 101 = .ok (.iadd, 1) := by decide +kernel
theorem d_D_send_102 : decode b_D_send 102 = .ok (.dup2, 1) := by decide +kernel
theorem d_D_send_103 : decode b_D_send 103 = .ok (.iaload, 1) := by decide +kernel
theorem d_D_send_104 : decode b_D_send 104 = .ok (.iload_n 1, 1) := by decide +kernel
theorem d_D_send_105 : decode b_D_send 105 = .ok (.isub, 1) := by decide +kernel
theorem d_D_send_106 : decode b_D_send 106 = .ok (.iastore, 1) := by decide +kernel
theorem d_D_send_107 : decode b_D_send 107 = .ok (.aload_n 0, 1) := by decide +kernel
theorem d_D_send_108 : decode b_D_send 108 = .ok (.getfield 19, 3) := by decide +kernel
theorem d_D_send_111 : decode b_D_send 111 = .ok (.iload_n 2, 1) := by decide +kernel
theorem d_D_send_112 : decode b_D_send 112 = .ok (.bipush 12, 2) := by decide +kernel
theorem d_D_send_114 : decode b_D_send 114 = .ok (.imul, 1) := by decide +kernel
theorem d_D_send_115 : decode b_D_send 115 = .ok (.iload 4, 2) := by decide +kernel
theorem d_D_send_117 : decode b_D_send 117 = .ok (.iadd, 1) := by decide +kernel
theorem d_D_send_118 : decode b_D_send 118 = .ok (.dup2, 1) := by decide +kernel
theorem d_D_send_119 : decode b_D_send 119 = .ok (.iaload, 1) := by decide +kernel
theorem d_D_send_120 : decode b_D_send 120 = .ok (.iload_n 1, 1) := by decide +kernel
theorem d_D_send_121 : decode b_D_send 121 = .ok (.iadd, 1) := by decide +kernel
theorem d_D_send_122 : decode b_D_send 122 = .ok (.iastore, 1) := by decide +kernel
theorem d_D_send_123 : decode b_D_send 123 = .ok (.iload 4, 2) := by decide +kernel
theorem d_D_send_125 : decode b_D_send 125 = .ok (.istore_n 2, 1) := by decide +kernel
theorem d_D_send_126 : decode b_D_send 126 = .ok (.iinc 3 1, 3) := by decide +kernel
theorem d_D_send_129 : decode b_D_send 129 = .ok (.goto (-58), 3) := by decide +kernel
theorem d_D_send_132 : decode b_D_send 132 = .ok (.return_, 1) := by decide +kernel
theorem d_D_cut_0 : decode b_D_cut 0 = .ok (.aload_n 0, 1) := by decide +kernel
theorem d_D_cut_1 : decode b_D_cut 1 = .ok (.iload_n 1, 1) := by decide +kernel
theorem d_D_cut_2 : decode b_D_cut 2 = .ok (.iload_n 2, 1) := by decide +kernel
theorem d_D_cut_3 : decode b_D_cut 3 = .ok (.invokevirtual 45, 3) := by decide +kernel
theorem d_D_cut_6 : decode b_D_cut 6 = .ok (.aload_n 0, 1) := by decide +kernel
theorem d_D_cut_7 : decode b_D_cut 7 = .ok (.invokevirtual 49, 3) := by decide +kernel
theorem d_D_cut_10 : decode b_D_cut 10 = .ok (.istore_n 3, 1) := by decide +kernel
theorem d_D_cut_11 : decode b_D_cut 11 = .ok (.iconst 0, 1) := by decide +kernel
theorem d_D_cut_12 : decode b_D_cut 12 = .ok (.istore 4, 2) := by decide +kernel
theorem d_D_cut_14 : decode b_D_cut 14 = .ok (.iload 4, 2) := by decide +kernel
theorem d_D_cut_16 : decode b_D_cut 16 = .ok (.sipush 4000, 3) := by decide +kernel
theorem d_D_cut_19 : decode b_D_cut 19 = .ok (.if_icmp .ge 22, 3) := by decide +kernel
theorem d_D_cut_22 : decode b_D_cut 22 = .ok (.iload_n 3, 1) := by decide +kernel
theorem d_D_cut_23 : decode b_D_cut 23 = .ok (.ifCond .eq 18, 3) := by decide +kernel
theorem d_D_cut_26 : decode b_D_cut 26 = .ok (.aload_n 0, 1) := by decide +kernel
theorem d_D_cut_27 : decode b_D_cut 27 = .ok (.invokevirtual 53, 3) := by decide +kernel
theorem d_D_cut_30 : decode b_D_cut 30 = .ok (.aload_n 0, 1) := by decide +kernel
theorem d_D_cut_31 : decode b_D_cut 31 = .ok (.invokevirtual 49, 3) := by decide +kernel
theorem d_D_cut_34 : decode b_D_cut 34 = .ok (.istore_n 3, 1) := by decide +kernel
theorem d_D_cut_35 : decode b_D_cut 35 = .ok (.iinc 4 1, 3) := by decide +kernel
theorem d_D_cut_38 : decode b_D_cut 38 = .ok (.goto (-24), 3) := by decide +kernel
theorem d_D_cut_41 : decode b_D_cut 41 = .ok (.iconst 0, 1) := by decide +kernel
theorem d_D_cut_42 : decode b_D_cut 42 = .ok (.istore 4, 2) := by decide +kernel
theorem d_D_cut_44 : decode b_D_cut 44 = .ok (.iload 4, 2) := by decide +kernel
theorem d_D_cut_46 : decode b_D_cut 46 = .ok (.bipush 12, 2) := by decide +kernel
theorem d_D_cut_48 : decode b_D_cut 48 = .ok (.if_icmp .ge 28, 3) := by decide +kernel
theorem d_D_cut_51 : decode b_D_cut 51 = .ok (.aload_n 0, 1) := by decide +kernel
theorem d_D_cut_52 : decode b_D_cut 52 = .ok (.getfield 28, 3) := by decide +kernel
theorem d_D_cut_55 : decode b_D_cut 55 = .ok (.iload 4, 2) := by decide +kernel
theorem d_D_cut_57 : decode b_D_cut 57 = .ok (.iload 4, 2) := by decide +kernel
theorem d_D_cut_59 : decode b_D_cut 59 = .ok (.bipush 11, 2) := by decide +kernel
theorem d_D_cut_61 : decode b_D_cut 61 = .ok (.if_icmp .ne 7, 3) := by decide +kernel
theorem d_D_cut_64 : decode b_D_cut 64 = .ok (.iconst 1, 1) := by decide +kernel
theorem d_D_cut_65 : decode b_D_cut 65 = .ok (.goto 4, 3) := by decide +kernel
theorem d_D_cut_68 : decode b_D_cut 68 = .ok (.iconst 0, 1) := by decide +kernel
theorem d_D_cut_69 : decode b_D_cut 69 = .ok (.bastore, 1) := by decide +kernel
theorem d_D_cut_70 : decode b_D_cut 70 = .ok (.iinc 4 1, 3) := by decide +kernel
theorem d_D_cut_73 : decode b_D_cut 73 = .ok (.goto (-29), 3) := by decide +kernel
theorem d_D_cut_76 : decode b_D_cut 76 = .ok (.aload_n 0, 1) := by decide +kernel
theorem d_D_cut_77 : decode b_D_cut 77 = .ok (.getfield 25, 3) := by decide +kernel
theorem d_D_cut_80 : decode b_D_cut 80 = .ok (.iconst 0, 1) := by decide +kernel
theorem d_D_cut_81 : decode b_D_cut 81 = .ok (.bipush 11, 2) := by decide +kernel
theorem d_D_cut_83 : decode b_D_cut 83 = .ok (.iastore, 1) := by decide +kernel
theorem d_D_cut_84 : decode b_D_cut 84 = .ok (.iconst 1, 1) := by decide +kernel
theorem d_D_cut_85 : decode b_D_cut 85 = .ok (.istore 4, 2) := by decide +kernel
theorem d_D_cut_87 : decode b_D_cut 87 = .ok (.iconst 0, 1) := by decide +kernel
theorem d_D_cut_88 : decode b_D_cut 88 = .ok (.istore 5, 2) := by decide +kernel
theorem d_D_cut_90 : decode b_D_cut 90 = .ok (.iload 5, 2) := by decide +kernel
theorem d_D_cut_92 : decode b_D_cut 92 = .ok (.iload 4, 2) := by decide +kernel
theorem d_D_cut_94 : decode b_D_cut 94 = .ok (.if_icmp .ge 96, 3) := by decide +kernel
theorem d_D_cut_97 : decode b_D_cut 97 = .ok (.iload 5, 2) := by decide +kernel
theorem d_D_cut_99 : decode b_D_cut 99 = .ok (.bipush 12, 2) := by decide +kernel
theorem d_D_cut_101 : decode b_D_cut 101 = .ok (.if_icmp .ge 89, 3) := by decide +kernel
theorem d_D_cut_104 : decode b_D_cut 104 = .ok (.aload_n 0, 1) := by decide +kernel
theorem d_D_cut_105 : decode b_D_cut 105 = .ok (.getfield 25, 3) := by decide +kernel
theorem d_D_cut_108 : decode b_D_cut 108 = .ok (.iload 5, 2) := by decide +kernel
theorem d_D_cut_110 : decode b_D_cut 110 = .ok (.iaload, 1) := by decide +kernel
theorem d_D_cut_111 : decode b_D_cut 111 = .ok (.istore 6, 2) := by decide +kernel
theorem d_D_cut_113 : decode b_D_cut 113 = .ok (.iconst 0, 1) := by decide +kernel
theorem d_D_cut_114 : decode b_D_cut 114 = .ok (.istore 7, 2) := by decide +kernel
theorem d_D_cut_116 : decode b_D_cut 116 = .ok (.iload 7, 2) := by decide +kernel
theorem d_D_cut_118 : decode b_D_cut 118 = .ok (.bipush 12, 2) := by decide +kernel
theorem d_D_cut_120 : decode b_D_cut 120 = .ok (.if_icmp .ge 64, 3) := by decide +kernel
theorem d_D_cut_123 : decode b_D_cut 123 = .ok (.aload_n 0, 1) := by decide +kernel
theorem d_D_cut_124 : decode b_D_cut 124 = .ok (.iload 7, 2) := by decide +kernel
theorem d_D_cut_126 : decode b_D_cut 126 = .ok (.invokevirtual 41, 3) := by decide +kernel
theorem d_D_cut_129 : decode b_D_cut 129 = .ok (.ifCond .eq 49, 3) := by decide +kernel
theorem d_D_cut_132 : decode b_D_cut 132 = .ok (.aload_n 0, 1) := by decide +kernel
theorem d_D_cut_133 : decode b_D_cut 133 = .ok (.getfield 28, 3) := by decide +kernel
theorem d_D_cut_136 : decode b_D_cut 136 = .ok (.iload 7, 2) := by decide +kernel
theorem d_D_cut_138 : decode b_D_cut 138 = .ok (.baload, 1) := by decide +kernel
theorem d_D_cut_139 : decode b_D_cut 139 = .ok (.ifCond .ne 39, 3) := by decide +kernel
theorem d_D_cut_142 : decode b_D_cut 142 = .ok (.aload_n 0, 1) := by decide +kernel
theorem d_D_cut_143 : decode b_D_cut 143 = .ok (.getfield 19, 3) := by decide +kernel
theorem d_D_cut_146 : decode b_D_cut 146 = .ok (.iload 7, 2) := by decide +kernel
theorem d_D_cut_148 : decode b_D_cut 148 = .ok (.bipush 12, 2) := by decide +kernel
theorem d_D_cut_150 : decode b_D_cut 150 = .ok (.imul, 1) := by decide +kernel
theorem d_D_cut_151 : decode b_D_cut 151 = .ok (.iload 6, 2) := by decide +kernel
theorem d_D_cut_153 : decode b_D_cut 153 = .ok (.iadd, 1) := by decide +kernel
theorem d_D_cut_154 : decode b_D_cut 154 = .ok (.iaload, 1) := by decide +kernel
theorem d_D_cut_155 : decode b_D_cut 155 = .ok (.ifCond .le 23, 3) := by decide +kernel
theorem d_D_cut_158 : decode b_D_cut 158 = .ok (.aload_n 0, 1) := by decide +kernel
theorem d_D_cut_159 : decode b_D_cut 159 = .ok (.getfield 28, 3) := by decide +kernel
theorem d_D_cut_162 : decode b_D_cut 162 = .ok (.iload 7, 2) := by decide +kernel
theorem d_D_cut_164 : decode b_D_cut 164 = .ok (.iconst 1, 1) := by decide +kernel
theorem d_D_cut_165 : decode b_D_cut 165 = .ok (.bastore, 1) := by decide +kernel
theorem d_D_cut_166 : decode b_D_cut 166 = .ok (.aload_n 0, 1) := by decide +kernel
theorem d_D_cut_167 : decode b_D_cut 167 = .ok (.getfield 25, 3) := by decide +kernel
theorem d_D_cut_170 : decode b_D_cut 170 = .ok (.iload 4, 2) := by decide +kernel
theorem d_D_cut_172 : decode b_D_cut 172 = .ok (.iload 7, 2) := by decide +kernel
theorem d_D_cut_174 : decode b_D_cut 174 = .ok (.iastore, 1) := by decide +kernel
theorem d_D_cut_175 : decode b_D_cut 175 = .ok (.iinc 4 1, 3) := by decide +kernel
theorem d_D_cut_178 : decode b_D_cut 178 = .ok (.iinc 7 1, 3) := by decide +kernel
theorem d_D_cut_181 : decode b_D_cut 181 = .ok (.goto (-65), 3) := by decide +kernel
theorem d_D_cut_184 : decode b_D_cut 184 = .ok (.iinc 5 1, 3) := by decide +kernel
theorem d_D_cut_187 : decode b_D_cut 187 = .ok (.goto (-97), 3) := by decide +kernel
theorem d_D_cut_190 : decode b_D_cut 190 = .ok (.aload_n 0, 1) := by decide +kernel
theorem d_D_cut_191 : decode b_D_cut 191 = .ok (.iconst 0, 1) := by decide +kernel
theorem d_D_cut_192 : decode b_D_cut 192 = .ok (.putfield 56, 3) := by decide +kernel
theorem d_D_cut_195 : decode b_D_cut 195 = .ok (.iconst 0, 1) := by decide +kernel
theorem d_D_cut_196 : decode b_D_cut 196 = .ok (.istore 5, 2) := by decide +kernel
theorem d_D_cut_198 : decode b_D_cut 198 = .ok (.iload 5, 2) := by decide +kernel
theorem d_D_cut_200 : decode b_D_cut 200 = .ok (.aload_n 0, 1) := by decide +kernel
theorem d_D_cut_201 : decode b_D_cut 201 = .ok (.getfield 32, 3) := by decide +kernel
theorem d_D_cut_204 : decode b_D_cut 204 = .ok (.if_icmp .ge 32, 3) := by decide +kernel
theorem d_D_cut_207 : decode b_D_cut 207 = .ok (.aload_n 0, 1) := by decide +kernel
theorem d_D_cut_208 : decode b_D_cut 208 = .ok (.getfield 28, 3) := by decide +kernel
theorem d_D_cut_211 : decode b_D_cut 211 = .ok (.iload 5, 2) := by decide +kernel
theorem d_D_cut_213 : decode b_D_cut 213 = .ok (.baload, 1) := by decide +kernel
theorem d_D_cut_214 : decode b_D_cut 214 = .ok (.ifCond .ne 16, 3) := by decide +kernel
theorem d_D_cut_217 : decode b_D_cut 217 = .ok (.aload_n 0, 1) := by decide +kernel
theorem d_D_cut_218 : decode b_D_cut 218 = .ok (.dup, 1) := by decide +kernel
theorem d_D_cut_219 : decode b_D_cut 219 = .ok (.getfield 56, 3) := by decide +kernel
theorem d_D_cut_222 : decode b_D_cut 222 = .ok (.iconst 1, 1) := by decide +kernel
theorem d_D_cut_223 : decode b_D_cut 223 = .ok (.iload 5, 2) := by decide +kernel
theorem d_D_cut_225 : decode b_D_cut 225 = .ok (.ishl, 1) := by decide +kernel
theorem d_D_cut_226 : decode b_D_cut 226 = .ok (.ior, 1) := by decide +kernel
theorem d_D_cut_227 : decode b_D_cut 227 = .ok (.putfield 56, 3) := by decide +kernel
theorem d_D_cut_230 : decode b_D_cut 230 = .ok (.iinc 5 1, 3) := by decide +kernel
theorem d_D_cut_233 : decode b_D_cut 233 = .ok (.goto (-35), 3) := by decide +kernel
theorem d_D_cut_236 : decode b_D_cut 236 = .ok (.return_, 1) := by decide +kernel
theorem d_D_valueOf_0 : decode b_D_valueOf 0 = .ok (.aload_n 0, 1) := by decide +kernel
theorem d_D_valueOf_1 : decode b_D_valueOf 1 = .ok (.iload_n 1, 1) := by decide +kernel
theorem d_D_valueOf_2 : decode b_D_valueOf 2 = .ok (.invokevirtual 59, 3) := by decide +kernel
theorem d_D_valueOf_5 : decode b_D_valueOf 5 = .ok (.istore 4, 2) := by decide +kernel
theorem d_D_valueOf_7 : decode b_D_valueOf 7 = .ok (.iload_n 1, 1) := by decide +kernel
theorem d_D_valueOf_8 : decode b_D_valueOf 8 = .ok (.invokestatic 63, 3) := by decide +kernel
theorem d_D_valueOf_11 : decode b_D_valueOf 11 = .ok (.istore 5, 2) := by decide +kernel
theorem d_D_valueOf_13 : decode b_D_valueOf 13 = .ok (.iload_n 2, 1) := by decide +kernel
theorem d_D_valueOf_14 : decode b_D_valueOf 14 = .ok (.iload 4, 2) := by decide +kernel
theorem d_D_valueOf_16 : decode b_D_valueOf 16 = .ok (.imul, 1) := by decide +kernel
theorem d_D_valueOf_17 : decode b_D_valueOf 17 = .ok (.iload_n 3, 1) := by decide +kernel
theorem d_D_valueOf_18 : decode b_D_valueOf 18 = .ok (.iload 5, 2) := by decide +kernel
theorem d_D_valueOf_20 : decode b_D_valueOf 20 = .ok (.imul, 1) := by decide +kernel
theorem d_D_valueOf_21 : decode b_D_valueOf 21 = .ok (.isub, 1) := by decide +kernel
theorem d_D_valueOf_22 : decode b_D_valueOf 22 = .ok (.ireturn, 1) := by decide +kernel
theorem d_D_gcd_0 : decode b_D_gcd 0 = .ok (.iload_n 0, 1) := by decide +kernel
theorem d_D_gcd_1 : decode b_D_gcd 1 = .ok (.istore_n 2, 1) := by decide +kernel
theorem d_D_gcd_2 : decode b_D_gcd 2 = .ok (.iload_n 1, 1) := by decide +kernel
theorem d_D_gcd_3 : decode b_D_gcd 3 = .ok (.istore_n 3, 1) := by decide +kernel
theorem d_D_gcd_4 : decode b_D_gcd 4 = .ok (.iconst 0, 1) := by decide +kernel
theorem d_D_gcd_5 : decode b_D_gcd 5 = .ok (.istore 4, 2) := by decide +kernel
theorem d_D_gcd_7 : decode b_D_gcd 7 = .ok (.iload 4, 2) := by decide +kernel
theorem d_D_gcd_9 : decode b_D_gcd 9 = .ok (.bipush 40, 2) := by decide +kernel
theorem d_D_gcd_11 : decode b_D_gcd 11 = .ok (.if_icmp .ge 23, 3) := by decide +kernel
theorem d_D_gcd_14 : decode b_D_gcd 14 = .ok (.iload_n 3, 1) := by decide +kernel
theorem d_D_gcd_15 : decode b_D_gcd 15 = .ok (.ifCond .le 19, 3) := by decide +kernel
theorem d_D_gcd_18 : decode b_D_gcd 18 = .ok (.iload_n 2, 1) := by decide +kernel
theorem d_D_gcd_19 : decode b_D_gcd 19 = .ok (.iload_n 3, 1) := by decide +kernel
theorem d_D_gcd_20 : decode b_D_gcd 20 = .ok (.irem, 1) := by decide +kernel
theorem d_D_gcd_21 : decode b_D_gcd 21 = .ok (.istore 5, 2) := by decide +kernel
theorem d_D_gcd_23 : decode b_D_gcd 23 = .ok (.iload_n 3, 1) := by decide +kernel
theorem d_D_gcd_24 : decode b_D_gcd 24 = .ok (.istore_n 2, 1) := by decide +kernel
theorem d_D_gcd_25 : decode b_D_gcd 25 = .ok (.iload 5, 2) := by decide +kernel
theorem d_D_gcd_27 : decode b_D_gcd 27 = .ok (.istore_n 3, 1) := by decide +kernel
theorem d_D_gcd_28 : decode b_D_gcd 28 = .ok (.iinc 4 1, 3) := by decide +kernel
theorem d_D_gcd_31 : decode b_D_gcd 31 = .ok (.goto (-24), 3) := by decide +kernel
theorem d_D_gcd_34 : decode b_D_gcd 34 = .ok (.iload_n 2, 1) := by decide +kernel
theorem d_D_gcd_35 : decode b_D_gcd 35 = .ok (.ireturn, 1) := by decide +kernel
theorem d_D_take_0 : decode b_D_take 0 = .ok (.aload_n 0, 1) := by decide +kernel
theorem d_D_take_1 : decode b_D_take 1 = .ok (.iload_n 1, 1) := by decide +kernel
theorem d_D_take_2 : decode b_D_take 2 = .ok (.invokevirtual 59, 3) := by decide +kernel
theorem d_D_take_5 : decode b_D_take 5 = .ok (.istore_n 2, 1) := by decide +kernel
theorem d_D_take_6 : decode b_D_take 6 = .ok (.iload_n 1, 1) := by decide +kernel
theorem d_D_take_7 : decode b_D_take 7 = .ok (.invokestatic 63, 3) := by decide +kernel
theorem d_D_take_10 : decode b_D_take 10 = .ok (.istore_n 3, 1) := by decide +kernel
theorem d_D_take_11 : decode b_D_take 11 = .ok (.iload_n 2, 1) := by decide +kernel
theorem d_D_take_12 : decode b_D_take 12 = .ok (.iload_n 3, 1) := by decide +kernel
theorem d_D_take_13 : decode b_D_take 13 = .ok (.invokestatic 66, 3) := by decide +kernel
theorem d_D_take_16 : decode b_D_take 16 = .ok (.istore 4, 2) := by decide +kernel
theorem d_D_take_18 : decode b_D_take 18 = .ok (.aload_n 0, 1) := by decide +kernel
theorem d_D_take_19 : decode b_D_take 19 = .ok (.iload_n 2, 1) := by decide +kernel
theorem d_D_take_20 : decode b_D_take 20 = .ok (.putfield 70, 3) := by decide +kernel
theorem d_D_take_23 : decode b_D_take 23 = .ok (.aload_n 0, 1) := by decide +kernel
theorem d_D_take_24 : decode b_D_take 24 = .ok (.iload_n 3, 1) := by decide +kernel
theorem d_D_take_25 : decode b_D_take 25 = .ok (.putfield 73, 3) := by decide +kernel
theorem d_D_take_28 : decode b_D_take 28 = .ok (.iload 4, 2) := by decide +kernel
theorem d_D_take_30 : decode b_D_take 30 = .ok (.iconst 1, 1) := by decide +kernel
theorem d_D_take_31 : decode b_D_take 31 = .ok (.if_icmp .le 19, 3) := by decide +kernel
theorem d_D_take_34 : decode b_D_take 34 = .ok (.aload_n 0, 1) := by decide +kernel
theorem d_D_take_35 : decode b_D_take 35 = .ok (.iload_n 2, 1) := by decide +kernel
theorem d_D_take_36 : decode b_D_take 36 = .ok (.iload 4, 2) := by decide +kernel
theorem d_D_take_38 : decode b_D_take 38 = .ok (.idiv, 1) := by decide +kernel
theorem d_D_take_39 : decode b_D_take 39 = .ok (.putfield 70, 3) := by decide +kernel
theorem d_D_take_42 : decode b_D_take 42 = .ok (.aload_n 0, 1) := by decide +kernel
theorem d_D_take_43 : decode b_D_take 43 = .ok (.iload_n 3, 1) := by decide +kernel
theorem d_D_take_44 : decode b_D_take 44 = .ok (.iload 4, 2) := by decide +kernel
theorem d_D_take_46 : decode b_D_take 46 = .ok (.idiv, 1) := by decide +kernel
theorem d_D_take_47 : decode b_D_take 47 = .ok (.putfield 73, 3) := by decide +kernel
theorem d_D_take_50 : decode b_D_take 50 = .ok (.aload_n 0, 1) := by decide +kernel
theorem d_D_take_51 : decode b_D_take 51 = .ok (.iload_n 1, 1) := by decide +kernel
theorem d_D_take_52 : decode b_D_take 52 = .ok (.putfield 76, 3) := by decide +kernel
theorem d_D_take_55 : decode b_D_take 55 = .ok (.return_, 1) := by decide +kernel
theorem d_D_solve_0 : decode b_D_solve 0 = .ok (.iconst 0, 1) := by decide +kernel
theorem d_D_solve_1 : decode b_D_solve 1 = .ok (.istore_n 1, 1) := by decide +kernel
theorem d_D_solve_2 : decode b_D_solve 2 = .ok (.iconst 0, 1) := by decide +kernel
theorem d_D_solve_3 : decode b_D_solve 3 = .ok (.istore_n 2, 1) := by decide +kernel
theorem d_D_solve_4 : decode b_D_solve 4 = .ok (.iload_n 2, 1) := by decide +kernel
theorem d_D_solve_5 : decode b_D_solve 5 = .ok (.aload_n 0, 1) := by decide +kernel
theorem d_D_solve_6 : decode b_D_solve 6 = .ok (.getfield 32, 3) := by decide +kernel
theorem d_D_solve_9 : decode b_D_solve 9 = .ok (.if_icmp .ge 25, 3) := by decide +kernel
theorem d_D_solve_12 : decode b_D_solve 12 = .ok (.aload_n 0, 1) := by decide +kernel
theorem d_D_solve_13 : decode b_D_solve 13 = .ok (.getfield 16, 3) := by decide +kernel
theorem d_D_solve_16 : decode b_D_solve 16 = .ok (.iload_n 2, 1) := by decide +kernel
theorem d_D_solve_17 : decode b_D_solve 17 = .ok (.iaload, 1) := by decide +kernel
theorem d_D_solve_18 : decode b_D_solve 18 = .ok (.iconst 2, 1) := by decide +kernel
theorem d_D_solve_19 : decode b_D_solve 19 = .ok (.if_icmp .eq 9, 3) := by decide +kernel
theorem d_D_solve_22 : decode b_D_solve 22 = .ok (.iload_n 1, 1) := by decide +kernel
theorem d_D_solve_23 : decode b_D_solve 23 = .ok (.iconst 1, 1) := by decide +kernel
theorem d_D_solve_24 : decode b_D_solve 24 = .ok (.iload_n 2, 1) := by decide +kernel
theorem d_D_solve_25 : decode b_D_solve 25 = .ok (.ishl, 1) := by decide +kernel
theorem d_D_solve_26 : decode b_D_solve 26 = .ok (.ior, 1) := by decide +kernel
theorem d_D_solve_27 : decode b_D_solve 27 = .ok (.istore_n 1, 1) := by decide +kernel
theorem d_D_solve_28 : decode b_D_solve 28 = .ok (.iinc 2 1, 3) := by decide +kernel
theorem d_D_solve_31 : decode b_D_solve 31 = .ok (.goto (-27), 3) := by decide +kernel
theorem d_D_solve_34 : decode b_D_solve 34 = .ok (.iload_n 1, 1) := by decide +kernel
theorem d_D_solve_35 : decode b_D_solve 35 = .ok (.ifCond .ne 5, 3) := by decide +kernel
theorem d_D_solve_38 : decode b_D_solve 38 = .ok (.iconst 0, 1) := by decide +kernel
theorem d_D_solve_39 : decode b_D_solve 39 = .ok (.ireturn, 1) := by decide +kernel
theorem d_D_solve_40 : decode b_D_solve 40 = .ok (.aload_n 0, 1) := by decide +kernel
theorem d_D_solve_41 : decode b_D_solve 41 = .ok (.iload_n 1, 1) := by decide +kernel
theorem d_D_solve_42 : decode b_D_solve 42 = .ok (.invokevirtual 79, 3) := by decide +kernel
theorem d_D_solve_45 : decode b_D_solve 45 = .ok (.iconst 1, 1) := by decide +kernel
theorem d_D_solve_46 : decode b_D_solve 46 = .ok (.istore_n 2, 1) := by decide +kernel
theorem d_D_solve_47 : decode b_D_solve 47 = .ok (.iconst 0, 1) := by decide +kernel
theorem d_D_solve_48 : decode b_D_solve 48 = .ok (.istore_n 3, 1) := by decide +kernel
theorem d_D_solve_49 : decode b_D_solve 49 = .ok (.iload_n 3, 1) := by decide +kernel
theorem d_D_solve_50 : decode b_D_solve 50 = .ok (.bipush 64, 2) := by decide +kernel
theorem d_D_solve_52 : decode b_D_solve 52 = .ok (.if_icmp .ge 77, 3) := by decide +kernel
theorem d_D_solve_55 : decode b_D_solve 55 = .ok (.iload_n 2, 1) := by decide +kernel
theorem d_D_solve_56 : decode b_D_solve 56 = .ok (.ifCond .eq 73, 3) := by decide +kernel
theorem d_D_solve_59 : decode b_D_solve 59 = .ok (.aload_n 0, 1) := by decide +kernel
theorem d_D_solve_60 : decode b_D_solve 60 = .ok (.aload_n 0, 1) := by decide +kernel
theorem d_D_solve_61 : decode b_D_solve 61 = .ok (.getfield 73, 3) := by decide +kernel
theorem d_D_solve_64 : decode b_D_solve 64 = .ok (.aload_n 0, 1) := by decide +kernel
theorem d_D_solve_65 : decode b_D_solve 65 = .ok (.getfield 70, 3) := by decide +kernel
theorem d_D_solve_68 : decode b_D_solve 68 = .ok (.invokevirtual 83, 3) := by decide +kernel
theorem d_D_solve_71 : decode b_D_solve 71 = .ok (.aload_n 0, 1) := by decide +kernel
theorem d_D_solve_72 : decode b_D_solve 72 = .ok (.aload_n 0, 1) := by decide +kernel
theorem d_D_solve_73 : decode b_D_solve 73 = .ok (.getfield 56, 3) := by decide +kernel
theorem d_D_solve_76 : decode b_D_solve 76 = .ok (.aload_n 0, 1) := by decide +kernel
theorem d_D_solve_77 : decode b_D_solve 77 = .ok (.getfield 73, 3) := by decide +kernel
theorem d_D_solve_80 : decode b_D_solve 80 = .ok (.aload_n 0, 1) := by decide +kernel
theorem d_D_solve_81 : decode b_D_solve 81 = .ok (.getfield 70, 3) := by decide +kernel
theorem d_D_solve_84 : decode b_D_solve 84 = .ok (.invokevirtual 86, 3) := by decide +kernel
theorem d_D_solve_87 : decode b_D_solve 87 = .ok (.istore 4, 2) := by decide +kernel
theorem d_D_solve_89 : decode b_D_solve 89 = .ok (.iload 4, 2) := by decide +kernel
theorem d_D_solve_91 : decode b_D_solve 91 = .ok (.ifCond .le 7, 3) := by decide +kernel
theorem d_D_solve_94 : decode b_D_solve 94 = .ok (.iconst 1, 1) := by decide +kernel
theorem d_D_solve_95 : decode b_D_solve 95 = .ok (.goto 4, 3) := by decide +kernel
theorem d_D_solve_98 : decode b_D_solve 98 = .ok (.iconst 0, 1) := by decide +kernel
theorem d_D_solve_99 : decode b_D_solve 99 = .ok (.istore_n 2, 1) := by decide +kernel
theorem d_D_solve_100 : decode b_D_solve 100 = .ok (.iload_n 2, 1) := by decide +kernel
theorem d_D_solve_101 : decode b_D_solve 101 = .ok (.ifCond .eq 14, 3) := by decide +kernel
theorem d_D_solve_104 : decode b_D_solve 104 = .ok (.aload_n 0, 1) := by decide +kernel
theorem d_D_solve_105 : decode b_D_solve 105 = .ok (.aload_n 0, 1) := by decide +kernel
theorem d_D_solve_106 : decode b_D_solve 106 = .ok (.getfield 56, 3) := by decide +kernel
theorem d_D_solve_109 : decode b_D_solve 109 = .ok (.invokevirtual 79, 3) := by decide +kernel
theorem d_D_solve_112 : decode b_D_solve 112 = .ok (.goto 11, 3) := by decide +kernel
theorem d_D_solve_115 : decode b_D_solve 115 = .ok (.aload_n 0, 1) := by decide +kernel
theorem d_D_solve_116 : decode b_D_solve 116 = .ok (.aload_n 0, 1) := by decide +kernel
theorem d_D_solve_117 : decode b_D_solve 117 = .ok (.getfield 56, 3) := by decide +kernel
theorem d_D_solve_120 : decode b_D_solve 120 = .ok (.putfield 76, 3) := by decide +kernel
theorem d_D_solve_123 : decode b_D_solve 123 = .ok (.iinc 3 1, 3) := by decide +kernel
theorem d_D_solve_126 : decode b_D_solve 126 = .ok (.goto (-77), 3) := by decide +kernel
theorem d_D_solve_129 : decode b_D_solve 129 = .ok (.iconst 1, 1) := by decide +kernel
theorem d_D_solve_130 : decode b_D_solve 130 = .ok (.ireturn, 1) := by decide +kernel
theorem d_D_dTop_0 : decode b_D_dTop 0 = .ok (.aload_n 0, 1) := by decide +kernel
theorem d_D_dTop_1 : decode b_D_dTop 1 = .ok (.invokevirtual 90, 3) := by decide +kernel
theorem d_D_dTop_4 : decode b_D_dTop 4 = .ok (.istore_n 1, 1) := by decide +kernel
theorem d_D_dTop_5 : decode b_D_dTop 5 = .ok (.iload_n 1, 1) := by decide +kernel
theorem d_D_dTop_6 : decode b_D_dTop 6 = .ok (.ifCond .eq 10, 3) := by decide +kernel
theorem d_D_dTop_9 : decode b_D_dTop 9 = .ok (.aload_n 0, 1) := by decide +kernel
theorem d_D_dTop_10 : decode b_D_dTop 10 = .ok (.getfield 70, 3) := by decide +kernel
theorem d_D_dTop_13 : decode b_D_dTop 13 = .ok (.goto 5, 3) := by decide +kernel
theorem d_D_dTop_16 : decode b_D_dTop 16 = .ok (.bipush (-5), 2) := by decide +kernel
theorem d_D_dTop_18 : decode b_D_dTop 18 = .ok (.ireturn, 1) := by decide +kernel
theorem d_D_dBot_0 : decode b_D_dBot 0 = .ok (.aload_n 0, 1) := by decide +kernel
theorem d_D_dBot_1 : decode b_D_dBot 1 = .ok (.invokevirtual 90, 3) := by decide +kernel
theorem d_D_dBot_4 : decode b_D_dBot 4 = .ok (.istore_n 1, 1) := by decide +kernel
theorem d_D_dBot_5 : decode b_D_dBot 5 = .ok (.iload_n 1, 1) := by decide +kernel
theorem d_D_dBot_6 : decode b_D_dBot 6 = .ok (.ifCond .eq 10, 3) := by decide +kernel
theorem d_D_dBot_9 : decode b_D_dBot 9 = .ok (.aload_n 0, 1) := by decide +kernel
theorem d_D_dBot_10 : decode b_D_dBot 10 = .ok (.getfield 73, 3) := by decide +kernel
theorem d_D_dBot_13 : decode b_D_dBot 13 = .ok (.goto 5, 3) := by decide +kernel
theorem d_D_dBot_16 : decode b_D_dBot 16 = .ok (.bipush (-5), 2) := by decide +kernel
theorem d_D_dBot_18 : decode b_D_dBot 18 = .ok (.ireturn, 1) := by decide +kernel
theorem d_D_densest_0 : decode b_D_densest 0 = .ok (.aload_n 0, 1) := by decide +kernel
theorem d_D_densest_1 : decode b_D_densest 1 = .ok (.invokevirtual 90, 3) := by decide +kernel
theorem d_D_densest_4 : decode b_D_densest 4 = .ok (.istore_n 1, 1) := by decide +kernel
theorem d_D_densest_5 : decode b_D_densest 5 = .ok (.iload_n 1, 1) := by decide +kernel
theorem d_D_densest_6 : decode b_D_densest 6 = .ok (.ifCond .eq 10, 3) := by decide +kernel
theorem d_D_densest_9 : decode b_D_densest 9 = .ok (.aload_n 0, 1) := by decide +kernel
theorem d_D_densest_10 : decode b_D_densest 10 = .ok (.getfield 76, 3) := by decide +kernel
theorem d_D_densest_13 : decode b_D_densest 13 = .ok (.goto 4, 3) := by decide +kernel
theorem d_D_densest_16 : decode b_D_densest 16 = .ok (.iconst 0, 1) := by decide +kernel
theorem d_D_densest_17 : decode b_D_densest 17 = .ok (.ireturn, 1) := by decide +kernel
theorem d_D_badPrice_0 : decode b_D_badPrice 0 = .ok (.iload_n 0, 1) := by decide +kernel
theorem d_D_badPrice_1 : decode b_D_badPrice 1 = .ok (.iconst 1, 1) := by decide +kernel
theorem d_D_badPrice_2 : decode b_D_badPrice 2 = .ok (.if_icmp .lt 20, 3) := by decide +kernel
theorem d_D_badPrice_5 : decode b_D_badPrice 5 = .ok (.iload_n 0, 1) := by decide +kernel
theorem d_D_badPrice_6 : decode b_D_badPrice 6 = .ok (.bipush 20, 2) := by decide +kernel
theorem d_D_badPrice_8 : decode b_D_badPrice 8 = .ok (.if_icmp .gt 14, 3) := by decide +kernel
theorem d_D_badPrice_11 : decode b_D_badPrice 11 = .ok (.iload_n 1, 1) := by decide +kernel
theorem d_D_badPrice_12 : decode b_D_badPrice 12 = .ok (.ifCond .lt 10, 3) := by decide +kernel
theorem d_D_badPrice_15 : decode b_D_badPrice 15 = .ok (.iload_n 1, 1) := by decide +kernel
theorem d_D_badPrice_16 : decode b_D_badPrice 16 = .ok (.sipush 2000, 3) := by decide +kernel
theorem d_D_badPrice_19 : decode b_D_badPrice 19 = .ok (.if_icmp .le 7, 3) := by decide +kernel
theorem d_D_badPrice_22 : decode b_D_badPrice 22 = .ok (.iconst 1, 1) := by decide +kernel
theorem d_D_badPrice_23 : decode b_D_badPrice 23 = .ok (.goto 4, 3) := by decide +kernel
theorem d_D_badPrice_26 : decode b_D_badPrice 26 = .ok (.iconst 0, 1) := by decide +kernel
theorem d_D_badPrice_27 : decode b_D_badPrice 27 = .ok (.ireturn, 1) := by decide +kernel
theorem d_D_excess_0 : decode b_D_excess 0 = .ok (.iload_n 1, 1) := by decide +kernel
theorem d_D_excess_1 : decode b_D_excess 1 = .ok (.iload_n 2, 1) := by decide +kernel
theorem d_D_excess_2 : decode b_D_excess 2 = .ok (.invokestatic 93, 3) := by decide +kernel
theorem d_D_excess_5 : decode b_D_excess 5 = .ok (.ifCond .eq 6, 3) := by decide +kernel
theorem d_D_excess_8 : decode b_D_excess 8 = .ok (.bipush (-4), 2) := by decide +kernel
theorem d_D_excess_10 : decode b_D_excess 10 = .ok (.ireturn, 1) := by decide +kernel
theorem d_D_excess_11 : decode b_D_excess 11 = .ok (.aload_n 0, 1) := by decide +kernel
theorem d_D_excess_12 : decode b_D_excess 12 = .ok (.iload_n 1, 1) := by decide +kernel
theorem d_D_excess_13 : decode b_D_excess 13 = .ok (.iload_n 2, 1) := by decide +kernel
theorem d_D_excess_14 : decode b_D_excess 14 = .ok (.invokevirtual 83, 3) := by decide +kernel
theorem d_D_excess_17 : decode b_D_excess 17 = .ok (.aload_n 0, 1) := by decide +kernel
theorem d_D_excess_18 : decode b_D_excess 18 = .ok (.aload_n 0, 1) := by decide +kernel
theorem d_D_excess_19 : decode b_D_excess 19 = .ok (.getfield 56, 3) := by decide +kernel
theorem d_D_excess_22 : decode b_D_excess 22 = .ok (.iload_n 1, 1) := by decide +kernel
theorem d_D_excess_23 : decode b_D_excess 23 = .ok (.iload_n 2, 1) := by decide +kernel
theorem d_D_excess_24 : decode b_D_excess 24 = .ok (.invokevirtual 86, 3) := by decide +kernel
theorem d_D_excess_27 : decode b_D_excess 27 = .ok (.ireturn, 1) := by decide +kernel
theorem d_D_exSet_0 : decode b_D_exSet 0 = .ok (.iload_n 1, 1) := by decide +kernel
theorem d_D_exSet_1 : decode b_D_exSet 1 = .ok (.iload_n 2, 1) := by decide +kernel
theorem d_D_exSet_2 : decode b_D_exSet 2 = .ok (.invokestatic 93, 3) := by decide +kernel
theorem d_D_exSet_5 : decode b_D_exSet 5 = .ok (.ifCond .eq 5, 3) := by decide +kernel
theorem d_D_exSet_8 : decode b_D_exSet 8 = .ok (.iconst 0, 1) := by decide +kernel
theorem d_D_exSet_9 : decode b_D_exSet 9 = .ok (.ireturn, 1) := by decide +kernel
theorem d_D_exSet_10 : decode b_D_exSet 10 = .ok (.aload_n 0, 1) := by decide +kernel
theorem d_D_exSet_11 : decode b_D_exSet 11 = .ok (.iload_n 1, 1) := by decide +kernel
theorem d_D_exSet_12 : decode b_D_exSet 12 = .ok (.iload_n 2, 1) := by decide +kernel
theorem d_D_exSet_13 : decode b_D_exSet 13 = .ok (.invokevirtual 83, 3) := by decide +kernel
theorem d_D_exSet_16 : decode b_D_exSet 16 = .ok (.aload_n 0, 1) := by decide +kernel
theorem d_D_exSet_17 : decode b_D_exSet 17 = .ok (.getfield 56, 3) := by decide +kernel
theorem d_D_exSet_20 : decode b_D_exSet 20 = .ok (.ireturn, 1) := by decide +kernel
end
section
theorem d_M_init_0 : decode b_M_init 0 = .ok (.aload_n 0, 1) := by decide +kernel
theorem d_M_init_1 : decode b_M_init 1 = .ok (.invokespecial 1, 3) := by decide +kernel
theorem d_M_init_4 : decode b_M_init 4 = .ok (.aload_n 0, 1) := by decide +kernel
theorem d_M_init_5 : decode b_M_init 5 = .ok (.bipush 100, 2) := by decide +kernel
theorem d_M_init_7 : decode b_M_init 7 = .ok (.newarray .int, 2) := by decide +kernel
theorem d_M_init_9 : decode b_M_init 9 = .ok (.putfield 7, 3) := by decide +kernel
theorem d_M_init_12 : decode b_M_init 12 = .ok (.aload_n 0, 1) := by decide +kernel
theorem d_M_init_13 : decode b_M_init 13 = .ok (.bipush 10, 2) := by decide +kernel
theorem d_M_init_15 : decode b_M_init 15 = .ok (.newarray .int, 2) := by decide +kernel
theorem d_M_init_17 : decode b_M_init 17 = .ok (.putfield 13, 3) := by decide +kernel
theorem d_M_init_20 : decode b_M_init 20 = .ok (.iload_n 1, 1) := by decide +kernel
theorem d_M_init_21 : decode b_M_init 21 = .ok (.istore_n 2, 1) := by decide +kernel
theorem d_M_init_22 : decode b_M_init 22 = .ok (.iload_n 2, 1) := by decide +kernel
theorem d_M_init_23 : decode b_M_init 23 = .ok (.iconst 1, 1) := by decide +kernel
theorem d_M_init_24 : decode b_M_init 24 = .ok (.if_icmp .ge 5, 3) := by decide +kernel
theorem d_M_init_27 : decode b_M_init 27 = .ok (.iconst 1, 1) := by decide +kernel
theorem d_M_init_28 : decode b_M_init 28 = .ok (.istore_n 2, 1) := by decide +kernel
theorem d_M_init_29 : decode b_M_init 29 = .ok (.iload_n 2, 1) := by decide +kernel
theorem d_M_init_30 : decode b_M_init 30 = .ok (.bipush 10, 2) := by decide +kernel
theorem d_M_init_32 : decode b_M_init 32 = .ok (.if_icmp .le 6, 3) := by decide +kernel
theorem d_M_init_35 : decode b_M_init 35 = .ok (.bipush 10, 2) := by decide +kernel
theorem d_M_init_37 : decode b_M_init 37 = .ok (.istore_n 2, 1) := by decide +kernel
theorem d_M_init_38 : decode b_M_init 38 = .ok (.aload_n 0, 1) := by decide +kernel
theorem d_M_init_39 : decode b_M_init 39 = .ok (.iload_n 2, 1) := by decide +kernel
theorem d_M_init_40 : decode b_M_init 40 = .ok (.putfield 16, 3) := by decide +kernel
theorem d_M_init_43 : decode b_M_init 43 = .ok (.return_, 1) := by decide +kernel
theorem d_M_bad_0 : decode b_M_bad 0 = .ok (.iload_n 1, 1) := by decide +kernel
theorem d_M_bad_1 : decode b_M_bad 1 = .ok (.ifCond .lt 11, 3) := by decide +kernel
theorem d_M_bad_4 : decode b_M_bad 4 = .ok (.iload_n 1, 1) := by decide +kernel
theorem d_M_bad_5 : decode b_M_bad 5 = .ok (.aload_n 0, 1) := by decide +kernel
theorem d_M_bad_6 : decode b_M_bad 6 = .ok (.getfield 16, 3) := by decide +kernel
theorem d_M_bad_9 : decode b_M_bad 9 = .ok (.if_icmp .lt 7, 3) := by decide +kernel
theorem d_M_bad_12 : decode b_M_bad 12 = .ok (.iconst 1, 1) := by decide +kernel
theorem d_M_bad_13 : decode b_M_bad 13 = .ok (.goto 4, 3) := by decide +kernel
theorem d_M_bad_16 : decode b_M_bad 16 = .ok (.iconst 0, 1) := by decide +kernel
theorem d_M_bad_17 : decode b_M_bad 17 = .ok (.ireturn, 1) := by decide +kernel
theorem d_M_edge_0 : decode b_M_edge 0 = .ok (.aload_n 0, 1) := by decide +kernel
theorem d_M_edge_1 : decode b_M_edge 1 = .ok (.iload_n 1, 1) := by decide +kernel
theorem d_M_edge_2 : decode b_M_edge 2 = .ok (.invokevirtual 20, 3) := by decide +kernel
theorem d_M_edge_5 : decode b_M_edge 5 = .ok (.ifCond .ne 16, 3) := by decide +kernel
theorem d_M_edge_8 : decode b_M_edge 8 = .ok (.aload_n 0, 1) := by decide +kernel
theorem d_M_edge_9 : decode b_M_edge 9 = .ok (.iload_n 2, 1) := by decide +kernel
theorem d_M_edge_10 : decode b_M_edge 10 = .ok (.invokevirtual 20, 3) := by decide +kernel
theorem d_M_edge_13 : decode b_M_edge 13 = .ok (.ifCond .ne 8, 3) := by decide +kernel
theorem d_M_edge_16 : decode b_M_edge 16 = .ok (.iload_n 1, 1) := by decide +kernel
theorem d_M_edge_17 : decode b_M_edge 17 = .ok (.iload_n 2, 1) := by decide +kernel
theorem d_M_edge_18 : decode b_M_edge 18 = .ok (.if_icmp .ne 5, 3) := by decide +kernel
theorem d_M_edge_21 : decode b_M_edge 21 = .ok (.iconst (-1), 1) := by decide +kernel
theorem d_M_edge_22 : decode b_M_edge 22 = .ok (.ireturn, 1) := by decide +kernel
theorem d_M_edge_23 : decode b_M_edge 23 = .ok (.iload_n 3, 1) := by decide +kernel
theorem d_M_edge_24 : decode b_M_edge 24 = .ok (.ifCond .lt 9, 3) := by decide +kernel
theorem d_M_edge_27 : decode b_M_edge 27 = .ok (.iload_n 3, 1) := by decide +kernel
theorem d_M_edge_28 : decode b_M_edge 28 = .ok (.bipush 20, 2) := by decide +kernel
theorem d_M_edge_30 : decode b_M_edge 30 = .ok (.if_icmp .le 6, 3) := by decide +kernel
theorem d_M_edge_33 : decode b_M_edge 33 = .ok (.bipush (-2), 2) := by decide +kernel
theorem d_M_edge_35 : decode b_M_edge 35 = .ok (.ireturn, 1) := by decide +kernel
theorem d_M_edge_36 : decode b_M_edge 36 = .ok (.aload_n 0, 1) := by decide +kernel
theorem d_M_edge_37 : decode b_M_edge 37 = .ok (.getfield 7, 3) := by decide +kernel
theorem d_M_edge_40 : decode b_M_edge 40 = .ok (.iload_n 1, 1) := by decide +kernel
theorem d_M_edge_41 : decode b_M_edge 41 = .ok (.bipush 10, 2) := by decide +kernel
theorem d_M_edge_43 : decode b_M_edge 43 = .ok (.imul, 1) := by decide +kernel
theorem d_M_edge_44 : decode b_M_edge 44 = .ok (.iload_n 2, 1) := by decide +kernel
theorem d_M_edge_45 : decode b_M_edge 45 = .ok (.iadd, 1) := by decide +kernel
theorem d_M_edge_46 : decode b_M_edge 46 = .ok (.iaload, 1) := by decide +kernel
theorem d_M_edge_47 : decode b_M_edge 47 = .ok (.istore 4, 2) := by decide +kernel
theorem d_M_edge_49 : decode b_M_edge 49 = .ok (.aload_n 0, 1) := by decide +kernel
theorem d_M_edge_50 : decode b_M_edge 50 = .ok (.getfield 7, 3) := by decide +kernel
theorem d_M_edge_53 : decode b_M_edge 53 = .ok (.iload_n 1, 1) := by decide +kernel
theorem d_M_edge_54 : decode b_M_edge 54 = .ok (.bipush 10, 2) := by decide +kernel
theorem d_M_edge_56 : decode b_M_edge 56 = .ok (.imul, 1) := by decide +kernel
theorem d_M_edge_57 : decode b_M_edge 57 = .ok (.iload_n 2, 1) := by decide +kernel
theorem d_M_edge_58 : decode b_M_edge 58 = .ok (.iadd, 1) := by decide +kernel
theorem d_M_edge_59 : decode b_M_edge 59 = .ok (.iload_n 3, 1) := by decide +kernel
theorem d_M_edge_60 : decode b_M_edge 60 = .ok (.iastore, 1) := by decide +kernel
theorem d_M_edge_61 : decode b_M_edge 61 = .ok (.aload_n 0, 1) := by decide +kernel
theorem d_M_edge_62 : decode b_M_edge 62 = .ok (.getfield 7, 3) := by decide +kernel
theorem d_M_edge_65 : decode b_M_edge 65 = .ok (.iload_n 2, 1) := by decide +kernel
theorem d_M_edge_66 : decode b_M_edge 66 = .ok (.bipush 10, 2) := by decide +kernel
theorem d_M_edge_68 : decode b_M_edge 68 = .ok (.imul, 1) := by decide +kernel
theorem d_M_edge_69 : decode b_M_edge 69 = .ok (.iload_n 1, 1) := by decide +kernel
theorem d_M_edge_70 : decode b_M_edge 70 = .ok (.iadd, 1) := by decide +kernel
theorem d_M_edge_71 : decode b_M_edge 71 = .ok (.iload_n 3, 1) := by decide +kernel
theorem d_M_edge_72 : decode b_M_edge 72 = .ok (.iastore, 1) := by decide +kernel
theorem d_M_edge_73 : decode b_M_edge 73 = .ok (.iload 4, 2) := by decide +kernel
theorem d_M_edge_75 : decode b_M_edge 75 = .ok (.ireturn, 1) := by decide +kernel
theorem d_M_bonus_0 : decode b_M_bonus 0 = .ok (.aload_n 0, 1) := by decide +kernel
theorem d_M_bonus_1 : decode b_M_bonus 1 = .ok (.iload_n 1, 1) := by decide +kernel
theorem d_M_bonus_2 : decode b_M_bonus 2 = .ok (.invokevirtual 20, 3) := by decide +kernel
theorem d_M_bonus_5 : decode b_M_bonus 5 = .ok (.ifCond .eq 5, 3) := by decide +kernel
theorem d_M_bonus_8 : decode b_M_bonus 8 = .ok (.iconst (-1), 1) := by decide +kernel
theorem d_M_bonus_9 : decode b_M_bonus 9 = .ok (.ireturn, 1) := by decide +kernel
theorem d_M_bonus_10 : decode b_M_bonus 10 = .ok (.iload_n 2, 1) := by decide +kernel
theorem d_M_bonus_11 : decode b_M_bonus 11 = .ok (.ifCond .lt 9, 3) := by decide +kernel
theorem d_M_bonus_14 : decode b_M_bonus 14 = .ok (.iload_n 2, 1) := by decide +kernel
theorem d_M_bonus_15 : decode b_M_bonus 15 = .ok (.bipush 20, 2) := by decide +kernel
theorem d_M_bonus_17 : decode b_M_bonus 17 = .ok (.if_icmp .le 6, 3) := by decide +kernel
theorem d_M_bonus_20 : decode b_M_bonus 20 = .ok (.bipush (-2), 2) := by decide +kernel
theorem d_M_bonus_22 : decode b_M_bonus 22 = .ok (.ireturn, 1) := by decide +kernel
theorem d_M_bonus_23 : decode b_M_bonus 23 = .ok (.aload_n 0, 1) := by decide +kernel
theorem d_M_bonus_24 : decode b_M_bonus 24 = .ok (.getfield 7, 3) := by decide +kernel
theorem d_M_bonus_27 : decode b_M_bonus 27 = .ok (.iload_n 1, 1) := by decide +kernel
theorem d_M_bonus_28 : decode b_M_bonus 28 = .ok (.bipush 10, 2) := by decide +kernel
theorem d_M_bonus_30 : decode b_M_bonus 30 = .ok (.imul, 1) := by decide +kernel
theorem d_M_bonus_31 : decode b_M_bonus 31 = .ok (.iload_n 1, 1) := by decide +kernel
theorem d_M_bonus_32 : decode b_M_bonus 32 = .ok (.iadd, 1) := by decide +kernel
theorem d_M_bonus_33 : decode b_M_bonus 33 = .ok (.iaload, 1) := by decide +kernel
theorem d_M_bonus_34 : decode b_M_bonus 34 = .ok (.istore_n 3, 1) := by decide +kernel
theorem d_M_bonus_35 : decode b_M_bonus 35 = .ok (.aload_n 0, 1) := by decide +kernel
theorem d_M_bonus_36 : decode b_M_bonus 36 = .ok (.getfield 7, 3) := by decide +kernel
theorem d_M_bonus_39 : decode b_M_bonus 39 = .ok (.iload_n 1, 1) := by decide +kernel
theorem d_M_bonus_40 : decode b_M_bonus 40 = .ok (.bipush 10, 2) := by decide +kernel
theorem d_M_bonus_42 : decode b_M_bonus 42 = .ok (.imul, 1) := by decide +kernel
theorem d_M_bonus_43 : decode b_M_bonus 43 = .ok (.iload_n 1, 1) := by decide +kernel
theorem d_M_bonus_44 : decode b_M_bonus 44 = .ok (.iadd, 1) := by decide +kernel
theorem d_M_bonus_45 : decode b_M_bonus 45 = .ok (.iload_n 2, 1) := by decide +kernel
theorem d_M_bonus_46 : decode b_M_bonus 46 = .ok (.iastore, 1) := by decide +kernel
theorem d_M_bonus_47 : decode b_M_bonus 47 = .ok (.iload_n 3, 1) := by decide +kernel
theorem d_M_bonus_48 : decode b_M_bonus 48 = .ok (.ireturn, 1) := by decide +kernel
theorem d_M_mode_0 : decode b_M_mode 0 = .ok (.aload_n 0, 1) := by decide +kernel
theorem d_M_mode_1 : decode b_M_mode 1 = .ok (.iload_n 1, 1) := by decide +kernel
theorem d_M_mode_2 : decode b_M_mode 2 = .ok (.invokevirtual 20, 3) := by decide +kernel
theorem d_M_mode_5 : decode b_M_mode 5 = .ok (.ifCond .eq 5, 3) := by decide +kernel
theorem d_M_mode_8 : decode b_M_mode 8 = .ok (.iconst (-1), 1) := by decide +kernel
theorem d_M_mode_9 : decode b_M_mode 9 = .ok (.ireturn, 1) := by decide +kernel
theorem d_M_mode_10 : decode b_M_mode 10 = .ok (.iload_n 2, 1) := by decide +kernel
theorem d_M_mode_11 : decode b_M_mode 11 = .ok (.ifCond .lt 8, 3) := by decide +kernel
theorem d_M_mode_14 : decode b_M_mode 14 = .ok (.iload_n 2, 1) := by decide +kernel
theorem d_M_mode_15 : decode b_M_mode 15 = .ok (.iconst 2, 1) := by decide +kernel
theorem d_M_mode_16 : decode b_M_mode 16 = .ok (.if_icmp .le 6, 3) := by decide +kernel
theorem d_M_mode_19 : decode b_M_mode 19 = .ok (.bipush (-3), 2) := by decide +kernel
theorem d_M_mode_21 : decode b_M_mode 21 = .ok (.ireturn, 1) := by decide +kernel
theorem d_M_mode_22 : decode b_M_mode 22 = .ok (.aload_n 0, 1) := by decide +kernel
theorem d_M_mode_23 : decode b_M_mode 23 = .ok (.getfield 13, 3) := by decide +kernel
theorem d_M_mode_26 : decode b_M_mode 26 = .ok (.iload_n 1, 1) := by decide +kernel
theorem d_M_mode_27 : decode b_M_mode 27 = .ok (.iaload, 1) := by decide +kernel
theorem d_M_mode_28 : decode b_M_mode 28 = .ok (.istore_n 3, 1) := by decide +kernel
theorem d_M_mode_29 : decode b_M_mode 29 = .ok (.aload_n 0, 1) := by decide +kernel
theorem d_M_mode_30 : decode b_M_mode 30 = .ok (.getfield 13, 3) := by decide +kernel
theorem d_M_mode_33 : decode b_M_mode 33 = .ok (.iload_n 1, 1) := by decide +kernel
theorem d_M_mode_34 : decode b_M_mode 34 = .ok (.iload_n 2, 1) := by decide +kernel
theorem d_M_mode_35 : decode b_M_mode 35 = .ok (.iastore, 1) := by decide +kernel
theorem d_M_mode_36 : decode b_M_mode 36 = .ok (.iload_n 3, 1) := by decide +kernel
theorem d_M_mode_37 : decode b_M_mode 37 = .ok (.ireturn, 1) := by decide +kernel
theorem d_M_weight_0 : decode b_M_weight 0 = .ok (.iconst 0, 1) := by decide +kernel
theorem d_M_weight_1 : decode b_M_weight 1 = .ok (.istore_n 2, 1) := by decide +kernel
theorem d_M_weight_2 : decode b_M_weight 2 = .ok (.iconst 0, 1) := by decide +kernel
theorem d_M_weight_3 : decode b_M_weight 3 = .ok (.istore_n 3, 1) := by decide +kernel
theorem d_M_weight_4 : decode b_M_weight 4 = .ok (.iload_n 3, 1) := by decide +kernel
theorem d_M_weight_5 : decode b_M_weight 5 = .ok (.aload_n 0, 1) := by decide +kernel
theorem d_M_weight_6 : decode b_M_weight 6 = .ok (.getfield 16, 3) := by decide +kernel
theorem d_M_weight_9 : decode b_M_weight 9 = .ok (.if_icmp .ge 58, 3) := by decide +kernel
theorem d_M_weight_12 : decode b_M_weight 12 = .ok (.iconst 0, 1) := by decide +kernel
theorem d_M_weight_13 : decode b_M_weight 13 = .ok (.istore 4, 2) := by decide +kernel
theorem d_M_weight_15 : decode b_M_weight 15 = .ok (.iload 4, 2) := by decide +kernel
theorem d_M_weight_17 : decode b_M_weight 17 = .ok (.iload_n 3, 1) := by decide +kernel
theorem d_M_weight_18 : decode b_M_weight 18 = .ok (.if_icmp .gt 43, 3) := by decide +kernel
theorem d_M_weight_21 : decode b_M_weight 21 = .ok (.iload_n 1, 1) := by decide +kernel
theorem d_M_weight_22 : decode b_M_weight 22 = .ok (.iload_n 3, 1) := by decide +kernel
theorem d_M_weight_23 : decode b_M_weight 23 = .ok (.ishr, 1) := by decide +kernel
theorem d_M_weight_24 : decode b_M_weight 24 = .ok (.iconst 1, 1) := by decide +kernel
theorem d_M_weight_25 : decode b_M_weight 25 = .ok (.iand, 1) := by decide +kernel
theorem d_M_weight_26 : decode b_M_weight 26 = .ok (.iconst 1, 1) := by decide +kernel
theorem d_M_weight_27 : decode b_M_weight 27 = .ok (.if_icmp .ne 28, 3) := by decide +kernel
theorem d_M_weight_30 : decode b_M_weight 30 = .ok (.iload_n 1, 1) := by decide +kernel
theorem d_M_weight_31 : decode b_M_weight 31 = .ok (.iload 4, 2) := by decide +kernel
theorem d_M_weight_33 : decode b_M_weight 33 = .ok (.ishr, 1) := by decide +kernel
theorem d_M_weight_34 : decode b_M_weight 34 = .ok (.iconst 1, 1) := by decide +kernel
theorem d_M_weight_35 : decode b_M_weight 35 = .ok (.iand, 1) := by decide +kernel
theorem d_M_weight_36 : decode b_M_weight 36 = .ok (.iconst 1, 1) := by decide +kernel
theorem d_M_weight_37 : decode b_M_weight 37 = .ok (.if_icmp .ne 18, 3) := by decide +kernel
theorem d_M_weight_40 : decode b_M_weight 40 = .ok (.iload_n 2, 1) := by decide +kernel
theorem d_M_weight_41 : decode b_M_weight 41 = .ok (.aload_n 0, 1) := by decide +kernel
theorem d_M_weight_42 : decode b_M_weight 42 = .ok (.getfield 7, 3) := by decide +kernel
theorem d_M_weight_45 : decode b_M_weight 45 = .ok (.iload_n 3, 1) := by decide +kernel
theorem d_M_weight_46 : decode b_M_weight 46 = .ok (.bipush 10, 2) := by decide +kernel
theorem d_M_weight_48 : decode b_M_weight 48 = .ok (.imul, 1) := by decide +kernel
theorem d_M_weight_49 : decode b_M_weight 49 = .ok (.iload 4, 2) := by decide +kernel
theorem d_M_weight_51 : decode b_M_weight 51 = .ok (.iadd, 1) := by decide +kernel
theorem d_M_weight_52 : decode b_M_weight 52 = .ok (.iaload, 1) := by decide +kernel
theorem d_M_weight_53 : decode b_M_weight 53 = .ok (.iadd, 1) := by decide +kernel
theorem d_M_weight_54 : decode b_M_weight 54 = .ok (.istore_n 2, 1) := by decide +kernel
theorem d_M_weight_55 : decode b_M_weight 55 = .ok (.iinc 4 1, 3) := by decide +kernel
theorem d_M_weight_58 : decode b_M_weight 58 = .ok (.goto (-43), 3) := by decide +kernel
theorem d_M_weight_61 : decode b_M_weight 61 = .ok (.iinc 3 1, 3) := by decide +kernel
theorem d_M_weight_64 : decode b_M_weight 64 = .ok (.goto (-60), 3) := by decide +kernel
theorem d_M_weight_67 : decode b_M_weight 67 = .ok (.iload_n 2, 1) := by decide +kernel
theorem d_M_weight_68 : decode b_M_weight 68 = .ok (.ireturn, 1) := by decide +kernel
theorem d_M_size_0 : decode b_M_size 0 = .ok (.iconst 0, 1) := by decide +kernel
theorem d_M_size_1 : decode b_M_size 1 = .ok (.istore_n 2, 1) := by decide +kernel
theorem d_M_size_2 : decode b_M_size 2 = .ok (.iconst 0, 1) := by decide +kernel
theorem d_M_size_3 : decode b_M_size 3 = .ok (.istore_n 3, 1) := by decide +kernel
theorem d_M_size_4 : decode b_M_size 4 = .ok (.iload_n 3, 1) := by decide +kernel
theorem d_M_size_5 : decode b_M_size 5 = .ok (.aload_n 0, 1) := by decide +kernel
theorem d_M_size_6 : decode b_M_size 6 = .ok (.getfield 16, 3) := by decide +kernel
theorem d_M_size_9 : decode b_M_size 9 = .ok (.if_icmp .ge 17, 3) := by decide +kernel
theorem d_M_size_12 : decode b_M_size 12 = .ok (.iload_n 2, 1) := by decide +kernel
theorem d_M_size_13 : decode b_M_size 13 = .ok (.iload_n 1, 1) := by decide +kernel
theorem d_M_size_14 : decode b_M_size 14 = .ok (.iload_n 3, 1) := by decide +kernel
theorem d_M_size_15 : decode b_M_size 15 = .ok (.ishr, 1) := by decide +kernel
theorem d_M_size_16 : decode b_M_size 16 = .ok (.iconst 1, 1) := by decide +kernel
theorem d_M_size_17 : decode b_M_size 17 = .ok (.iand, 1) := by decide +kernel
theorem d_M_size_18 : decode b_M_size 18 = .ok (.iadd, 1) := by decide +kernel
theorem d_M_size_19 : decode b_M_size 19 = .ok (.istore_n 2, 1) := by decide +kernel
theorem d_M_size_20 : decode b_M_size 20 = .ok (.iinc 3 1, 3) := by decide +kernel
theorem d_M_size_23 : decode b_M_size 23 = .ok (.goto (-19), 3) := by decide +kernel
theorem d_M_size_26 : decode b_M_size 26 = .ok (.iload_n 2, 1) := by decide +kernel
theorem d_M_size_27 : decode b_M_size 27 = .ok (.ireturn, 1) := by decide +kernel
theorem d_M_allowed_0 : decode b_M_allowed 0 = .ok (.iconst 0, 1) := by decide +kernel
theorem d_M_allowed_1 : decode b_M_allowed 1 = .ok (.istore_n 2, 1) := by decide +kernel
theorem d_M_allowed_2 : decode b_M_allowed 2 = .ok (.iload_n 2, 1) := by decide +kernel
theorem d_M_allowed_3 : decode b_M_allowed 3 = .ok (.aload_n 0, 1) := by decide +kernel
theorem d_M_allowed_4 : decode b_M_allowed 4 = .ok (.getfield 16, 3) := by decide +kernel
theorem d_M_allowed_7 : decode b_M_allowed 7 = .ok (.if_icmp .ge 54, 3) := by decide +kernel
theorem d_M_allowed_10 : decode b_M_allowed 10 = .ok (.iload_n 1, 1) := by decide +kernel
theorem d_M_allowed_11 : decode b_M_allowed 11 = .ok (.iload_n 2, 1) := by decide +kernel
theorem d_M_allowed_12 : decode b_M_allowed 12 = .ok (.ishr, 1) := by decide +kernel
theorem d_M_allowed_13 : decode b_M_allowed 13 = .ok (.iconst 1, 1) := by decide +kernel
theorem d_M_allowed_14 : decode b_M_allowed 14 = .ok (.iand, 1) := by decide +kernel
theorem d_M_allowed_15 : decode b_M_allowed 15 = .ok (.iconst 1, 1) := by decide +kernel
theorem d_M_allowed_16 : decode b_M_allowed 16 = .ok (.if_icmp .ne 7, 3) := by decide +kernel
theorem d_M_allowed_19 : decode b_M_allowed 19 = .ok (.iconst 1, 1) := by decide +kernel
theorem d_M_allowed_20 : decode b_M_allowed 20 = .ok (.goto 4, 3) := by decide +kernel
theorem d_M_allowed_23 : decode b_M_allowed 23 = .ok (.iconst 0, 1) := by decide +kernel
theorem d_M_allowed_24 : decode b_M_allowed 24 = .ok (.istore_n 3, 1) := by decide +kernel
theorem d_M_allowed_25 : decode b_M_allowed 25 = .ok (.iload_n 3, 1) := by decide +kernel
theorem d_M_allowed_26 : decode b_M_allowed 26 = .ok (.ifCond .eq 13, 3) := by decide +kernel
theorem d_M_allowed_29 : decode b_M_allowed 29 = .ok (.aload_n 0, 1) := by decide +kernel
theorem d_M_allowed_30 : decode b_M_allowed 30 = .ok (.getfield 13, 3) := by decide +kernel
theorem d_M_allowed_33 : decode b_M_allowed 33 = .ok (.iload_n 2, 1) := by decide +kernel
theorem d_M_allowed_34 : decode b_M_allowed 34 = .ok (.iaload, 1) := by decide +kernel
theorem d_M_allowed_35 : decode b_M_allowed 35 = .ok (.iconst 2, 1) := by decide +kernel
theorem d_M_allowed_36 : decode b_M_allowed 36 = .ok (.if_icmp .eq 17, 3) := by decide +kernel
theorem d_M_allowed_39 : decode b_M_allowed 39 = .ok (.iload_n 3, 1) := by decide +kernel
theorem d_M_allowed_40 : decode b_M_allowed 40 = .ok (.ifCond .ne 15, 3) := by decide +kernel
theorem d_M_allowed_43 : decode b_M_allowed 43 = .ok (.aload_n 0, 1) := by decide +kernel
theorem d_M_allowed_44 : decode b_M_allowed 44 = .ok (.getfield 13, 3) := by decide +kernel
theorem d_M_allowed_47 : decode b_M_allowed 47 = .ok (.iload_n 2, 1) := by decide +kernel
theorem d_M_allowed_48 : decode b_M_allowed 48 = .ok (.iaload, 1) := by decide +kernel
theorem d_M_allowed_49 : decode b_M_allowed 49 = .ok (.iconst 1, 1) := by decide +kernel
theorem d_M_allowed_50 : decode b_M_allowed 50 = .ok (.if_icmp .ne 5, 3) := by decide +kernel
theorem d_M_allowed_53 : decode b_M_allowed 53 = .ok (.iconst 0, 1) := by decide +kernel
theorem d_M_allowed_54 : decode b_M_allowed 54 = .ok (.ireturn, 1) := by decide +kernel
theorem d_M_allowed_55 : decode b_M_allowed 55 = .ok (.iinc 2 1, 3) := by decide +kernel
theorem d_M_allowed_58 : decode b_M_allowed 58 = .ok (.goto (-56), 3) := by decide +kernel
theorem d_M_allowed_61 : decode b_M_allowed 61 = .ok (.iconst 1, 1) := by decide +kernel
theorem d_M_allowed_62 : decode b_M_allowed 62 = .ok (.ireturn, 1) := by decide +kernel
theorem d_M_one_0 : decode b_M_one 0 = .ok (.iconst 0, 1) := by decide +kernel
theorem d_M_one_1 : decode b_M_one 1 = .ok (.istore_n 1, 1) := by decide +kernel
theorem d_M_one_2 : decode b_M_one 2 = .ok (.iconst 0, 1) := by decide +kernel
theorem d_M_one_3 : decode b_M_one 3 = .ok (.istore_n 2, 1) := by decide +kernel
theorem d_M_one_4 : decode b_M_one 4 = .ok (.iconst 1, 1) := by decide +kernel
theorem d_M_one_5 : decode b_M_one 5 = .ok (.istore_n 3, 1) := by decide +kernel
theorem d_M_one_6 : decode b_M_one 6 = .ok (.iconst 1, 1) := by decide +kernel
theorem d_M_one_7 : decode b_M_one 7 = .ok (.istore 4, 2) := by decide +kernel
theorem d_M_one_9 : decode b_M_one 9 = .ok (.iload 4, 2) := by decide +kernel
theorem d_M_one_11 : decode b_M_one 11 = .ok (.iconst 1, 1) := by decide +kernel
theorem d_M_one_12 : decode b_M_one 12 = .ok (.aload_n 0, 1) := by decide +kernel
theorem d_M_one_13 : decode b_M_one 13 = .ok (.getfield 16, 3) := by decide +kernel
theorem d_M_one_16 : decode b_M_one 16 = .ok (.ishl, 1) := by decide +kernel
theorem d_M_one_17 : decode b_M_one 17 = .ok (.if_icmp .ge 58, 3) := by decide +kernel
theorem d_M_one_20 : decode b_M_one 20 = .ok (.aload_n 0, 1) := by decide +kernel
theorem d_M_one_21 : decode b_M_one 21 = .ok (.iload 4, 2) := by decide +kernel
theorem d_M_one_23 : decode b_M_one 23 = .ok (.invokevirtual 24, 3) := by decide +kernel
theorem d_M_one_26 : decode b_M_one 26 = .ok (.ifCond .eq 43, 3) := by decide +kernel
theorem d_M_one_29 : decode b_M_one 29 = .ok (.aload_n 0, 1) := by decide +kernel
theorem d_M_one_30 : decode b_M_one 30 = .ok (.iload 4, 2) := by decide +kernel
theorem d_M_one_32 : decode b_M_one 32 = .ok (.invokevirtual 27, 3) := by decide +kernel
theorem d_M_one_35 : decode b_M_one 35 = .ok (.istore 5, 2) := by decide +kernel
theorem d_M_one_37 : decode b_M_one 37 = .ok (.aload_n 0, 1) := by decide +kernel
theorem d_M_one_38 : decode b_M_one 38 = .ok (.iload 4, 2) := by decide +kernel
theorem d_M_one_40 : decode b_M_one 40 = .ok (.invokevirtual 31, 3) := by decide +kernel
theorem d_M_one_43 : decode b_M_one 43 = .ok (.istore 6, 2) := by decide +kernel
theorem d_M_one_45 : decode b_M_one 45 = .ok (.iload_n 1, 1) := by decide +kernel
theorem d_M_one_46 : decode b_M_one 46 = .ok (.ifCond .eq 14, 3) := by decide +kernel
theorem d_M_one_49 : decode b_M_one 49 = .ok (.iload 5, 2) := by decide +kernel
theorem d_M_one_51 : decode b_M_one 51 = .ok (.iload_n 3, 1) := by decide +kernel
theorem d_M_one_52 : decode b_M_one 52 = .ok (.imul, 1) := by decide +kernel
theorem d_M_one_53 : decode b_M_one 53 = .ok (.iload_n 2, 1) := by decide +kernel
theorem d_M_one_54 : decode b_M_one 54 = .ok (.iload 6, 2) := by decide +kernel
theorem d_M_one_56 : decode b_M_one 56 = .ok (.imul, 1) := by decide +kernel
theorem d_M_one_57 : decode b_M_one 57 = .ok (.if_icmp .le 12, 3) := by decide +kernel
theorem d_M_one_60 : decode b_M_one 60 = .ok (.iload 4, 2) := by decide +kernel
theorem d_M_one_62 : decode b_M_one 62 = .ok (.istore_n 1, 1) := by decide +kernel
theorem d_M_one_63 : decode b_M_one 63 = .ok (.iload 5, 2) := by decide +kernel
theorem d_M_one_65 : decode b_M_one 65 = .ok (.istore_n 2, 1) := by decide +kernel
theorem d_M_one_66 : decode b_M_one 66 = .ok (.iload 6, 2) := by decide +kernel
theorem d_M_one_68 : decode b_M_one 68 = .ok (.istore_n 3, 1) := by decide +kernel
theorem d_M_one_69 : decode b_M_one 69 = .ok (.iinc 4 1, 3) := by decide +kernel
theorem d_M_one_72 : decode b_M_one 72 = .ok (.goto (-63), 3) := by decide +kernel
theorem d_M_one_75 : decode b_M_one 75 = .ok (.iload_n 1, 1) := by decide +kernel
theorem d_M_one_76 : decode b_M_one 76 = .ok (.ireturn, 1) := by decide +kernel
theorem d_M_common_0 : decode b_M_common 0 = .ok (.aload_n 0, 1) := by decide +kernel
theorem d_M_common_1 : decode b_M_common 1 = .ok (.iload_n 1, 1) := by decide +kernel
theorem d_M_common_2 : decode b_M_common 2 = .ok (.invokevirtual 27, 3) := by decide +kernel
theorem d_M_common_5 : decode b_M_common 5 = .ok (.istore_n 2, 1) := by decide +kernel
theorem d_M_common_6 : decode b_M_common 6 = .ok (.aload_n 0, 1) := by decide +kernel
theorem d_M_common_7 : decode b_M_common 7 = .ok (.iload_n 1, 1) := by decide +kernel
theorem d_M_common_8 : decode b_M_common 8 = .ok (.invokevirtual 31, 3) := by decide +kernel
theorem d_M_common_11 : decode b_M_common 11 = .ok (.istore_n 3, 1) := by decide +kernel
theorem d_M_common_12 : decode b_M_common 12 = .ok (.bipush 10, 2) := by decide +kernel
theorem d_M_common_14 : decode b_M_common 14 = .ok (.istore 4, 2) := by decide +kernel
theorem d_M_common_16 : decode b_M_common 16 = .ok (.iload 4, 2) := by decide +kernel
theorem d_M_common_18 : decode b_M_common 18 = .ok (.iconst 1, 1) := by decide +kernel
theorem d_M_common_19 : decode b_M_common 19 = .ok (.if_icmp .le 26, 3) := by decide +kernel
theorem d_M_common_22 : decode b_M_common 22 = .ok (.iload_n 2, 1) := by decide +kernel
theorem d_M_common_23 : decode b_M_common 23 = .ok (.iload 4, 2) := by decide +kernel
theorem d_M_common_25 : decode b_M_common 25 = .ok (.irem, 1) := by decide +kernel
theorem d_M_common_26 : decode b_M_common 26 = .ok (.ifCond .ne 13, 3) := by decide +kernel
theorem d_M_common_29 : decode b_M_common 29 = .ok (.iload_n 3, 1) := by decide +kernel
theorem d_M_common_30 : decode b_M_common 30 = .ok (.iload 4, 2) := by decide +kernel
theorem d_M_common_32 : decode b_M_common 32 = .ok (.irem, 1) := by decide +kernel
theorem d_M_common_33 : decode b_M_common 33 = .ok (.ifCond .ne 6, 3) := by decide +kernel
theorem d_M_common_36 : decode b_M_common 36 = .ok (.iload 4, 2) := by decide +kernel
theorem d_M_common_38 : decode b_M_common 38 = .ok (.ireturn, 1) := by decide +kernel
theorem d_M_common_39 : decode b_M_common 39 = .ok (.iinc 4 (-1), 3) := by decide +kernel
theorem d_M_common_42 : decode b_M_common 42 = .ok (.goto (-26), 3) := by decide +kernel
theorem d_M_common_45 : decode b_M_common 45 = .ok (.iconst 1, 1) := by decide +kernel
theorem d_M_common_46 : decode b_M_common 46 = .ok (.ireturn, 1) := by decide +kernel
theorem d_M_dTop_0 : decode b_M_dTop 0 = .ok (.aload_n 0, 1) := by decide +kernel
theorem d_M_dTop_1 : decode b_M_dTop 1 = .ok (.invokevirtual 34, 3) := by decide +kernel
theorem d_M_dTop_4 : decode b_M_dTop 4 = .ok (.istore_n 1, 1) := by decide +kernel
theorem d_M_dTop_5 : decode b_M_dTop 5 = .ok (.iload_n 1, 1) := by decide +kernel
theorem d_M_dTop_6 : decode b_M_dTop 6 = .ok (.ifCond .ne 6, 3) := by decide +kernel
theorem d_M_dTop_9 : decode b_M_dTop 9 = .ok (.bipush (-5), 2) := by decide +kernel
theorem d_M_dTop_11 : decode b_M_dTop 11 = .ok (.ireturn, 1) := by decide +kernel
theorem d_M_dTop_12 : decode b_M_dTop 12 = .ok (.aload_n 0, 1) := by decide +kernel
theorem d_M_dTop_13 : decode b_M_dTop 13 = .ok (.iload_n 1, 1) := by decide +kernel
theorem d_M_dTop_14 : decode b_M_dTop 14 = .ok (.invokevirtual 27, 3) := by decide +kernel
theorem d_M_dTop_17 : decode b_M_dTop 17 = .ok (.istore_n 2, 1) := by decide +kernel
theorem d_M_dTop_18 : decode b_M_dTop 18 = .ok (.aload_n 0, 1) := by decide +kernel
theorem d_M_dTop_19 : decode b_M_dTop 19 = .ok (.iload_n 1, 1) := by decide +kernel
theorem d_M_dTop_20 : decode b_M_dTop 20 = .ok (.invokevirtual 38, 3) := by decide +kernel
theorem d_M_dTop_23 : decode b_M_dTop 23 = .ok (.istore_n 3, 1) := by decide +kernel
theorem d_M_dTop_24 : decode b_M_dTop 24 = .ok (.iload_n 3, 1) := by decide +kernel
theorem d_M_dTop_25 : decode b_M_dTop 25 = .ok (.iconst 1, 1) := by decide +kernel
theorem d_M_dTop_26 : decode b_M_dTop 26 = .ok (.if_icmp .le 9, 3) := by decide +kernel
theorem d_M_dTop_29 : decode b_M_dTop 29 = .ok (.iload_n 2, 1) := by decide +kernel
theorem d_M_dTop_30 : decode b_M_dTop 30 = .ok (.iload_n 3, 1) := by decide +kernel
theorem d_M_dTop_31 : decode b_M_dTop 31 = .ok (.idiv, 1) := by decide +kernel
theorem d_M_dTop_32 : decode b_M_dTop 32 = .ok (.goto 4, 3) := by decide +kernel
theorem d_M_dTop_35 : decode b_M_dTop 35 = .ok (.iload_n 2, 1) := by decide +kernel
theorem d_M_dTop_36 : decode b_M_dTop 36 = .ok (.ireturn, 1) := by decide +kernel
theorem d_M_dBot_0 : decode b_M_dBot 0 = .ok (.aload_n 0, 1) := by decide +kernel
theorem d_M_dBot_1 : decode b_M_dBot 1 = .ok (.invokevirtual 34, 3) := by decide +kernel
theorem d_M_dBot_4 : decode b_M_dBot 4 = .ok (.istore_n 1, 1) := by decide +kernel
theorem d_M_dBot_5 : decode b_M_dBot 5 = .ok (.iload_n 1, 1) := by decide +kernel
theorem d_M_dBot_6 : decode b_M_dBot 6 = .ok (.ifCond .ne 6, 3) := by decide +kernel
theorem d_M_dBot_9 : decode b_M_dBot 9 = .ok (.bipush (-5), 2) := by decide +kernel
theorem d_M_dBot_11 : decode b_M_dBot 11 = .ok (.ireturn, 1) := by decide +kernel
theorem d_M_dBot_12 : decode b_M_dBot 12 = .ok (.aload_n 0, 1) := by decide +kernel
theorem d_M_dBot_13 : decode b_M_dBot 13 = .ok (.iload_n 1, 1) := by decide +kernel
theorem d_M_dBot_14 : decode b_M_dBot 14 = .ok (.invokevirtual 31, 3) := by decide +kernel
theorem d_M_dBot_17 : decode b_M_dBot 17 = .ok (.istore_n 2, 1) := by decide +kernel
theorem d_M_dBot_18 : decode b_M_dBot 18 = .ok (.aload_n 0, 1) := by decide +kernel
theorem d_M_dBot_19 : decode b_M_dBot 19 = .ok (.iload_n 1, 1) := by decide +kernel
theorem d_M_dBot_20 : decode b_M_dBot 20 = .ok (.invokevirtual 38, 3) := by decide +kernel
theorem d_M_dBot_23 : decode b_M_dBot 23 = .ok (.istore_n 3, 1) := by decide +kernel
theorem d_M_dBot_24 : decode b_M_dBot 24 = .ok (.iload_n 3, 1) := by decide +kernel
theorem d_M_dBot_25 : decode b_M_dBot 25 = .ok (.iconst 1, 1) := by decide +kernel
theorem d_M_dBot_26 : decode b_M_dBot 26 = .ok (.if_icmp .le 9, 3) := by decide +kernel
theorem d_M_dBot_29 : decode b_M_dBot 29 = .ok (.iload_n 2, 1) := by decide +kernel
theorem d_M_dBot_30 : decode b_M_dBot 30 = .ok (.iload_n 3, 1) := by decide +kernel
theorem d_M_dBot_31 : decode b_M_dBot 31 = .ok (.idiv, 1) := by decide +kernel
theorem d_M_dBot_32 : decode b_M_dBot 32 = .ok (.goto 4, 3) := by decide +kernel
theorem d_M_dBot_35 : decode b_M_dBot 35 = .ok (.iload_n 2, 1) := by decide +kernel
theorem d_M_dBot_36 : decode b_M_dBot 36 = .ok (.ireturn, 1) := by decide +kernel
theorem d_M_densest_0 : decode b_M_densest 0 = .ok (.aload_n 0, 1) := by decide +kernel
theorem d_M_densest_1 : decode b_M_densest 1 = .ok (.invokevirtual 34, 3) := by decide +kernel
theorem d_M_densest_4 : decode b_M_densest 4 = .ok (.istore_n 1, 1) := by decide +kernel
theorem d_M_densest_5 : decode b_M_densest 5 = .ok (.aload_n 0, 1) := by decide +kernel
theorem d_M_densest_6 : decode b_M_densest 6 = .ok (.iload_n 1, 1) := by decide +kernel
theorem d_M_densest_7 : decode b_M_densest 7 = .ok (.invokevirtual 27, 3) := by decide +kernel
theorem d_M_densest_10 : decode b_M_densest 10 = .ok (.istore_n 2, 1) := by decide +kernel
theorem d_M_densest_11 : decode b_M_densest 11 = .ok (.aload_n 0, 1) := by decide +kernel
theorem d_M_densest_12 : decode b_M_densest 12 = .ok (.iload_n 1, 1) := by decide +kernel
theorem d_M_densest_13 : decode b_M_densest 13 = .ok (.invokevirtual 31, 3) := by decide +kernel
theorem d_M_densest_16 : decode b_M_densest 16 = .ok (.istore_n 3, 1) := by decide +kernel
theorem d_M_densest_17 : decode b_M_densest 17 = .ok (.iconst 0, 1) := by decide +kernel
theorem d_M_densest_18 : decode b_M_densest 18 = .ok (.istore 4, 2) := by decide +kernel
theorem d_M_densest_20 : decode b_M_densest 20 = .ok (.iconst 1, 1) := by decide +kernel
theorem d_M_densest_21 : decode b_M_densest 21 = .ok (.istore 5, 2) := by decide +kernel
theorem d_M_densest_23 : decode b_M_densest 23 = .ok (.iload 5, 2) := by decide +kernel
theorem d_M_densest_25 : decode b_M_densest 25 = .ok (.iconst 1, 1) := by decide +kernel
theorem d_M_densest_26 : decode b_M_densest 26 = .ok (.aload_n 0, 1) := by decide +kernel
theorem d_M_densest_27 : decode b_M_densest 27 = .ok (.getfield 16, 3) := by decide +kernel
theorem d_M_densest_30 : decode b_M_densest 30 = .ok (.ishl, 1) := by decide +kernel
theorem d_M_densest_31 : decode b_M_densest 31 = .ok (.if_icmp .ge 52, 3) := by decide +kernel
theorem d_M_densest_34 : decode b_M_densest 34 = .ok (.aload_n 0, 1) := by decide +kernel
theorem d_M_densest_35 : decode b_M_densest 35 = .ok (.iload 5, 2) := by decide +kernel
theorem d_M_densest_37 : decode b_M_densest 37 = .ok (.invokevirtual 24, 3) := by decide +kernel
theorem d_M_densest_40 : decode b_M_densest 40 = .ok (.ifCond .eq 37, 3) := by decide +kernel
theorem d_M_densest_43 : decode b_M_densest 43 = .ok (.aload_n 0, 1) := by decide +kernel
theorem d_M_densest_44 : decode b_M_densest 44 = .ok (.iload 5, 2) := by decide +kernel
theorem d_M_densest_46 : decode b_M_densest 46 = .ok (.invokevirtual 27, 3) := by decide +kernel
theorem d_M_densest_49 : decode b_M_densest 49 = .ok (.istore 6, 2) := by decide +kernel
theorem d_M_densest_51 : decode b_M_densest 51 = .ok (.aload_n 0, 1) := by decide +kernel
theorem d_M_densest_52 : decode b_M_densest 52 = .ok (.iload 5, 2) := by decide +kernel
theorem d_M_densest_54 : decode b_M_densest 54 = .ok (.invokevirtual 31, 3) := by decide +kernel
theorem d_M_densest_57 : decode b_M_densest 57 = .ok (.istore 7, 2) := by decide +kernel
theorem d_M_densest_59 : decode b_M_densest 59 = .ok (.iload 6, 2) := by decide +kernel
theorem d_M_densest_61 : decode b_M_densest 61 = .ok (.iload_n 3, 1) := by decide +kernel
theorem d_M_densest_62 : decode b_M_densest 62 = .ok (.imul, 1) := by decide +kernel
theorem d_M_densest_63 : decode b_M_densest 63 = .ok (.iload_n 2, 1) := by decide +kernel
theorem d_M_densest_64 : decode b_M_densest 64 = .ok (.iload 7, 2) := by decide +kernel
theorem d_M_densest_66 : decode b_M_densest 66 = .ok (.imul, 1) := by decide +kernel
theorem d_M_densest_67 : decode b_M_densest 67 = .ok (.if_icmp .ne 10, 3) := by decide +kernel
theorem d_M_densest_70 : decode b_M_densest 70 = .ok (.iload 4, 2) := by decide +kernel
theorem d_M_densest_72 : decode b_M_densest 72 = .ok (.iload 5, 2) := by decide +kernel
theorem d_M_densest_74 : decode b_M_densest 74 = .ok (.ior, 1) := by decide +kernel
theorem d_M_densest_75 : decode b_M_densest 75 = .ok (.istore 4, 2) := by decide +kernel
theorem d_M_densest_77 : decode b_M_densest 77 = .ok (.iinc 5 1, 3) := by decide +kernel
theorem d_M_densest_80 : decode b_M_densest 80 = .ok (.goto (-57), 3) := by decide +kernel
theorem d_M_densest_83 : decode b_M_densest 83 = .ok (.iload 4, 2) := by decide +kernel
theorem d_M_densest_85 : decode b_M_densest 85 = .ok (.ireturn, 1) := by decide +kernel
theorem d_M_badPrice_0 : decode b_M_badPrice 0 = .ok (.iload_n 1, 1) := by decide +kernel
theorem d_M_badPrice_1 : decode b_M_badPrice 1 = .ok (.iconst 1, 1) := by decide +kernel
theorem d_M_badPrice_2 : decode b_M_badPrice 2 = .ok (.if_icmp .lt 20, 3) := by decide +kernel
theorem d_M_badPrice_5 : decode b_M_badPrice 5 = .ok (.iload_n 1, 1) := by decide +kernel
theorem d_M_badPrice_6 : decode b_M_badPrice 6 = .ok (.bipush 20, 2) := by decide +kernel
theorem d_M_badPrice_8 : decode b_M_badPrice 8 = .ok (.if_icmp .gt 14, 3) := by decide +kernel
theorem d_M_badPrice_11 : decode b_M_badPrice 11 = .ok (.iload_n 2, 1) := by decide +kernel
theorem d_M_badPrice_12 : decode b_M_badPrice 12 = .ok (.ifCond .lt 10, 3) := by decide +kernel
theorem d_M_badPrice_15 : decode b_M_badPrice 15 = .ok (.iload_n 2, 1) := by decide +kernel
theorem d_M_badPrice_16 : decode b_M_badPrice 16 = .ok (.sipush 2000, 3) := by decide +kernel
theorem d_M_badPrice_19 : decode b_M_badPrice 19 = .ok (.if_icmp .le 7, 3) := by decide +kernel
theorem d_M_badPrice_22 : decode b_M_badPrice 22 = .ok (.iconst 1, 1) := by decide +kernel
theorem d_M_badPrice_23 : decode b_M_badPrice 23 = .ok (.goto 4, 3) := by decide +kernel
theorem d_M_badPrice_26 : decode b_M_badPrice 26 = .ok (.iconst 0, 1) := by decide +kernel
theorem d_M_badPrice_27 : decode b_M_badPrice 27 = .ok (.ireturn, 1) := by decide +kernel
theorem d_M_excess_0 : decode b_M_excess 0 = .ok (.aload_n 0, 1) := by decide +kernel
theorem d_M_excess_1 : decode b_M_excess 1 = .ok (.iload_n 1, 1) := by decide +kernel
theorem d_M_excess_2 : decode b_M_excess 2 = .ok (.iload_n 2, 1) := by decide +kernel
theorem d_M_excess_3 : decode b_M_excess 3 = .ok (.invokevirtual 41, 3) := by decide +kernel
theorem d_M_excess_6 : decode b_M_excess 6 = .ok (.ifCond .eq 6, 3) := by decide +kernel
theorem d_M_excess_9 : decode b_M_excess 9 = .ok (.bipush (-4), 2) := by decide +kernel
theorem d_M_excess_11 : decode b_M_excess 11 = .ok (.ireturn, 1) := by decide +kernel
theorem d_M_excess_12 : decode b_M_excess 12 = .ok (.ldc 45, 2) := by decide +kernel
theorem d_M_excess_14 : decode b_M_excess 14 = .ok (.istore_n 3, 1) := by decide +kernel
theorem d_M_excess_15 : decode b_M_excess 15 = .ok (.iconst 0, 1) := by decide +kernel
theorem d_M_excess_16 : decode b_M_excess 16 = .ok (.istore 4, 2) := by decide +kernel
theorem d_M_excess_18 : decode b_M_excess 18 = .ok (.iload 4, 2) := by decide +kernel
theorem d_M_excess_20 : decode b_M_excess 20 = .ok (.iconst 1, 1) := by decide +kernel
theorem d_M_excess_21 : decode b_M_excess 21 = .ok (.aload_n 0, 1) := by decide +kernel
theorem d_M_excess_22 : decode b_M_excess 22 = .ok (.getfield 16, 3) := by decide +kernel
theorem d_M_excess_25 : decode b_M_excess 25 = .ok (.ishl, 1) := by decide +kernel
theorem d_M_excess_26 : decode b_M_excess 26 = .ok (.if_icmp .ge 46, 3) := by decide +kernel
theorem d_M_excess_29 : decode b_M_excess 29 = .ok (.aload_n 0, 1) := by decide +kernel
theorem d_M_excess_30 : decode b_M_excess 30 = .ok (.iload 4, 2) := by decide +kernel
theorem d_M_excess_32 : decode b_M_excess 32 = .ok (.invokevirtual 24, 3) := by decide +kernel
theorem d_M_excess_35 : decode b_M_excess 35 = .ok (.ifCond .eq 31, 3) := by decide +kernel
theorem d_M_excess_38 : decode b_M_excess 38 = .ok (.iload_n 1, 1) := by decide +kernel
theorem d_M_excess_39 : decode b_M_excess 39 = .ok (.aload_n 0, 1) := by decide +kernel
theorem d_M_excess_40 : decode b_M_excess 40 = .ok (.iload 4, 2) := by decide +kernel
theorem d_M_excess_42 : decode b_M_excess 42 = .ok (.invokevirtual 27, 3) := by decide +kernel
theorem d_M_excess_45 : decode b_M_excess 45 = .ok (.imul, 1) := by decide +kernel
theorem d_M_excess_46 : decode b_M_excess 46 = .ok (.iload_n 2, 1) := by decide +kernel
theorem d_M_excess_47 : decode b_M_excess 47 = .ok (.aload_n 0, 1) := by decide +kernel
theorem d_M_excess_48 : decode b_M_excess 48 = .ok (.iload 4, 2) := by decide +kernel
theorem d_M_excess_50 : decode b_M_excess 50 = .ok (.invokevirtual 31, 3) := by decide +kernel
theorem d_M_excess_53 : decode b_M_excess 53 = .ok (.imul, 1) := by decide +kernel
theorem d_M_excess_54 : decode b_M_excess 54 = .ok (.isub, 1) := by decide +kernel
theorem d_M_excess_55 : decode b_M_excess 55 = .ok (.istore 5, 2) := by decide +kernel
theorem d_M_excess_57 : decode b_M_excess 57 = .ok (.iload 5, 2) := by decide +kernel
theorem d_M_excess_59 : decode b_M_excess 59 = .ok (.iload_n 3, 1) := by decide +kernel
theorem d_M_excess_60 : decode b_M_excess 60 = .ok (.if_icmp .le 6, 3) := by decide +kernel
theorem d_M_excess_63 : decode b_M_excess 63 = .ok (.iload 5, 2) := by decide +kernel
theorem d_M_excess_65 : decode b_M_excess 65 = .ok (.istore_n 3, 1) := by decide +kernel
theorem d_M_excess_66 : decode b_M_excess 66 = .ok (.iinc 4 1, 3) := by decide +kernel
theorem d_M_excess_69 : decode b_M_excess 69 = .ok (.goto (-51), 3) := by decide +kernel
theorem d_M_excess_72 : decode b_M_excess 72 = .ok (.iload_n 3, 1) := by decide +kernel
theorem d_M_excess_73 : decode b_M_excess 73 = .ok (.ireturn, 1) := by decide +kernel
theorem d_M_exSet_0 : decode b_M_exSet 0 = .ok (.aload_n 0, 1) := by decide +kernel
theorem d_M_exSet_1 : decode b_M_exSet 1 = .ok (.iload_n 1, 1) := by decide +kernel
theorem d_M_exSet_2 : decode b_M_exSet 2 = .ok (.iload_n 2, 1) := by decide +kernel
theorem d_M_exSet_3 : decode b_M_exSet 3 = .ok (.invokevirtual 41, 3) := by decide +kernel
theorem d_M_exSet_6 : decode b_M_exSet 6 = .ok (.ifCond .eq 5, 3) := by decide +kernel
theorem d_M_exSet_9 : decode b_M_exSet 9 = .ok (.iconst 0, 1) := by decide +kernel
theorem d_M_exSet_10 : decode b_M_exSet 10 = .ok (.ireturn, 1) := by decide +kernel
theorem d_M_exSet_11 : decode b_M_exSet 11 = .ok (.aload_n 0, 1) := by decide +kernel
theorem d_M_exSet_12 : decode b_M_exSet 12 = .ok (.iload_n 1, 1) := by decide +kernel
theorem d_M_exSet_13 : decode b_M_exSet 13 = .ok (.iload_n 2, 1) := by decide +kernel
theorem d_M_exSet_14 : decode b_M_exSet 14 = .ok (.invokevirtual 46, 3) := by decide +kernel
theorem d_M_exSet_17 : decode b_M_exSet 17 = .ok (.istore_n 3, 1) := by decide +kernel
theorem d_M_exSet_18 : decode b_M_exSet 18 = .ok (.iconst 0, 1) := by decide +kernel
theorem d_M_exSet_19 : decode b_M_exSet 19 = .ok (.istore 4, 2) := by decide +kernel
theorem d_M_exSet_21 : decode b_M_exSet 21 = .ok (.iconst 0, 1) := by decide +kernel
theorem d_M_exSet_22 : decode b_M_exSet 22 = .ok (.istore 5, 2) := by decide +kernel
theorem d_M_exSet_24 : decode b_M_exSet 24 = .ok (.iload 5, 2) := by decide +kernel
theorem d_M_exSet_26 : decode b_M_exSet 26 = .ok (.iconst 1, 1) := by decide +kernel
theorem d_M_exSet_27 : decode b_M_exSet 27 = .ok (.aload_n 0, 1) := by decide +kernel
theorem d_M_exSet_28 : decode b_M_exSet 28 = .ok (.getfield 16, 3) := by decide +kernel
theorem d_M_exSet_31 : decode b_M_exSet 31 = .ok (.ishl, 1) := by decide +kernel
theorem d_M_exSet_32 : decode b_M_exSet 32 = .ok (.if_icmp .ge 50, 3) := by decide +kernel
theorem d_M_exSet_35 : decode b_M_exSet 35 = .ok (.aload_n 0, 1) := by decide +kernel
theorem d_M_exSet_36 : decode b_M_exSet 36 = .ok (.iload 5, 2) := by decide +kernel
theorem d_M_exSet_38 : decode b_M_exSet 38 = .ok (.invokevirtual 24, 3) := by decide +kernel
theorem d_M_exSet_41 : decode b_M_exSet 41 = .ok (.ifCond .eq 35, 3) := by decide +kernel
theorem d_M_exSet_44 : decode b_M_exSet 44 = .ok (.iload_n 1, 1) := by decide +kernel
theorem d_M_exSet_45 : decode b_M_exSet 45 = .ok (.aload_n 0, 1) := by decide +kernel
theorem d_M_exSet_46 : decode b_M_exSet 46 = .ok (.iload 5, 2) := by decide +kernel
theorem d_M_exSet_48 : decode b_M_exSet 48 = .ok (.invokevirtual 27, 3) := by decide +kernel
theorem d_M_exSet_51 : decode b_M_exSet 51 = .ok (.imul, 1) := by decide +kernel
theorem d_M_exSet_52 : decode b_M_exSet 52 = .ok (.iload_n 2, 1) := by decide +kernel
theorem d_M_exSet_53 : decode b_M_exSet 53 = .ok (.aload_n 0, 1) := by decide +kernel
theorem d_M_exSet_54 : decode b_M_exSet 54 = .ok (.iload 5, 2) := by decide +kernel
theorem d_M_exSet_56 : decode b_M_exSet 56 = .ok (.invokevirtual 31, 3) := by decide +kernel
theorem d_M_exSet_59 : decode b_M_exSet 59 = .ok (.imul, 1) := by decide +kernel
theorem d_M_exSet_60 : decode b_M_exSet 60 = .ok (.isub, 1) := by decide +kernel
theorem d_M_exSet_61 : decode b_M_exSet 61 = .ok (.istore 6, 2) := by decide +kernel
theorem d_M_exSet_63 : decode b_M_exSet 63 = .ok (.iload 6, 2) := by decide +kernel
theorem d_M_exSet_65 : decode b_M_exSet 65 = .ok (.iload_n 3, 1) := by decide +kernel
theorem d_M_exSet_66 : decode b_M_exSet 66 = .ok (.if_icmp .ne 10, 3) := by decide +kernel
theorem d_M_exSet_69 : decode b_M_exSet 69 = .ok (.iload 4, 2) := by decide +kernel
theorem d_M_exSet_71 : decode b_M_exSet 71 = .ok (.iload 5, 2) := by decide +kernel
theorem d_M_exSet_73 : decode b_M_exSet 73 = .ok (.ior, 1) := by decide +kernel
theorem d_M_exSet_74 : decode b_M_exSet 74 = .ok (.istore 4, 2) := by decide +kernel
theorem d_M_exSet_76 : decode b_M_exSet 76 = .ok (.iinc 5 1, 3) := by decide +kernel
theorem d_M_exSet_79 : decode b_M_exSet 79 = .ok (.goto (-55), 3) := by decide +kernel
theorem d_M_exSet_82 : decode b_M_exSet 82 = .ok (.iload 4, 2) := by decide +kernel
theorem d_M_exSet_84 : decode b_M_exSet 84 = .ok (.ireturn, 1) := by decide +kernel
end
section
theorem d_L_cell_0 : decode b_L_cell 0 = .ok (.iload_n 1, 1) := by decide +kernel
theorem d_L_cell_1 : decode b_L_cell 1 = .ok (.aload_n 0, 1) := by decide +kernel
theorem d_L_cell_2 : decode b_L_cell 2 = .ok (.arraylength, 1) := by decide +kernel
theorem d_L_cell_3 : decode b_L_cell 3 = .ok (.if_icmp .ge 9, 3) := by decide +kernel
theorem d_L_cell_6 : decode b_L_cell 6 = .ok (.aload_n 0, 1) := by decide +kernel
theorem d_L_cell_7 : decode b_L_cell 7 = .ok (.iload_n 1, 1) := by decide +kernel
theorem d_L_cell_8 : decode b_L_cell 8 = .ok (.iaload, 1) := by decide +kernel
theorem d_L_cell_9 : decode b_L_cell 9 = .ok (.goto 4, 3) := by decide +kernel
theorem d_L_cell_12 : decode b_L_cell 12 = .ok (.iconst 0, 1) := by decide +kernel
theorem d_L_cell_13 : decode b_L_cell 13 = .ok (.ireturn, 1) := by decide +kernel
theorem d_L_law_0 : decode b_L_law 0 = .ok (.new 7, 3) := by decide +kernel
theorem d_L_law_3 : decode b_L_law 3 = .ok (.dup, 1) := by decide +kernel
theorem d_L_law_4 : decode b_L_law 4 = .ok (.aload_n 0, 1) := by decide +kernel
theorem d_L_law_5 : decode b_L_law 5 = .ok (.iconst 0, 1) := by decide +kernel
theorem d_L_law_6 : decode b_L_law 6 = .ok (.invokestatic 9, 3) := by decide +kernel
theorem d_L_law_9 : decode b_L_law 9 = .ok (.invokespecial 15, 3) := by decide +kernel
theorem d_L_law_12 : decode b_L_law 12 = .ok (.astore_n 1, 1) := by decide +kernel
theorem d_L_law_13 : decode b_L_law 13 = .ok (.new 18, 3) := by decide +kernel
theorem d_L_law_16 : decode b_L_law 16 = .ok (.dup, 1) := by decide +kernel
theorem d_L_law_17 : decode b_L_law 17 = .ok (.aload_n 0, 1) := by decide +kernel
theorem d_L_law_18 : decode b_L_law 18 = .ok (.iconst 0, 1) := by decide +kernel
theorem d_L_law_19 : decode b_L_law 19 = .ok (.invokestatic 9, 3) := by decide +kernel
theorem d_L_law_22 : decode b_L_law 22 = .ok (.invokespecial 20, 3) := by decide +kernel
theorem d_L_law_25 : decode b_L_law 25 = .ok (.astore_n 2, 1) := by decide +kernel
theorem d_L_law_26 : decode b_L_law 26 = .ok (.iconst 1, 1) := by decide +kernel
theorem d_L_law_27 : decode b_L_law 27 = .ok (.istore_n 3, 1) := by decide +kernel
theorem d_L_law_28 : decode b_L_law 28 = .ok (.iload_n 3, 1) := by decide +kernel
theorem d_L_law_29 : decode b_L_law 29 = .ok (.aload_n 0, 1) := by decide +kernel
theorem d_L_law_30 : decode b_L_law 30 = .ok (.arraylength, 1) := by decide +kernel
theorem d_L_law_31 : decode b_L_law 31 = .ok (.iconst 4, 1) := by decide +kernel
theorem d_L_law_32 : decode b_L_law 32 = .ok (.isub, 1) := by decide +kernel
theorem d_L_law_33 : decode b_L_law 33 = .ok (.if_icmp .gt 302, 3) := by decide +kernel
theorem d_L_law_36 : decode b_L_law 36 = .ok (.aload_n 0, 1) := by decide +kernel
theorem d_L_law_37 : decode b_L_law 37 = .ok (.iload_n 3, 1) := by decide +kernel
theorem d_L_law_38 : decode b_L_law 38 = .ok (.iaload, 1) := by decide +kernel
theorem d_L_law_39 : decode b_L_law 39 = .ok (.bipush 15, 2) := by decide +kernel
theorem d_L_law_41 : decode b_L_law 41 = .ok (.iand, 1) := by decide +kernel
theorem d_L_law_42 : decode b_L_law 42 = .ok (.tableswitch 287 0 8 #[50, 93, 126, 159, 182, 195, 208, 221, 254], 50) := by decide +kernel
theorem d_L_law_92 : decode b_L_law 92 = .ok (.aload_n 1, 1) := by decide +kernel
theorem d_L_law_93 : decode b_L_law 93 = .ok (.aload_n 0, 1) := by decide +kernel
theorem d_L_law_94 : decode b_L_law 94 = .ok (.iload_n 3, 1) := by decide +kernel
theorem d_L_law_95 : decode b_L_law 95 = .ok (.iconst 1, 1) := by decide +kernel
theorem d_L_law_96 : decode b_L_law 96 = .ok (.iadd, 1) := by decide +kernel
theorem d_L_law_97 : decode b_L_law 97 = .ok (.iaload, 1) := by decide +kernel
theorem d_L_law_98 : decode b_L_law 98 = .ok (.aload_n 0, 1) := by decide +kernel
theorem d_L_law_99 : decode b_L_law 99 = .ok (.iload_n 3, 1) := by decide +kernel
theorem d_L_law_100 : decode b_L_law 100 = .ok (.iconst 2, 1) := by decide +kernel
theorem d_L_law_101 : decode b_L_law 101 = .ok (.iadd, 1) := by decide +kernel
theorem d_L_law_102 : decode b_L_law 102 = .ok (.iaload, 1) := by decide +kernel
theorem d_L_law_103 : decode b_L_law 103 = .ok (.aload_n 0, 1) := by decide +kernel
theorem d_L_law_104 : decode b_L_law 104 = .ok (.iload_n 3, 1) := by decide +kernel
theorem d_L_law_105 : decode b_L_law 105 = .ok (.iconst 3, 1) := by decide +kernel
theorem d_L_law_106 : decode b_L_law 106 = .ok (.iadd, 1) := by decide +kernel
theorem d_L_law_107 : decode b_L_law 107 = .ok (.iaload, 1) := by decide +kernel
theorem d_L_law_108 : decode b_L_law 108 = .ok (.invokevirtual 21, 3) := by decide +kernel
theorem d_L_law_111 : decode b_L_law 111 = .ok (.aload_n 2, 1) := by decide +kernel
theorem d_L_law_112 : decode b_L_law 112 = .ok (.aload_n 0, 1) := by decide +kernel
theorem d_L_law_113 : decode b_L_law 113 = .ok (.iload_n 3, 1) := by decide +kernel
theorem d_L_law_114 : decode b_L_law 114 = .ok (.iconst 1, 1) := by decide +kernel
theorem d_L_law_115 : decode b_L_law 115 = .ok (.iadd, 1) := by decide +kernel
theorem d_L_law_116 : decode b_L_law 116 = .ok (.iaload, 1) := by decide +kernel
theorem d_L_law_117 : decode b_L_law 117 = .ok (.aload_n 0, 1) := by decide +kernel
theorem d_L_law_118 : decode b_L_law 118 = .ok (.iload_n 3, 1) := by decide +kernel
theorem d_L_law_119 : decode b_L_law 119 = .ok (.iconst 2, 1) := by decide +kernel
theorem d_L_law_120 : decode b_L_law 120 = .ok (.iadd, 1) := by decide +kernel
theorem d_L_law_121 : decode b_L_law 121 = .ok (.iaload, 1) := by decide +kernel
theorem d_L_law_122 : decode b_L_law 122 = .ok (.aload_n 0, 1) := by decide +kernel
theorem d_L_law_123 : decode b_L_law 123 = .ok (.iload_n 3, 1) := by decide +kernel
theorem d_L_law_124 : decode b_L_law 124 = .ok (.iconst 3, 1) := by decide +kernel
theorem d_L_law_125 : decode b_L_law 125 = .ok (.iadd, 1) := by decide +kernel
theorem d_L_law_126 : decode b_L_law 126 = .ok (.iaload, 1) := by decide +kernel
theorem d_L_law_127 : decode b_L_law 127 = .ok (.invokevirtual 25, 3) := by decide +kernel
theorem d_L_law_130 : decode b_L_law 130 = .ok (.if_icmp .eq 199, 3) := by decide +kernel
theorem d_L_law_133 : decode b_L_law 133 = .ok (.iconst 0, 1) := by decide +kernel
theorem d_L_law_134 : decode b_L_law 134 = .ok (.ireturn, 1) := by decide +kernel
theorem d_L_law_135 : decode b_L_law 135 = .ok (.aload_n 1, 1) := by decide +kernel
theorem d_L_law_136 : decode b_L_law 136 = .ok (.aload_n 0, 1) := by decide +kernel
theorem d_L_law_137 : decode b_L_law 137 = .ok (.iload_n 3, 1) := by decide +kernel
theorem d_L_law_138 : decode b_L_law 138 = .ok (.iconst 1, 1) := by decide +kernel
theorem d_L_law_139 : decode b_L_law 139 = .ok (.iadd, 1) := by decide +kernel
theorem d_L_law_140 : decode b_L_law 140 = .ok (.iaload, 1) := by decide +kernel
theorem d_L_law_141 : decode b_L_law 141 = .ok (.aload_n 0, 1) := by decide +kernel
theorem d_L_law_142 : decode b_L_law 142 = .ok (.iload_n 3, 1) := by decide +kernel
theorem d_L_law_143 : decode b_L_law 143 = .ok (.iconst 2, 1) := by decide +kernel
theorem d_L_law_144 : decode b_L_law 144 = .ok (.iadd, 1) := by decide +kernel
theorem d_L_law_145 : decode b_L_law 145 = .ok (.iaload, 1) := by decide +kernel
theorem d_L_law_146 : decode b_L_law 146 = .ok (.invokevirtual 26, 3) := by decide +kernel
theorem d_L_law_149 : decode b_L_law 149 = .ok (.aload_n 2, 1) := by decide +kernel
theorem d_L_law_150 : decode b_L_law 150 = .ok (.aload_n 0, 1) := by decide +kernel
theorem d_L_law_151 : decode b_L_law 151 = .ok (.iload_n 3, 1) := by decide +kernel
theorem d_L_law_152 : decode b_L_law 152 = .ok (.iconst 1, 1) := by decide +kernel
theorem d_L_law_153 : decode b_L_law 153 = .ok (.iadd, 1) := by decide +kernel
theorem d_L_law_154 : decode b_L_law 154 = .ok (.iaload, 1) := by decide +kernel
theorem d_L_law_155 : decode b_L_law 155 = .ok (.aload_n 0, 1) := by decide +kernel
theorem d_L_law_156 : decode b_L_law 156 = .ok (.iload_n 3, 1) := by decide +kernel
theorem d_L_law_157 : decode b_L_law 157 = .ok (.iconst 2, 1) := by decide +kernel
theorem d_L_law_158 : decode b_L_law 158 = .ok (.iadd, 1) := by decide +kernel
theorem d_L_law_159 : decode b_L_law 159 = .ok (.iaload, 1) := by decide +kernel
theorem d_L_law_160 : decode b_L_law 160 = .ok (.invokevirtual 30, 3) := by decide +kernel
theorem d_L_law_163 : decode b_L_law 163 = .ok (.if_icmp .eq 166, 3) := by decide +kernel
theorem d_L_law_166 : decode b_L_law 166 = .ok (.iconst 0, 1) := by decide +kernel
theorem d_L_law_167 : decode b_L_law 167 = .ok (.ireturn, 1) := by decide +kernel
theorem d_L_law_168 : decode b_L_law 168 = .ok (.aload_n 1, 1) := by decide +kernel
theorem d_L_law_169 : decode b_L_law 169 = .ok (.aload_n 0, 1) := by decide +kernel
theorem d_L_law_170 : decode b_L_law 170 = .ok (.iload_n 3, 1) := by decide +kernel
theorem d_L_law_171 : decode b_L_law 171 = .ok (.iconst 1, 1) := by decide +kernel
theorem d_L_law_172 : decode b_L_law 172 = .ok (.iadd, 1) := by decide +kernel
theorem d_L_law_173 : decode b_L_law 173 = .ok (.iaload, 1) := by decide +kernel
theorem d_L_law_174 : decode b_L_law 174 = .ok (.aload_n 0, 1) := by decide +kernel
theorem d_L_law_175 : decode b_L_law 175 = .ok (.iload_n 3, 1) := by decide +kernel
theorem d_L_law_176 : decode b_L_law 176 = .ok (.iconst 2, 1) := by decide +kernel
theorem d_L_law_177 : decode b_L_law 177 = .ok (.iadd, 1) := by decide +kernel
theorem d_L_law_178 : decode b_L_law 178 = .ok (.iaload, 1) := by decide +kernel
theorem d_L_law_179 : decode b_L_law 179 = .ok (.invokevirtual 31, 3) := by decide +kernel
theorem d_L_law_182 : decode b_L_law 182 = .ok (.aload_n 2, 1) := by decide +kernel
theorem d_L_law_183 : decode b_L_law 183 = .ok (.aload_n 0, 1) := by decide +kernel
theorem d_L_law_184 : decode b_L_law 184 = .ok (.iload_n 3, 1) := by decide +kernel
theorem d_L_law_185 : decode b_L_law 185 = .ok (.iconst 1, 1) := by decide +kernel
theorem d_L_law_186 : decode b_L_law 186 = .ok (.iadd, 1) := by decide +kernel
theorem d_L_law_187 : decode b_L_law 187 = .ok (.iaload, 1) := by decide +kernel
theorem d_L_law_188 : decode b_L_law 188 = .ok (.aload_n 0, 1) := by decide +kernel
theorem d_L_law_189 : decode b_L_law 189 = .ok (.iload_n 3, 1) := by decide +kernel
theorem d_L_law_190 : decode b_L_law 190 = .ok (.iconst 2, 1) := by decide +kernel
theorem d_L_law_191 : decode b_L_law 191 = .ok (.iadd, 1) := by decide +kernel
theorem d_L_law_192 : decode b_L_law 192 = .ok (.iaload, 1) := by decide +kernel
theorem d_L_law_193 : decode b_L_law 193 = .ok (.invokevirtual 34, 3) := by decide +kernel
theorem d_L_law_196 : decode b_L_law 196 = .ok (.if_icmp .eq 133, 3) := by decide +kernel
theorem d_L_law_199 : decode b_L_law 199 = .ok (.iconst 0, 1) := by decide +kernel
theorem d_L_law_200 : decode b_L_law 200 = .ok (.ireturn, 1) := by decide +kernel
theorem d_L_law_201 : decode b_L_law 201 = .ok (.aload_n 1, 1) := by decide +kernel
theorem d_L_law_202 : decode b_L_law 202 = .ok (.aload_n 0, 1) := by decide +kernel
theorem d_L_law_203 : decode b_L_law 203 = .ok (.iload_n 3, 1) := by decide +kernel
theorem d_L_law_204 : decode b_L_law 204 = .ok (.iconst 1, 1) := by decide +kernel
theorem d_L_law_205 : decode b_L_law 205 = .ok (.iadd, 1) := by decide +kernel
theorem d_L_law_206 : decode b_L_law 206 = .ok (.iaload, 1) := by decide +kernel
theorem d_L_law_207 : decode b_L_law 207 = .ok (.invokevirtual 35, 3) := by decide +kernel
theorem d_L_law_210 : decode b_L_law 210 = .ok (.aload_n 2, 1) := by decide +kernel
theorem d_L_law_211 : decode b_L_law 211 = .ok (.aload_n 0, 1) := by decide +kernel
theorem d_L_law_212 : decode b_L_law 212 = .ok (.iload_n 3, 1) := by decide +kernel
theorem d_L_law_213 : decode b_L_law 213 = .ok (.iconst 1, 1) := by decide +kernel
theorem d_L_law_214 : decode b_L_law 214 = .ok (.iadd, 1) := by decide +kernel
theorem d_L_law_215 : decode b_L_law 215 = .ok (.iaload, 1) := by decide +kernel
theorem d_L_law_216 : decode b_L_law 216 = .ok (.invokevirtual 39, 3) := by decide +kernel
theorem d_L_law_219 : decode b_L_law 219 = .ok (.if_icmp .eq 110, 3) := by decide +kernel
theorem d_L_law_222 : decode b_L_law 222 = .ok (.iconst 0, 1) := by decide +kernel
theorem d_L_law_223 : decode b_L_law 223 = .ok (.ireturn, 1) := by decide +kernel
theorem d_L_law_224 : decode b_L_law 224 = .ok (.aload_n 1, 1) := by decide +kernel
theorem d_L_law_225 : decode b_L_law 225 = .ok (.invokevirtual 40, 3) := by decide +kernel
theorem d_L_law_228 : decode b_L_law 228 = .ok (.aload_n 2, 1) := by decide +kernel
theorem d_L_law_229 : decode b_L_law 229 = .ok (.invokevirtual 44, 3) := by decide +kernel
theorem d_L_law_232 : decode b_L_law 232 = .ok (.if_icmp .eq 97, 3) := by decide +kernel
theorem d_L_law_235 : decode b_L_law 235 = .ok (.iconst 0, 1) := by decide +kernel
theorem d_L_law_236 : decode b_L_law 236 = .ok (.ireturn, 1) := by decide +kernel
theorem d_L_law_237 : decode b_L_law 237 = .ok (.aload_n 1, 1) := by decide +kernel
theorem d_L_law_238 : decode b_L_law 238 = .ok (.invokevirtual 45, 3) := by decide +kernel
theorem d_L_law_241 : decode b_L_law 241 = .ok (.aload_n 2, 1) := by decide +kernel
theorem d_L_law_242 : decode b_L_law 242 = .ok (.invokevirtual 48, 3) := by decide +kernel
theorem d_L_law_245 : decode b_L_law 245 = .ok (.if_icmp .eq 84, 3) := by decide +kernel
theorem d_L_law_248 : decode b_L_law 248 = .ok (.iconst 0, 1) := by decide +kernel
theorem d_L_law_249 : decode b_L_law 249 = .ok (.ireturn, 1) := by decide +kernel
theorem d_L_law_250 : decode b_L_law 250 = .ok (.aload_n 1, 1) := by decide +kernel
theorem d_L_law_251 : decode b_L_law 251 = .ok (.invokevirtual 49, 3) := by decide +kernel
theorem d_L_law_254 : decode b_L_law 254 = .ok (.aload_n 2, 1) := by decide +kernel
theorem d_L_law_255 : decode b_L_law 255 = .ok (.invokevirtual 52, 3) := by decide +kernel
theorem d_L_law_258 : decode b_L_law 258 = .ok (.if_icmp .eq 71, 3) := by decide +kernel
theorem d_L_law_261 : decode b_L_law 261 = .ok (.iconst 0, 1) := by decide +kernel
theorem d_L_law_262 : decode b_L_law 262 = .ok (.ireturn, 1) := by decide +kernel
theorem d_L_law_263 : decode b_L_law 263 = .ok (.aload_n 1, 1) := by decide +kernel
theorem d_L_law_264 : decode b_L_law 264 = .ok (.aload_n 0, 1) := by decide +kernel
theorem d_L_law_265 : decode b_L_law 265 = .ok (.iload_n 3, 1) := by decide +kernel
theorem d_L_law_266 : decode b_L_law 266 = .ok (.iconst 1, 1) := by decide +kernel
theorem d_L_law_267 : decode b_L_law 267 = .ok (.iadd, 1) := by decide +kernel
theorem d_L_law_268 : decode b_L_law 268 = .ok (.iaload, 1) := by decide +kernel
theorem d_L_law_269 : decode b_L_law 269 = .ok (.aload_n 0, 1) := by decide +kernel
theorem d_L_law_270 : decode b_L_law 270 = .ok (.iload_n 3, 1) := by decide +kernel
theorem d_L_law_271 : decode b_L_law 271 = .ok (.iconst 2, 1) := by decide +kernel
theorem d_L_law_272 : decode b_L_law 272 = .ok (.iadd, 1) := by decide +kernel
theorem d_L_law_273 : decode b_L_law 273 = .ok (.iaload, 1) := by decide +kernel
theorem d_L_law_274 : decode b_L_law 274 = .ok (.invokevirtual 53, 3) := by decide +kernel
theorem d_L_law_277 : decode b_L_law 277 = .ok (.aload_n 2, 1) := by decide +kernel
theorem d_L_law_278 : decode b_L_law 278 = .ok (.aload_n 0, 1) := by decide +kernel
theorem d_L_law_279 : decode b_L_law 279 = .ok (.iload_n 3, 1) := by decide +kernel
theorem d_L_law_280 : decode b_L_law 280 = .ok (.iconst 1, 1) := by decide +kernel
theorem d_L_law_281 : decode b_L_law 281 = .ok (.iadd, 1) := by decide +kernel
theorem d_L_law_282 : decode b_L_law 282 = .ok (.iaload, 1) := by decide +kernel
theorem d_L_law_283 : decode b_L_law 283 = .ok (.aload_n 0, 1) := by decide +kernel
theorem d_L_law_284 : decode b_L_law 284 = .ok (.iload_n 3, 1) := by decide +kernel
theorem d_L_law_285 : decode b_L_law 285 = .ok (.iconst 2, 1) := by decide +kernel
theorem d_L_law_286 : decode b_L_law 286 = .ok (.iadd, 1) := by decide +kernel
theorem d_L_law_287 : decode b_L_law 287 = .ok (.iaload, 1) := by decide +kernel
theorem d_L_law_288 : decode b_L_law 288 = .ok (.invokevirtual 56, 3) := by decide +kernel
theorem d_L_law_291 : decode b_L_law 291 = .ok (.if_icmp .eq 38, 3) := by decide +kernel
theorem d_L_law_294 : decode b_L_law 294 = .ok (.iconst 0, 1) := by decide +kernel
theorem d_L_law_295 : decode b_L_law 295 = .ok (.ireturn, 1) := by decide +kernel
theorem d_L_law_296 : decode b_L_law 296 = .ok (.aload_n 1, 1) := by decide +kernel
theorem d_L_law_297 : decode b_L_law 297 = .ok (.aload_n 0, 1) := by decide +kernel
theorem d_L_law_298 : decode b_L_law 298 = .ok (.iload_n 3, 1) := by decide +kernel
theorem d_L_law_299 : decode b_L_law 299 = .ok (.iconst 1, 1) := by decide +kernel
theorem d_L_law_300 : decode b_L_law 300 = .ok (.iadd, 1) := by decide +kernel
theorem d_L_law_301 : decode b_L_law 301 = .ok (.iaload, 1) := by decide +kernel
theorem d_L_law_302 : decode b_L_law 302 = .ok (.aload_n 0, 1) := by decide +kernel
theorem d_L_law_303 : decode b_L_law 303 = .ok (.iload_n 3, 1) := by decide +kernel
theorem d_L_law_304 : decode b_L_law 304 = .ok (.iconst 2, 1) := by decide +kernel
theorem d_L_law_305 : decode b_L_law 305 = .ok (.iadd, 1) := by decide +kernel
theorem d_L_law_306 : decode b_L_law 306 = .ok (.iaload, 1) := by decide +kernel
theorem d_L_law_307 : decode b_L_law 307 = .ok (.invokevirtual 57, 3) := by decide +kernel
theorem d_L_law_310 : decode b_L_law 310 = .ok (.aload_n 2, 1) := by decide +kernel
theorem d_L_law_311 : decode b_L_law 311 = .ok (.aload_n 0, 1) := by decide +kernel
theorem d_L_law_312 : decode b_L_law 312 = .ok (.iload_n 3, 1) := by decide +kernel
theorem d_L_law_313 : decode b_L_law 313 = .ok (.iconst 1, 1) := by decide +kernel
theorem d_L_law_314 : decode b_L_law 314 = .ok (.iadd, 1) := by decide +kernel
theorem d_L_law_315 : decode b_L_law 315 = .ok (.iaload, 1) := by decide +kernel
theorem d_L_law_316 : decode b_L_law 316 = .ok (.aload_n 0, 1) := by decide +kernel
theorem d_L_law_317 : decode b_L_law 317 = .ok (.iload_n 3, 1) := by decide +kernel
theorem d_L_law_318 : decode b_L_law 318 = .ok (.iconst 2, 1) := by decide +kernel
theorem d_L_law_319 : decode b_L_law 319 = .ok (.iadd, 1) := by decide +kernel
theorem d_L_law_320 : decode b_L_law 320 = .ok (.iaload, 1) := by decide +kernel
theorem d_L_law_321 : decode b_L_law 321 = .ok (.invokevirtual 60, 3) := by decide +kernel
theorem d_L_law_324 : decode b_L_law 324 = .ok (.if_icmp .eq 5, 3) := by decide +kernel
theorem d_L_law_327 : decode b_L_law 327 = .ok (.iconst 0, 1) := by decide +kernel
theorem d_L_law_328 : decode b_L_law 328 = .ok (.ireturn, 1) := by decide +kernel
theorem d_L_law_329 : decode b_L_law 329 = .ok (.iinc 3 4, 3) := by decide +kernel
theorem d_L_law_332 : decode b_L_law 332 = .ok (.goto (-304), 3) := by decide +kernel
theorem d_L_law_335 : decode b_L_law 335 = .ok (.iconst 1, 1) := by decide +kernel
theorem d_L_law_336 : decode b_L_law 336 = .ok (.ireturn, 1) := by decide +kernel
end
section
section OWN
variable {p : Program} {l : Launch} {e : Env} {R : Room} {s : State} {m : MethodId} {args : Array Value} {below : List Frame} {meth : Method} {c : Code} {H : Heap} {locs : List Loc} {cells slots : Nat} {Q : State → Prop} {cc : ByteArray} {pc nL : Nat} {ls : Array Slot} {rest : List Value} {own : String}
/-- the top of the stack by another name -/
theorem tp_i {x y : Int32} (h : x = y) (k : W p l e R s m args below meth c H locs cells slots Q (F0 m pc ls (.int y :: rest))) : W p l e R s m args below meth c H locs cells slots Q (F0 m pc ls (.int x :: rest)) := by rw [h]; exact k
theorem n_iadd (hx : p.tables.exec = Jvm.exec) (hb : c.code = cc) {a b : Nat} (hdg : decode cc pc = .ok (.iadd, 1)) (k : W p l e R s m args below meth c H locs cells slots Q (F0 m (pc + 1) ls (.int (nI (a + b)) :: rest))) : W p l e R s m args below meth c H locs cells slots Q (F0 m pc ls (.int (nI b) :: .int (nI a) :: rest)) :=
  lv_iadd hx hb hdg (tp_i (nI_add a b) k)
theorem n_imul (hx : p.tables.exec = Jvm.exec) (hb : c.code = cc) {a b : Nat} (hdg : decode cc pc = .ok (.imul, 1)) (k : W p l e R s m args below meth c H locs cells slots Q (F0 m (pc + 1) ls (.int (nI (a * b)) :: rest))) : W p l e R s m args below meth c H locs cells slots Q (F0 m pc ls (.int (nI b) :: .int (nI a) :: rest)) :=
  lv_imul hx hb hdg (tp_i (pk_mul a b) k)
theorem inc1 (k : Nat) : nI k + Int32.ofInt 1 = nI (k + 1) := nI_1 k
theorem dec1 (k : Nat) : nI (k + 1) + Int32.ofInt (-1) = nI k := pk_m1 k
theorem n_icmp_ge (hx : p.tables.exec = Jvm.exec) (hb : c.code = cc) {a b : Nat} {off : Int} {tgt : Nat} (hA : a < 2 ^ 31) (hB : b < 2 ^ 31) (hdg : decode cc pc = .ok (.if_icmp .ge off, 3)) (ht : (pc : Int) + off = (tgt : Int)) (kt : b ≤ a → W p l e R s m args below meth c H locs cells slots Q (F0 m tgt ls rest)) (kf : a < b → W p l e R s m args below meth c H locs cells slots Q (F0 m (pc + 3) ls rest)) : W p l e R s m args below meth c H locs cells slots Q (F0 m pc ls (.int (nI b) :: .int (nI a) :: rest)) :=
  lv_icmp_ge hx hb hdg ht (fun q => kt ((nI_leI hB hA).mp q)) (fun q => kf ((by rw [nI_leI hB hA] at q; omega)))
theorem n_icmp_lt (hx : p.tables.exec = Jvm.exec) (hb : c.code = cc) {a b : Nat} {off : Int} {tgt : Nat} (hA : a < 2 ^ 31) (hB : b < 2 ^ 31) (hdg : decode cc pc = .ok (.if_icmp .lt off, 3)) (ht : (pc : Int) + off = (tgt : Int)) (kt : a < b → W p l e R s m args below meth c H locs cells slots Q (F0 m tgt ls rest)) (kf : b ≤ a → W p l e R s m args below meth c H locs cells slots Q (F0 m (pc + 3) ls rest)) : W p l e R s m args below meth c H locs cells slots Q (F0 m pc ls (.int (nI b) :: .int (nI a) :: rest)) :=
  lv_icmp_lt hx hb hdg ht (fun q => kt ((nI_ltI hA hB).mp q)) (fun q => kf ((by rw [nI_ltI hA hB] at q; omega)))
theorem n_icmp_gt (hx : p.tables.exec = Jvm.exec) (hb : c.code = cc) {a b : Nat} {off : Int} {tgt : Nat} (hA : a < 2 ^ 31) (hB : b < 2 ^ 31) (hdg : decode cc pc = .ok (.if_icmp .gt off, 3)) (ht : (pc : Int) + off = (tgt : Int)) (kt : b < a → W p l e R s m args below meth c H locs cells slots Q (F0 m tgt ls rest)) (kf : a ≤ b → W p l e R s m args below meth c H locs cells slots Q (F0 m (pc + 3) ls rest)) : W p l e R s m args below meth c H locs cells slots Q (F0 m pc ls (.int (nI b) :: .int (nI a) :: rest)) :=
  lv_icmp_gt hx hb hdg ht (fun q => kt ((nI_ltI hB hA).mp q)) (fun q => kf ((by rw [nI_ltI hB hA] at q; omega)))
theorem n_icmp_le (hx : p.tables.exec = Jvm.exec) (hb : c.code = cc) {a b : Nat} {off : Int} {tgt : Nat} (hA : a < 2 ^ 31) (hB : b < 2 ^ 31) (hdg : decode cc pc = .ok (.if_icmp .le off, 3)) (ht : (pc : Int) + off = (tgt : Int)) (kt : a ≤ b → W p l e R s m args below meth c H locs cells slots Q (F0 m tgt ls rest)) (kf : b < a → W p l e R s m args below meth c H locs cells slots Q (F0 m (pc + 3) ls rest)) : W p l e R s m args below meth c H locs cells slots Q (F0 m pc ls (.int (nI b) :: .int (nI a) :: rest)) :=
  lv_icmp_le hx hb hdg ht (fun q => kt ((nI_leI hA hB).mp q)) (fun q => kf ((by rw [nI_leI hA hB] at q; omega)))
theorem n_icmp_eq (hx : p.tables.exec = Jvm.exec) (hb : c.code = cc) {a b : Nat} {off : Int} {tgt : Nat} (hA : a < 2 ^ 31) (hB : b < 2 ^ 31) (hdg : decode cc pc = .ok (.if_icmp .eq off, 3)) (ht : (pc : Int) + off = (tgt : Int)) (kt : a = b → W p l e R s m args below meth c H locs cells slots Q (F0 m tgt ls rest)) (kf : a ≠ b → W p l e R s m args below meth c H locs cells slots Q (F0 m (pc + 3) ls rest)) : W p l e R s m args below meth c H locs cells slots Q (F0 m pc ls (.int (nI b) :: .int (nI a) :: rest)) :=
  lv_icmp_eq hx hb hdg ht (fun q => kt ((nI_eq hA hB).mp q)) (fun q => kf (fun z => q ((nI_eq hA hB).mpr z)))
theorem n_icmp_ne (hx : p.tables.exec = Jvm.exec) (hb : c.code = cc) {a b : Nat} {off : Int} {tgt : Nat} (hA : a < 2 ^ 31) (hB : b < 2 ^ 31) (hdg : decode cc pc = .ok (.if_icmp .ne off, 3)) (ht : (pc : Int) + off = (tgt : Int)) (kt : a ≠ b → W p l e R s m args below meth c H locs cells slots Q (F0 m tgt ls rest)) (kf : a = b → W p l e R s m args below meth c H locs cells slots Q (F0 m (pc + 3) ls rest)) : W p l e R s m args below meth c H locs cells slots Q (F0 m pc ls (.int (nI b) :: .int (nI a) :: rest)) :=
  lv_icmp_ne hx hb hdg ht (fun q => kt (fun z => q ((nI_eq hA hB).mpr z))) (fun q => kf ((nI_eq hA hB).mp q))
end OWN
/-- a world's fixed numbers: classes and slots, addresses, the classes of int[] and boolean[] -/
abbrev GD : Type := va_G × (Nat → Nat) × ClassId × ClassId
/-- DensestSubgraph's state: n, pair, extra, modes, residual, cameFrom, queue, reaches, cutSet, bestTop, bestBottom, bestSet -/
abbrev DS : Type := Int32 × (Nat → Int32) × (Nat → Int32) × (Nat → Int32) × (Nat → Int32) × (Nat → Int32) × (Nat → Int32) × (Nat → Int32) × Int32 × Int32 × Int32 × Int32
/-- DensestSubgraphModel's state: n, w, modes -/
abbrev MS : Type := Int32 × (Nat → Int32) × (Nat → Int32)
def wD (g : GD) (u : DS) : va_W := match u with
  | (n, fp, fe, fm, fr, fc, fq, fb, cs, bt, bb, bs) => [(g.2.1 0, .inr (0, [.int n, .ref (g.2.1 1), .ref (g.2.1 2), .ref (g.2.1 3), .ref (g.2.1 4), .ref (g.2.1 5), .ref (g.2.1 6), .ref (g.2.1 7), .int cs, .int bt, .int bb, .int bs])), (g.2.1 1, .inl (g.2.2.1, 100, .inl fp)), (g.2.1 2, .inl (g.2.2.1, 10, .inl fe)), (g.2.1 3, .inl (g.2.2.1, 10, .inl fm)), (g.2.1 4, .inl (g.2.2.1, 144, .inl fr)), (g.2.1 5, .inl (g.2.2.1, 12, .inl fc)), (g.2.1 6, .inl (g.2.2.1, 12, .inl fq)), (g.2.1 7, .inl (g.2.2.2, 12, .inl fb))]
def wM (g : GD) (u : MS) : va_W := match u with
  | (n, fw, fm) => [(g.2.1 0, .inr (1, [.int n, .ref (g.2.1 1), .ref (g.2.1 2)])), (g.2.1 1, .inl (g.2.2.1, 100, .inl fw)), (g.2.1 2, .inl (g.2.2.1, 10, .inl fm))]
def KD (g : GD) (s : State) : Prop := va_K g.1 classes [(g.2.2.1, .int), (g.2.2.2, .boolean)] s
def KM (g : GD) (s : State) : Prop := va_K g.1 classes [(g.2.2.1, .int)] s
def RD (g : GD) (u : DS) (s : State) (H : Heap) : Prop := KD g s ∧ va_P g.1 classes (wD g u) H
def RM (g : GD) (u : MS) (s : State) (H : Heap) : Prop := KM g s ∧ va_P g.1 classes (wM g u) H
def WD (g : GD) (A : Nat → Prop) (H0 : Heap) (u : DS) (s : State) (H : Heap) (locs : List Loc) : Prop := RD g u s H ∧ va_D A (wD g u) ∧ va_S A H0 H locs
def WM (g : GD) (A : Nat → Prop) (H0 : Heap) (u : MS) (s : State) (H : Heap) (locs : List Loc) : Prop := RM g u s H ∧ va_D A (wM g u) ∧ va_S A H0 H locs
section OWN2
variable {p : Program} {l : Launch} {e : Env} {R : Room} {s : State} {m : MethodId} {args : Array Value} {below : List Frame} {meth : Method} {c : Code} {H : Heap} {locs : List Loc} {cells slots : Nat} {Q : State → Prop} {cc : ByteArray} {pc nL : Nat} {ls : Array Slot} {rest : List Value} {own : String} {g : GD} {A : Nat → Prop} {H0 : Heap}
theorem gD_n (X : CallFix p m c cc nL s args tb R_D) {n cs bt bb bs : Int32} {fp fe fm fr fc fq fb : Nat → Int32} (h : RD g (n, fp, fe, fm, fr, fc, fq, fb, cs, bt, bb, bs) s H) (hdg : decode cc pc = .ok (.getfield 32, 3)) (kk : W p l e R s m args below meth c H locs cells slots Q (F0 m (pc + 3) ls (.int n :: rest))) : W p l e R s m args below meth c H locs cells slots Q (F0 m pc ls (.ref (g.2.1 0) :: rest)) :=
  va_get (D := g.1) (ci := 0) (v := .int n) (C := R_D) (T := F_D) (N := 12) X.1 X.2.1 X.2.2.2.2 i_D X.2.2.2.1 h.1 h.2 0 rfl rfl 0 (by decide) (X.2.2.2.2 _ e_fl_D_n) (fun _ h9 => h9) rfl hdg kk
theorem gD_pair (X : CallFix p m c cc nL s args tb R_D) {n cs bt bb bs : Int32} {fp fe fm fr fc fq fb : Nat → Int32} (h : RD g (n, fp, fe, fm, fr, fc, fq, fb, cs, bt, bb, bs) s H) (hdg : decode cc pc = .ok (.getfield 7, 3)) (kk : W p l e R s m args below meth c H locs cells slots Q (F0 m (pc + 3) ls (.ref (g.2.1 1) :: rest))) : W p l e R s m args below meth c H locs cells slots Q (F0 m pc ls (.ref (g.2.1 0) :: rest)) :=
  va_get (D := g.1) (ci := 0) (v := .ref (g.2.1 1)) (C := R_D) (T := F_D) (N := 12) X.1 X.2.1 X.2.2.2.2 i_D X.2.2.2.1 h.1 h.2 0 rfl rfl 1 (by decide) (X.2.2.2.2 _ e_fl_D_pair) (fun _ h9 => h9) rfl hdg kk
theorem gD_extra (X : CallFix p m c cc nL s args tb R_D) {n cs bt bb bs : Int32} {fp fe fm fr fc fq fb : Nat → Int32} (h : RD g (n, fp, fe, fm, fr, fc, fq, fb, cs, bt, bb, bs) s H) (hdg : decode cc pc = .ok (.getfield 13, 3)) (kk : W p l e R s m args below meth c H locs cells slots Q (F0 m (pc + 3) ls (.ref (g.2.1 2) :: rest))) : W p l e R s m args below meth c H locs cells slots Q (F0 m pc ls (.ref (g.2.1 0) :: rest)) :=
  va_get (D := g.1) (ci := 0) (v := .ref (g.2.1 2)) (C := R_D) (T := F_D) (N := 12) X.1 X.2.1 X.2.2.2.2 i_D X.2.2.2.1 h.1 h.2 0 rfl rfl 2 (by decide) (X.2.2.2.2 _ e_fl_D_extra) (fun _ h9 => h9) rfl hdg kk
theorem gD_modes (X : CallFix p m c cc nL s args tb R_D) {n cs bt bb bs : Int32} {fp fe fm fr fc fq fb : Nat → Int32} (h : RD g (n, fp, fe, fm, fr, fc, fq, fb, cs, bt, bb, bs) s H) (hdg : decode cc pc = .ok (.getfield 16, 3)) (kk : W p l e R s m args below meth c H locs cells slots Q (F0 m (pc + 3) ls (.ref (g.2.1 3) :: rest))) : W p l e R s m args below meth c H locs cells slots Q (F0 m pc ls (.ref (g.2.1 0) :: rest)) :=
  va_get (D := g.1) (ci := 0) (v := .ref (g.2.1 3)) (C := R_D) (T := F_D) (N := 12) X.1 X.2.1 X.2.2.2.2 i_D X.2.2.2.1 h.1 h.2 0 rfl rfl 3 (by decide) (X.2.2.2.2 _ e_fl_D_modes) (fun _ h9 => h9) rfl hdg kk
theorem gD_residual (X : CallFix p m c cc nL s args tb R_D) {n cs bt bb bs : Int32} {fp fe fm fr fc fq fb : Nat → Int32} (h : RD g (n, fp, fe, fm, fr, fc, fq, fb, cs, bt, bb, bs) s H) (hdg : decode cc pc = .ok (.getfield 19, 3)) (kk : W p l e R s m args below meth c H locs cells slots Q (F0 m (pc + 3) ls (.ref (g.2.1 4) :: rest))) : W p l e R s m args below meth c H locs cells slots Q (F0 m pc ls (.ref (g.2.1 0) :: rest)) :=
  va_get (D := g.1) (ci := 0) (v := .ref (g.2.1 4)) (C := R_D) (T := F_D) (N := 12) X.1 X.2.1 X.2.2.2.2 i_D X.2.2.2.1 h.1 h.2 0 rfl rfl 4 (by decide) (X.2.2.2.2 _ e_fl_D_residual) (fun _ h9 => h9) rfl hdg kk
theorem gD_cameFrom (X : CallFix p m c cc nL s args tb R_D) {n cs bt bb bs : Int32} {fp fe fm fr fc fq fb : Nat → Int32} (h : RD g (n, fp, fe, fm, fr, fc, fq, fb, cs, bt, bb, bs) s H) (hdg : decode cc pc = .ok (.getfield 22, 3)) (kk : W p l e R s m args below meth c H locs cells slots Q (F0 m (pc + 3) ls (.ref (g.2.1 5) :: rest))) : W p l e R s m args below meth c H locs cells slots Q (F0 m pc ls (.ref (g.2.1 0) :: rest)) :=
  va_get (D := g.1) (ci := 0) (v := .ref (g.2.1 5)) (C := R_D) (T := F_D) (N := 12) X.1 X.2.1 X.2.2.2.2 i_D X.2.2.2.1 h.1 h.2 0 rfl rfl 5 (by decide) (X.2.2.2.2 _ e_fl_D_cameFrom) (fun _ h9 => h9) rfl hdg kk
theorem gD_queue (X : CallFix p m c cc nL s args tb R_D) {n cs bt bb bs : Int32} {fp fe fm fr fc fq fb : Nat → Int32} (h : RD g (n, fp, fe, fm, fr, fc, fq, fb, cs, bt, bb, bs) s H) (hdg : decode cc pc = .ok (.getfield 25, 3)) (kk : W p l e R s m args below meth c H locs cells slots Q (F0 m (pc + 3) ls (.ref (g.2.1 6) :: rest))) : W p l e R s m args below meth c H locs cells slots Q (F0 m pc ls (.ref (g.2.1 0) :: rest)) :=
  va_get (D := g.1) (ci := 0) (v := .ref (g.2.1 6)) (C := R_D) (T := F_D) (N := 12) X.1 X.2.1 X.2.2.2.2 i_D X.2.2.2.1 h.1 h.2 0 rfl rfl 6 (by decide) (X.2.2.2.2 _ e_fl_D_queue) (fun _ h9 => h9) rfl hdg kk
theorem gD_reaches (X : CallFix p m c cc nL s args tb R_D) {n cs bt bb bs : Int32} {fp fe fm fr fc fq fb : Nat → Int32} (h : RD g (n, fp, fe, fm, fr, fc, fq, fb, cs, bt, bb, bs) s H) (hdg : decode cc pc = .ok (.getfield 28, 3)) (kk : W p l e R s m args below meth c H locs cells slots Q (F0 m (pc + 3) ls (.ref (g.2.1 7) :: rest))) : W p l e R s m args below meth c H locs cells slots Q (F0 m pc ls (.ref (g.2.1 0) :: rest)) :=
  va_get (D := g.1) (ci := 0) (v := .ref (g.2.1 7)) (C := R_D) (T := F_D) (N := 12) X.1 X.2.1 X.2.2.2.2 i_D X.2.2.2.1 h.1 h.2 0 rfl rfl 7 (by decide) (X.2.2.2.2 _ e_fl_D_reaches) (fun _ h9 => h9) rfl hdg kk
theorem gD_cutSet (X : CallFix p m c cc nL s args tb R_D) {n cs bt bb bs : Int32} {fp fe fm fr fc fq fb : Nat → Int32} (h : RD g (n, fp, fe, fm, fr, fc, fq, fb, cs, bt, bb, bs) s H) (hdg : decode cc pc = .ok (.getfield 56, 3)) (kk : W p l e R s m args below meth c H locs cells slots Q (F0 m (pc + 3) ls (.int cs :: rest))) : W p l e R s m args below meth c H locs cells slots Q (F0 m pc ls (.ref (g.2.1 0) :: rest)) :=
  va_get (D := g.1) (ci := 0) (v := .int cs) (C := R_D) (T := F_D) (N := 12) X.1 X.2.1 X.2.2.2.2 i_D X.2.2.2.1 h.1 h.2 0 rfl rfl 8 (by decide) (X.2.2.2.2 _ e_fl_D_cutSet) (fun _ h9 => h9) rfl hdg kk
theorem gD_bestTop (X : CallFix p m c cc nL s args tb R_D) {n cs bt bb bs : Int32} {fp fe fm fr fc fq fb : Nat → Int32} (h : RD g (n, fp, fe, fm, fr, fc, fq, fb, cs, bt, bb, bs) s H) (hdg : decode cc pc = .ok (.getfield 70, 3)) (kk : W p l e R s m args below meth c H locs cells slots Q (F0 m (pc + 3) ls (.int bt :: rest))) : W p l e R s m args below meth c H locs cells slots Q (F0 m pc ls (.ref (g.2.1 0) :: rest)) :=
  va_get (D := g.1) (ci := 0) (v := .int bt) (C := R_D) (T := F_D) (N := 12) X.1 X.2.1 X.2.2.2.2 i_D X.2.2.2.1 h.1 h.2 0 rfl rfl 9 (by decide) (X.2.2.2.2 _ e_fl_D_bestTop) (fun _ h9 => h9) rfl hdg kk
theorem gD_bestBottom (X : CallFix p m c cc nL s args tb R_D) {n cs bt bb bs : Int32} {fp fe fm fr fc fq fb : Nat → Int32} (h : RD g (n, fp, fe, fm, fr, fc, fq, fb, cs, bt, bb, bs) s H) (hdg : decode cc pc = .ok (.getfield 73, 3)) (kk : W p l e R s m args below meth c H locs cells slots Q (F0 m (pc + 3) ls (.int bb :: rest))) : W p l e R s m args below meth c H locs cells slots Q (F0 m pc ls (.ref (g.2.1 0) :: rest)) :=
  va_get (D := g.1) (ci := 0) (v := .int bb) (C := R_D) (T := F_D) (N := 12) X.1 X.2.1 X.2.2.2.2 i_D X.2.2.2.1 h.1 h.2 0 rfl rfl 10 (by decide) (X.2.2.2.2 _ e_fl_D_bestBottom) (fun _ h9 => h9) rfl hdg kk
theorem gD_bestSet (X : CallFix p m c cc nL s args tb R_D) {n cs bt bb bs : Int32} {fp fe fm fr fc fq fb : Nat → Int32} (h : RD g (n, fp, fe, fm, fr, fc, fq, fb, cs, bt, bb, bs) s H) (hdg : decode cc pc = .ok (.getfield 76, 3)) (kk : W p l e R s m args below meth c H locs cells slots Q (F0 m (pc + 3) ls (.int bs :: rest))) : W p l e R s m args below meth c H locs cells slots Q (F0 m pc ls (.ref (g.2.1 0) :: rest)) :=
  va_get (D := g.1) (ci := 0) (v := .int bs) (C := R_D) (T := F_D) (N := 12) X.1 X.2.1 X.2.2.2.2 i_D X.2.2.2.1 h.1 h.2 0 rfl rfl 11 (by decide) (X.2.2.2.2 _ e_fl_D_bestSet) (fun _ h9 => h9) rfl hdg kk
theorem ld_fp (X : CallFix p m c cc nL s args tb own) {n cs bt bb bs : Int32} {fp fe fm fr fc fq fb : Nat → Int32} {i : Nat} (h : RD g (n, fp, fe, fm, fr, fc, fq, fb, cs, bt, bb, bs) s H) (hi : i < 100) (hdg : decode cc pc = .ok (.iaload, 1)) (kk : W p l e R s m args below meth c H locs cells slots Q (F0 m (pc + 1) ls (.int (fp i) :: rest))) : W p l e R s m args below meth c H locs cells slots Q (F0 m pc ls (.int (nI i) :: .ref (g.2.1 1) :: rest)) :=
  va_iald X.1 X.2.1 h.1 h.2 1 0 rfl rfl (vp_in_nI hi (by decide)) hdg (tp_i (by rw [nI_clamp (by omega)]) kk)
theorem ld_fe (X : CallFix p m c cc nL s args tb own) {n cs bt bb bs : Int32} {fp fe fm fr fc fq fb : Nat → Int32} {i : Nat} (h : RD g (n, fp, fe, fm, fr, fc, fq, fb, cs, bt, bb, bs) s H) (hi : i < 10) (hdg : decode cc pc = .ok (.iaload, 1)) (kk : W p l e R s m args below meth c H locs cells slots Q (F0 m (pc + 1) ls (.int (fe i) :: rest))) : W p l e R s m args below meth c H locs cells slots Q (F0 m pc ls (.int (nI i) :: .ref (g.2.1 2) :: rest)) :=
  va_iald X.1 X.2.1 h.1 h.2 2 0 rfl rfl (vp_in_nI hi (by decide)) hdg (tp_i (by rw [nI_clamp (by omega)]) kk)
theorem ld_fm (X : CallFix p m c cc nL s args tb own) {n cs bt bb bs : Int32} {fp fe fm fr fc fq fb : Nat → Int32} {i : Nat} (h : RD g (n, fp, fe, fm, fr, fc, fq, fb, cs, bt, bb, bs) s H) (hi : i < 10) (hdg : decode cc pc = .ok (.iaload, 1)) (kk : W p l e R s m args below meth c H locs cells slots Q (F0 m (pc + 1) ls (.int (fm i) :: rest))) : W p l e R s m args below meth c H locs cells slots Q (F0 m pc ls (.int (nI i) :: .ref (g.2.1 3) :: rest)) :=
  va_iald X.1 X.2.1 h.1 h.2 3 0 rfl rfl (vp_in_nI hi (by decide)) hdg (tp_i (by rw [nI_clamp (by omega)]) kk)
theorem ld_fr (X : CallFix p m c cc nL s args tb own) {n cs bt bb bs : Int32} {fp fe fm fr fc fq fb : Nat → Int32} {i : Nat} (h : RD g (n, fp, fe, fm, fr, fc, fq, fb, cs, bt, bb, bs) s H) (hi : i < 144) (hdg : decode cc pc = .ok (.iaload, 1)) (kk : W p l e R s m args below meth c H locs cells slots Q (F0 m (pc + 1) ls (.int (fr i) :: rest))) : W p l e R s m args below meth c H locs cells slots Q (F0 m pc ls (.int (nI i) :: .ref (g.2.1 4) :: rest)) :=
  va_iald X.1 X.2.1 h.1 h.2 4 0 rfl rfl (vp_in_nI hi (by decide)) hdg (tp_i (by rw [nI_clamp (by omega)]) kk)
theorem ld_fc (X : CallFix p m c cc nL s args tb own) {n cs bt bb bs : Int32} {fp fe fm fr fc fq fb : Nat → Int32} {i : Nat} (h : RD g (n, fp, fe, fm, fr, fc, fq, fb, cs, bt, bb, bs) s H) (hi : i < 12) (hdg : decode cc pc = .ok (.iaload, 1)) (kk : W p l e R s m args below meth c H locs cells slots Q (F0 m (pc + 1) ls (.int (fc i) :: rest))) : W p l e R s m args below meth c H locs cells slots Q (F0 m pc ls (.int (nI i) :: .ref (g.2.1 5) :: rest)) :=
  va_iald X.1 X.2.1 h.1 h.2 5 0 rfl rfl (vp_in_nI hi (by decide)) hdg (tp_i (by rw [nI_clamp (by omega)]) kk)
theorem ld_fq (X : CallFix p m c cc nL s args tb own) {n cs bt bb bs : Int32} {fp fe fm fr fc fq fb : Nat → Int32} {i : Nat} (h : RD g (n, fp, fe, fm, fr, fc, fq, fb, cs, bt, bb, bs) s H) (hi : i < 12) (hdg : decode cc pc = .ok (.iaload, 1)) (kk : W p l e R s m args below meth c H locs cells slots Q (F0 m (pc + 1) ls (.int (fq i) :: rest))) : W p l e R s m args below meth c H locs cells slots Q (F0 m pc ls (.int (nI i) :: .ref (g.2.1 6) :: rest)) :=
  va_iald X.1 X.2.1 h.1 h.2 6 0 rfl rfl (vp_in_nI hi (by decide)) hdg (tp_i (by rw [nI_clamp (by omega)]) kk)
theorem ld_fb (X : CallFix p m c cc nL s args tb own) {n cs bt bb bs : Int32} {fp fe fm fr fc fq fb : Nat → Int32} {i : Nat} (h : RD g (n, fp, fe, fm, fr, fc, fq, fb, cs, bt, bb, bs) s H) (hi : i < 12) (hdg : decode cc pc = .ok (.baload, 1)) (kk : W p l e R s m args below meth c H locs cells slots Q (F0 m (pc + 1) ls (.int (fb i) :: rest))) : W p l e R s m args below meth c H locs cells slots Q (F0 m pc ls (.int (nI i) :: .ref (g.2.1 7) :: rest)) :=
  va_zald X.1 X.2.1 h.1 h.2 7 1 rfl rfl (vp_in_nI hi (by decide)) hdg (tp_i (by rw [nI_clamp (by omega)]) kk)
theorem st_fp (X : CallFix p m c cc nL s args tb own) {n cs bt bb bs : Int32} {fp fe fm fr fc fq fb : Nat → Int32} {i : Nat} {x : Int32} (h : WD g A H0 (n, fp, fe, fm, fr, fc, fq, fb, cs, bt, bb, bs) s H locs) (hi : i < 100) (hdg : decode cc pc = .ok (.iastore, 1)) (kk : ∀ (H1 : Heap) (locs1 : List Loc), WD g A H0 (n, upd fp i x, fe, fm, fr, fc, fq, fb, cs, bt, bb, bs) s H1 locs1 → W p l e R s m args below meth c H1 locs1 cells slots Q (F0 m (pc + 1) ls rest)) : W p l e R s m args below meth c H locs cells slots Q (F0 m pc ls (.int x :: .int (nI i) :: .ref (g.2.1 1) :: rest)) :=
  va_iast X.1 X.2.1 h.1.1 h.1.2 h.2.1 h.2.2 1 0 rfl rfl (vp_in_nI hi (by decide)) hdg (fun H1 locs1 a1 a2 a3 => kk H1 locs1 (by rw [nI_clamp (by omega)] at a1 a2; exact ⟨⟨h.1.1, a1⟩, a2, a3⟩))
theorem st_fe (X : CallFix p m c cc nL s args tb own) {n cs bt bb bs : Int32} {fp fe fm fr fc fq fb : Nat → Int32} {i : Nat} {x : Int32} (h : WD g A H0 (n, fp, fe, fm, fr, fc, fq, fb, cs, bt, bb, bs) s H locs) (hi : i < 10) (hdg : decode cc pc = .ok (.iastore, 1)) (kk : ∀ (H1 : Heap) (locs1 : List Loc), WD g A H0 (n, fp, upd fe i x, fm, fr, fc, fq, fb, cs, bt, bb, bs) s H1 locs1 → W p l e R s m args below meth c H1 locs1 cells slots Q (F0 m (pc + 1) ls rest)) : W p l e R s m args below meth c H locs cells slots Q (F0 m pc ls (.int x :: .int (nI i) :: .ref (g.2.1 2) :: rest)) :=
  va_iast X.1 X.2.1 h.1.1 h.1.2 h.2.1 h.2.2 2 0 rfl rfl (vp_in_nI hi (by decide)) hdg (fun H1 locs1 a1 a2 a3 => kk H1 locs1 (by rw [nI_clamp (by omega)] at a1 a2; exact ⟨⟨h.1.1, a1⟩, a2, a3⟩))
theorem st_fm (X : CallFix p m c cc nL s args tb own) {n cs bt bb bs : Int32} {fp fe fm fr fc fq fb : Nat → Int32} {i : Nat} {x : Int32} (h : WD g A H0 (n, fp, fe, fm, fr, fc, fq, fb, cs, bt, bb, bs) s H locs) (hi : i < 10) (hdg : decode cc pc = .ok (.iastore, 1)) (kk : ∀ (H1 : Heap) (locs1 : List Loc), WD g A H0 (n, fp, fe, upd fm i x, fr, fc, fq, fb, cs, bt, bb, bs) s H1 locs1 → W p l e R s m args below meth c H1 locs1 cells slots Q (F0 m (pc + 1) ls rest)) : W p l e R s m args below meth c H locs cells slots Q (F0 m pc ls (.int x :: .int (nI i) :: .ref (g.2.1 3) :: rest)) :=
  va_iast X.1 X.2.1 h.1.1 h.1.2 h.2.1 h.2.2 3 0 rfl rfl (vp_in_nI hi (by decide)) hdg (fun H1 locs1 a1 a2 a3 => kk H1 locs1 (by rw [nI_clamp (by omega)] at a1 a2; exact ⟨⟨h.1.1, a1⟩, a2, a3⟩))
theorem st_fr (X : CallFix p m c cc nL s args tb own) {n cs bt bb bs : Int32} {fp fe fm fr fc fq fb : Nat → Int32} {i : Nat} {x : Int32} (h : WD g A H0 (n, fp, fe, fm, fr, fc, fq, fb, cs, bt, bb, bs) s H locs) (hi : i < 144) (hdg : decode cc pc = .ok (.iastore, 1)) (kk : ∀ (H1 : Heap) (locs1 : List Loc), WD g A H0 (n, fp, fe, fm, upd fr i x, fc, fq, fb, cs, bt, bb, bs) s H1 locs1 → W p l e R s m args below meth c H1 locs1 cells slots Q (F0 m (pc + 1) ls rest)) : W p l e R s m args below meth c H locs cells slots Q (F0 m pc ls (.int x :: .int (nI i) :: .ref (g.2.1 4) :: rest)) :=
  va_iast X.1 X.2.1 h.1.1 h.1.2 h.2.1 h.2.2 4 0 rfl rfl (vp_in_nI hi (by decide)) hdg (fun H1 locs1 a1 a2 a3 => kk H1 locs1 (by rw [nI_clamp (by omega)] at a1 a2; exact ⟨⟨h.1.1, a1⟩, a2, a3⟩))
theorem st_fc (X : CallFix p m c cc nL s args tb own) {n cs bt bb bs : Int32} {fp fe fm fr fc fq fb : Nat → Int32} {i : Nat} {x : Int32} (h : WD g A H0 (n, fp, fe, fm, fr, fc, fq, fb, cs, bt, bb, bs) s H locs) (hi : i < 12) (hdg : decode cc pc = .ok (.iastore, 1)) (kk : ∀ (H1 : Heap) (locs1 : List Loc), WD g A H0 (n, fp, fe, fm, fr, upd fc i x, fq, fb, cs, bt, bb, bs) s H1 locs1 → W p l e R s m args below meth c H1 locs1 cells slots Q (F0 m (pc + 1) ls rest)) : W p l e R s m args below meth c H locs cells slots Q (F0 m pc ls (.int x :: .int (nI i) :: .ref (g.2.1 5) :: rest)) :=
  va_iast X.1 X.2.1 h.1.1 h.1.2 h.2.1 h.2.2 5 0 rfl rfl (vp_in_nI hi (by decide)) hdg (fun H1 locs1 a1 a2 a3 => kk H1 locs1 (by rw [nI_clamp (by omega)] at a1 a2; exact ⟨⟨h.1.1, a1⟩, a2, a3⟩))
theorem st_fq (X : CallFix p m c cc nL s args tb own) {n cs bt bb bs : Int32} {fp fe fm fr fc fq fb : Nat → Int32} {i : Nat} {x : Int32} (h : WD g A H0 (n, fp, fe, fm, fr, fc, fq, fb, cs, bt, bb, bs) s H locs) (hi : i < 12) (hdg : decode cc pc = .ok (.iastore, 1)) (kk : ∀ (H1 : Heap) (locs1 : List Loc), WD g A H0 (n, fp, fe, fm, fr, fc, upd fq i x, fb, cs, bt, bb, bs) s H1 locs1 → W p l e R s m args below meth c H1 locs1 cells slots Q (F0 m (pc + 1) ls rest)) : W p l e R s m args below meth c H locs cells slots Q (F0 m pc ls (.int x :: .int (nI i) :: .ref (g.2.1 6) :: rest)) :=
  va_iast X.1 X.2.1 h.1.1 h.1.2 h.2.1 h.2.2 6 0 rfl rfl (vp_in_nI hi (by decide)) hdg (fun H1 locs1 a1 a2 a3 => kk H1 locs1 (by rw [nI_clamp (by omega)] at a1 a2; exact ⟨⟨h.1.1, a1⟩, a2, a3⟩))
theorem st_fb (X : CallFix p m c cc nL s args tb own) {n cs bt bb bs : Int32} {fp fe fm fr fc fq fb : Nat → Int32} {i : Nat} {x : Int32} (h : WD g A H0 (n, fp, fe, fm, fr, fc, fq, fb, cs, bt, bb, bs) s H locs) (hi : i < 12) (hx2 : vp_nar .boolean x = x) (hdg : decode cc pc = .ok (.bastore, 1)) (kk : ∀ (H1 : Heap) (locs1 : List Loc), WD g A H0 (n, fp, fe, fm, fr, fc, fq, upd fb i x, cs, bt, bb, bs) s H1 locs1 → W p l e R s m args below meth c H1 locs1 cells slots Q (F0 m (pc + 1) ls rest)) : W p l e R s m args below meth c H locs cells slots Q (F0 m pc ls (.int x :: .int (nI i) :: .ref (g.2.1 7) :: rest)) :=
  va_zast X.1 X.2.1 h.1.1 h.1.2 h.2.1 h.2.2 7 1 rfl rfl (vp_in_nI hi (by decide)) hdg (fun H1 locs1 a1 a2 a3 => kk H1 locs1 (by rw [nI_clamp (by omega), hx2] at a1 a2; exact ⟨⟨h.1.1, a1⟩, a2, a3⟩))
theorem pD_cutSet (X : CallFix p m c cc nL s args tb R_D) {n cs bt bb bs : Int32} {fp fe fm fr fc fq fb : Nat → Int32} {x : Int32} (h : WD g A H0 (n, fp, fe, fm, fr, fc, fq, fb, cs, bt, bb, bs) s H locs) (hdg : decode cc pc = .ok (.putfield 56, 3)) (kk : ∀ (H1 : Heap) (locs1 : List Loc), WD g A H0 (n, fp, fe, fm, fr, fc, fq, fb, x, bt, bb, bs) s H1 locs1 → W p l e R s m args below meth c H1 locs1 cells slots Q (F0 m (pc + 3) ls rest)) : W p l e R s m args below meth c H locs cells slots Q (F0 m pc ls (.int x :: .ref (g.2.1 0) :: rest)) :=
  va_put (D := g.1) (ci := 0) (v := .int x) (ty := .int) (C := R_D) (T := F_D) (N := 12) X.1 X.2.1 X.2.2.2.2 i_D t_D t_D_ok n_D X.2.2.2.1 h.1.1 h.1.2 h.2.1 h.2.2 0 rfl rfl 8 (by decide) (X.2.2.2.2 _ e_fl_D_cutSet) (fun _ h9 => h9) rfl (by decide +kernel) rfl rfl (Nat.le_of_ble_eq_true rfl) hdg (fun H1 locs1 a1 a2 a3 => kk H1 locs1 ⟨⟨h.1.1, a1⟩, a2, a3⟩)
theorem pD_bestTop (X : CallFix p m c cc nL s args tb R_D) {n cs bt bb bs : Int32} {fp fe fm fr fc fq fb : Nat → Int32} {x : Int32} (h : WD g A H0 (n, fp, fe, fm, fr, fc, fq, fb, cs, bt, bb, bs) s H locs) (hdg : decode cc pc = .ok (.putfield 70, 3)) (kk : ∀ (H1 : Heap) (locs1 : List Loc), WD g A H0 (n, fp, fe, fm, fr, fc, fq, fb, cs, x, bb, bs) s H1 locs1 → W p l e R s m args below meth c H1 locs1 cells slots Q (F0 m (pc + 3) ls rest)) : W p l e R s m args below meth c H locs cells slots Q (F0 m pc ls (.int x :: .ref (g.2.1 0) :: rest)) :=
  va_put (D := g.1) (ci := 0) (v := .int x) (ty := .int) (C := R_D) (T := F_D) (N := 12) X.1 X.2.1 X.2.2.2.2 i_D t_D t_D_ok n_D X.2.2.2.1 h.1.1 h.1.2 h.2.1 h.2.2 0 rfl rfl 9 (by decide) (X.2.2.2.2 _ e_fl_D_bestTop) (fun _ h9 => h9) rfl (by decide +kernel) rfl rfl (Nat.le_of_ble_eq_true rfl) hdg (fun H1 locs1 a1 a2 a3 => kk H1 locs1 ⟨⟨h.1.1, a1⟩, a2, a3⟩)
theorem pD_bestBottom (X : CallFix p m c cc nL s args tb R_D) {n cs bt bb bs : Int32} {fp fe fm fr fc fq fb : Nat → Int32} {x : Int32} (h : WD g A H0 (n, fp, fe, fm, fr, fc, fq, fb, cs, bt, bb, bs) s H locs) (hdg : decode cc pc = .ok (.putfield 73, 3)) (kk : ∀ (H1 : Heap) (locs1 : List Loc), WD g A H0 (n, fp, fe, fm, fr, fc, fq, fb, cs, bt, x, bs) s H1 locs1 → W p l e R s m args below meth c H1 locs1 cells slots Q (F0 m (pc + 3) ls rest)) : W p l e R s m args below meth c H locs cells slots Q (F0 m pc ls (.int x :: .ref (g.2.1 0) :: rest)) :=
  va_put (D := g.1) (ci := 0) (v := .int x) (ty := .int) (C := R_D) (T := F_D) (N := 12) X.1 X.2.1 X.2.2.2.2 i_D t_D t_D_ok n_D X.2.2.2.1 h.1.1 h.1.2 h.2.1 h.2.2 0 rfl rfl 10 (by decide) (X.2.2.2.2 _ e_fl_D_bestBottom) (fun _ h9 => h9) rfl (by decide +kernel) rfl rfl (Nat.le_of_ble_eq_true rfl) hdg (fun H1 locs1 a1 a2 a3 => kk H1 locs1 ⟨⟨h.1.1, a1⟩, a2, a3⟩)
theorem pD_bestSet (X : CallFix p m c cc nL s args tb R_D) {n cs bt bb bs : Int32} {fp fe fm fr fc fq fb : Nat → Int32} {x : Int32} (h : WD g A H0 (n, fp, fe, fm, fr, fc, fq, fb, cs, bt, bb, bs) s H locs) (hdg : decode cc pc = .ok (.putfield 76, 3)) (kk : ∀ (H1 : Heap) (locs1 : List Loc), WD g A H0 (n, fp, fe, fm, fr, fc, fq, fb, cs, bt, bb, x) s H1 locs1 → W p l e R s m args below meth c H1 locs1 cells slots Q (F0 m (pc + 3) ls rest)) : W p l e R s m args below meth c H locs cells slots Q (F0 m pc ls (.int x :: .ref (g.2.1 0) :: rest)) :=
  va_put (D := g.1) (ci := 0) (v := .int x) (ty := .int) (C := R_D) (T := F_D) (N := 12) X.1 X.2.1 X.2.2.2.2 i_D t_D t_D_ok n_D X.2.2.2.1 h.1.1 h.1.2 h.2.1 h.2.2 0 rfl rfl 11 (by decide) (X.2.2.2.2 _ e_fl_D_bestSet) (fun _ h9 => h9) rfl (by decide +kernel) rfl rfl (Nat.le_of_ble_eq_true rfl) hdg (fun H1 locs1 a1 a2 a3 => kk H1 locs1 ⟨⟨h.1.1, a1⟩, a2, a3⟩)
theorem gM_n (X : CallFix p m c cc nL s args tb R_M) {n : Int32} {fw fm : Nat → Int32} (h : RM g (n, fw, fm) s H) (hdg : decode cc pc = .ok (.getfield 16, 3)) (kk : W p l e R s m args below meth c H locs cells slots Q (F0 m (pc + 3) ls (.int n :: rest))) : W p l e R s m args below meth c H locs cells slots Q (F0 m pc ls (.ref (g.2.1 0) :: rest)) :=
  va_get (D := g.1) (ci := 1) (v := .int n) (C := R_M) (T := F_M) (N := 3) X.1 X.2.1 X.2.2.2.2 i_M X.2.2.2.1 h.1 h.2 0 rfl rfl 0 (by decide) (X.2.2.2.2 _ e_fl_M_n) (fun _ h9 => h9) rfl hdg kk
theorem gM_w (X : CallFix p m c cc nL s args tb R_M) {n : Int32} {fw fm : Nat → Int32} (h : RM g (n, fw, fm) s H) (hdg : decode cc pc = .ok (.getfield 7, 3)) (kk : W p l e R s m args below meth c H locs cells slots Q (F0 m (pc + 3) ls (.ref (g.2.1 1) :: rest))) : W p l e R s m args below meth c H locs cells slots Q (F0 m pc ls (.ref (g.2.1 0) :: rest)) :=
  va_get (D := g.1) (ci := 1) (v := .ref (g.2.1 1)) (C := R_M) (T := F_M) (N := 3) X.1 X.2.1 X.2.2.2.2 i_M X.2.2.2.1 h.1 h.2 0 rfl rfl 1 (by decide) (X.2.2.2.2 _ e_fl_M_w) (fun _ h9 => h9) rfl hdg kk
theorem gM_modes (X : CallFix p m c cc nL s args tb R_M) {n : Int32} {fw fm : Nat → Int32} (h : RM g (n, fw, fm) s H) (hdg : decode cc pc = .ok (.getfield 13, 3)) (kk : W p l e R s m args below meth c H locs cells slots Q (F0 m (pc + 3) ls (.ref (g.2.1 2) :: rest))) : W p l e R s m args below meth c H locs cells slots Q (F0 m pc ls (.ref (g.2.1 0) :: rest)) :=
  va_get (D := g.1) (ci := 1) (v := .ref (g.2.1 2)) (C := R_M) (T := F_M) (N := 3) X.1 X.2.1 X.2.2.2.2 i_M X.2.2.2.1 h.1 h.2 0 rfl rfl 2 (by decide) (X.2.2.2.2 _ e_fl_M_modes) (fun _ h9 => h9) rfl hdg kk
theorem lm_fw (X : CallFix p m c cc nL s args tb own) {n : Int32} {fw fm : Nat → Int32} {i : Nat} (h : RM g (n, fw, fm) s H) (hi : i < 100) (hdg : decode cc pc = .ok (.iaload, 1)) (kk : W p l e R s m args below meth c H locs cells slots Q (F0 m (pc + 1) ls (.int (fw i) :: rest))) : W p l e R s m args below meth c H locs cells slots Q (F0 m pc ls (.int (nI i) :: .ref (g.2.1 1) :: rest)) :=
  va_iald X.1 X.2.1 h.1 h.2 1 0 rfl rfl (vp_in_nI hi (by decide)) hdg (tp_i (by rw [nI_clamp (by omega)]) kk)
theorem sm_fw (X : CallFix p m c cc nL s args tb own) {n : Int32} {fw fm : Nat → Int32} {i : Nat} {x : Int32} (h : WM g A H0 (n, fw, fm) s H locs) (hi : i < 100) (hdg : decode cc pc = .ok (.iastore, 1)) (kk : ∀ (H1 : Heap) (locs1 : List Loc), WM g A H0 (n, upd fw i x, fm) s H1 locs1 → W p l e R s m args below meth c H1 locs1 cells slots Q (F0 m (pc + 1) ls rest)) : W p l e R s m args below meth c H locs cells slots Q (F0 m pc ls (.int x :: .int (nI i) :: .ref (g.2.1 1) :: rest)) :=
  va_iast X.1 X.2.1 h.1.1 h.1.2 h.2.1 h.2.2 1 0 rfl rfl (vp_in_nI hi (by decide)) hdg (fun H1 locs1 a1 a2 a3 => kk H1 locs1 (by rw [nI_clamp (by omega)] at a1 a2; exact ⟨⟨h.1.1, a1⟩, a2, a3⟩))
theorem lm_fm (X : CallFix p m c cc nL s args tb own) {n : Int32} {fw fm : Nat → Int32} {i : Nat} (h : RM g (n, fw, fm) s H) (hi : i < 10) (hdg : decode cc pc = .ok (.iaload, 1)) (kk : W p l e R s m args below meth c H locs cells slots Q (F0 m (pc + 1) ls (.int (fm i) :: rest))) : W p l e R s m args below meth c H locs cells slots Q (F0 m pc ls (.int (nI i) :: .ref (g.2.1 2) :: rest)) :=
  va_iald X.1 X.2.1 h.1 h.2 2 0 rfl rfl (vp_in_nI hi (by decide)) hdg (tp_i (by rw [nI_clamp (by omega)]) kk)
theorem sm_fm (X : CallFix p m c cc nL s args tb own) {n : Int32} {fw fm : Nat → Int32} {i : Nat} {x : Int32} (h : WM g A H0 (n, fw, fm) s H locs) (hi : i < 10) (hdg : decode cc pc = .ok (.iastore, 1)) (kk : ∀ (H1 : Heap) (locs1 : List Loc), WM g A H0 (n, fw, upd fm i x) s H1 locs1 → W p l e R s m args below meth c H1 locs1 cells slots Q (F0 m (pc + 1) ls rest)) : W p l e R s m args below meth c H locs cells slots Q (F0 m pc ls (.int x :: .int (nI i) :: .ref (g.2.1 2) :: rest)) :=
  va_iast X.1 X.2.1 h.1.1 h.1.2 h.2.1 h.2.2 2 0 rfl rfl (vp_in_nI hi (by decide)) hdg (fun H1 locs1 a1 a2 a3 => kk H1 locs1 (by rw [nI_clamp (by omega)] at a1 a2; exact ⟨⟨h.1.1, a1⟩, a2, a3⟩))
end OWN2
/-- a contract of a method that writes nothing, of an object of DensestSubgraph -/
def CRD (l : Launch) (y : MethodName) (w : Cond) (rm : Room) (g : GD) (u : DS) (As : List Value) (post : Int32 → Prop) : Prop := Met l y (w :: tb) rm (va_Pc (.ref (g.2.1 0) :: As) (fun U => RD g u U U.heap)) (vp_Si post) 0 0 (fun _ => False)
def CRM (l : Launch) (y : MethodName) (w : Cond) (rm : Room) (g : GD) (u : MS) (As : List Value) (post : Int32 → Prop) : Prop := Met l y (w :: tb) rm (va_Pc (.ref (g.2.1 0) :: As) (fun U => RM g u U U.heap)) (vp_Si post) 0 0 (fun _ => False)
/-- of a static method of ints -/
def CST (l : Launch) (y : MethodName) (w : Cond) (rm : Room) (As : List Value) (post : Int32 → Prop) : Prop := Met l y (w :: tb) rm (va_Pc As (fun _ => True)) (vp_Si post) 0 0 (fun _ => False)
/-- of a method that writes its object's cells, with an int (boolean) answer, and of a void one -/
def CWD (l : Launch) (y : MethodName) (w : Cond) (rm : Room) (g : GD) (u : DS) (As : List Value) (post : Int32 → DS → Prop) : Prop := ∀ sz, Met l y (w :: tb) rm (va_Pc (.ref (g.2.1 0) :: As) (fun U => U.heap.size = sz ∧ RD g u U U.heap ∧ va_D (fun _ => True) (wD g u))) (va_Qi post (fun u2 t => RD g u2 t t.heap ∧ va_D (va_A (wD g u) sz) (wD g u2)) (va_A (wD g u) sz)) 0 0 (va_A (wD g u) sz)
def CVD (l : Launch) (y : MethodName) (w : Cond) (rm : Room) (g : GD) (u : DS) (As : List Value) (post : DS → Prop) : Prop := ∀ sz, Met l y (w :: tb) rm (va_Pc (.ref (g.2.1 0) :: As) (fun U => U.heap.size = sz ∧ RD g u U U.heap ∧ va_D (fun _ => True) (wD g u))) (va_Qv post (fun u2 t => RD g u2 t t.heap ∧ va_D (va_A (wD g u) sz) (wD g u2)) (va_A (wD g u) sz)) 0 0 (va_A (wD g u) sz)
def CWM (l : Launch) (y : MethodName) (w : Cond) (rm : Room) (g : GD) (u : MS) (As : List Value) (post : Int32 → MS → Prop) : Prop := ∀ sz, Met l y (w :: tb) rm (va_Pc (.ref (g.2.1 0) :: As) (fun U => U.heap.size = sz ∧ RM g u U U.heap ∧ va_D (fun _ => True) (wM g u))) (va_Qi post (fun u2 t => RM g u2 t t.heap ∧ va_D (va_A (wM g u) sz) (wM g u2)) (va_A (wM g u) sz)) 0 0 (va_A (wM g u) sz)
section OWN3
variable {p : Program} {l : Launch} {e : Env} {R : Room} {s : State} {m : MethodId} {args : Array Value} {below : List Frame} {meth : Method} {c : Code} {H : Heap} {locs : List Loc} {cells slots : Nat} {Q : State → Prop} {cc : ByteArray} {pc nL : Nat} {ls : Array Slot} {rest : List Value} {own : String} {g : GD} {A : Nat → Prop} {H0 : Heap}
theorem RD.moved {u : DS} {U : State} (h : RD g u s H) (hvm : s.vm.Alike U.vm) (hH : U.heap = H) : RD g u U U.heap := ⟨va_K.moved hvm h.1, by rw [hH]; exact h.2⟩
theorem RM.moved {u : MS} {U : State} (h : RM g u s H) (hvm : s.vm.Alike U.vm) (hH : U.heap = H) : RM g u U U.heap := ⟨va_K.moved hvm h.1, by rw [hH]; exact h.2⟩
/-- calls of methods that write nothing -/
theorem callRD {y : MethodName} {bytes : ByteArray} {maxL n idx : Nat} {ret : Option FieldType} {rm : Room} {u : DS} {As st0 : List Value} {post : Int32 → Prop} (X : CallFix p m c cc nL s args tb own) (hls : ls.size = nL) (hM : CRD l y (.code y bytes maxL ret) rm g u As post)
    (h1 : Cond.methodLink own idx y ∈ tb) (h2 : Cond.instanceMethod y ∈ tb) (h3 : Cond.selects R_D y y ∈ tb) (h5 : Cond.code y bytes maxL ret ∈ tb) (hd : y.cls = R_D ∧ y.cls ≠ "java/lang/invoke/MethodHandle" ∧ y.cls ≠ "java/lang/invoke/VarHandle" ∧ (parseMethodDescriptor y.desc).map (fun d => d.parameters.length) = some n)
    (hr0 : rm.cells = 0 ∧ rm.slots = 0) (hR : rm.frames + 1 ≤ R.frames ∧ 8 + (maxL + 11) + rm.locals ≤ R.locals) (h : RD g u s H) (hn : As.length = n) (hst : st0 = As.reverse ++ .ref (g.2.1 0) :: rest) (hcat : (rest.map fun v => v.category).sum ≤ 8) (hc : cells ≤ R.cells ∧ slots ≤ R.slots) (hdg : decode cc pc = .ok (.invokevirtual idx, 3))
    (kk : ∀ r : Int32, post r → W p l e R s m args below meth c H locs cells slots Q (F0 m (pc + 3) ls (.int r :: rest))) : W p l e R s m args below meth c H locs cells slots Q (F0 m pc ls st0) :=
  vp_callSi (W.runV (As := As) (rest := rest) X hM (cwV n X.2.2.2.2 (good_V h1 h2 h3 e_in_D h5) rfl hr0.1 hr0.2 hd hR) ⟨fun a U f9 mk q => ⟨q.1, q.2.moved (Vm.Alike.refl U.vm) rfl⟩, va_recv h.1 h.2 (ci := 0) (q0 := 0) rfl rfl, fun U hU hW => ⟨rfl, h.moved hW.alike hU⟩⟩ rfl hn hls hst (lv_room hcat) hdg hc) kk
theorem callRM {y : MethodName} {bytes : ByteArray} {maxL n idx : Nat} {ret : Option FieldType} {rm : Room} {u : MS} {As st0 : List Value} {post : Int32 → Prop} (X : CallFix p m c cc nL s args tb own) (hls : ls.size = nL) (hM : CRM l y (.code y bytes maxL ret) rm g u As post)
    (h1 : Cond.methodLink own idx y ∈ tb) (h2 : Cond.instanceMethod y ∈ tb) (h3 : Cond.selects R_M y y ∈ tb) (h5 : Cond.code y bytes maxL ret ∈ tb) (hd : y.cls = R_M ∧ y.cls ≠ "java/lang/invoke/MethodHandle" ∧ y.cls ≠ "java/lang/invoke/VarHandle" ∧ (parseMethodDescriptor y.desc).map (fun d => d.parameters.length) = some n)
    (hr0 : rm.cells = 0 ∧ rm.slots = 0) (hR : rm.frames + 1 ≤ R.frames ∧ 8 + (maxL + 11) + rm.locals ≤ R.locals) (h : RM g u s H) (hn : As.length = n) (hst : st0 = As.reverse ++ .ref (g.2.1 0) :: rest) (hcat : (rest.map fun v => v.category).sum ≤ 8) (hc : cells ≤ R.cells ∧ slots ≤ R.slots) (hdg : decode cc pc = .ok (.invokevirtual idx, 3))
    (kk : ∀ r : Int32, post r → W p l e R s m args below meth c H locs cells slots Q (F0 m (pc + 3) ls (.int r :: rest))) : W p l e R s m args below meth c H locs cells slots Q (F0 m pc ls st0) :=
  vp_callSi (W.runV (As := As) (rest := rest) X hM (cwV n X.2.2.2.2 (good_V h1 h2 h3 e_in_M h5) rfl hr0.1 hr0.2 hd hR) ⟨fun a U f9 mk q => ⟨q.1, q.2.moved (Vm.Alike.refl U.vm) rfl⟩, va_recv h.1 h.2 (ci := 1) (q0 := 0) rfl rfl, fun U hU hW => ⟨rfl, h.moved hW.alike hU⟩⟩ rfl hn hls hst (lv_room hcat) hdg hc) kk
theorem callST {y : MethodName} {bytes : ByteArray} {maxL n idx : Nat} {ret : Option FieldType} {rm : Room} {As st0 : List Value} {post : Int32 → Prop} (X : CallFix p m c cc nL s args tb own) (hls : ls.size = nL) (hM : CST l y (.code y bytes maxL ret) rm As post)
    (h1 : Cond.methodLink own idx y ∈ tb) (h2 : Cond.static y ∈ tb) (h4 : Cond.initialized own ∈ tb) (h5 : Cond.code y bytes maxL ret ∈ tb) (hd : y.cls = own ∧ y.cls ≠ "java/lang/invoke/MethodHandle" ∧ y.cls ≠ "java/lang/invoke/VarHandle" ∧ (parseMethodDescriptor y.desc).map (fun d => d.parameters.length) = some n)
    (hr0 : rm.cells = 0 ∧ rm.slots = 0) (hR : rm.frames + 1 ≤ R.frames ∧ 8 + (maxL + 11) + rm.locals ≤ R.locals) (hn : As.length = n) (hst : st0 = As.reverse ++ rest) (hcat : (rest.map fun v => v.category).sum ≤ 8) (hc : cells ≤ R.cells ∧ slots ≤ R.slots) (hdg : decode cc pc = .ok (.invokestatic idx, 3))
    (kk : ∀ r : Int32, post r → W p l e R s m args below meth c H locs cells slots Q (F0 m (pc + 3) ls (.int r :: rest))) : W p l e R s m args below meth c H locs cells slots Q (F0 m pc ls st0) :=
  vp_callSi (W.runS (As := As) (rest := rest) X hM (cwS n X.2.2.2.2 (good_S h1 h2 h4 h5) rfl hr0.1 hr0.2 hd hR) ⟨fun a U f9 mk q => ⟨q.1, trivial⟩, fun U hU hW => ⟨rfl, trivial⟩⟩ rfl hn hls hst (lv_room hcat) hdg hc) kk
/-- the whole world of an object goes to a callee and comes back -/
theorem WD.back {u u2 : DS} {t : State} {H1 : Heap} {locs1 : List Loc} (h : WD g A H0 u s H locs) (hA : ∀ q, H0.size ≤ q → A q) (ht : t.heap = H1) (hvm : s.vm.Alike t.vm) (hB : RD g u2 t t.heap ∧ va_D (va_A (wD g u) H.size) (wD g u2)) (hS : va_S A H0 H1 locs1) : WD g A H0 u2 s H1 locs1 := by
  have hF : ∀ q, va_A (wD g u) H.size q → A q := va_free (wc := wD g u) h.2.1 h.2.2 hA [0, 1, 2, 3, 4, 5, 6, 7] rfl
  subst ht
  exact ⟨⟨va_K.moved hvm.symm hB.1.1, hB.1.2⟩, hB.2.weaken (fun k q _ hq => hF q.1 hq), hS⟩
theorem callWD {y : MethodName} {bytes : ByteArray} {maxL n idx : Nat} {ret : Option FieldType} {rm : Room} {u : DS} {As st0 : List Value} {post : Int32 → DS → Prop} (X : CallFix p m c cc nL s args tb own) (hls : ls.size = nL) (hM : CWD l y (.code y bytes maxL ret) rm g u As post)
    (h1 : Cond.methodLink own idx y ∈ tb) (h2 : Cond.instanceMethod y ∈ tb) (h3 : Cond.selects R_D y y ∈ tb) (h5 : Cond.code y bytes maxL ret ∈ tb) (hd : y.cls = R_D ∧ y.cls ≠ "java/lang/invoke/MethodHandle" ∧ y.cls ≠ "java/lang/invoke/VarHandle" ∧ (parseMethodDescriptor y.desc).map (fun d => d.parameters.length) = some n)
    (hr0 : rm.cells = 0 ∧ rm.slots = 0) (hR : rm.frames + 1 ≤ R.frames ∧ 8 + (maxL + 11) + rm.locals ≤ R.locals) (hA : ∀ q, H0.size ≤ q → A q) (h : WD g A H0 u s H locs) (hn : As.length = n) (hst : st0 = As.reverse ++ .ref (g.2.1 0) :: rest) (hcat : (rest.map fun v => v.category).sum ≤ 8) (hc : cells ≤ R.cells ∧ slots ≤ R.slots) (hdg : decode cc pc = .ok (.invokevirtual idx, 3))
    (kk : ∀ (r : Int32) (u2 : DS) (H1 : Heap) (locs1 : List Loc), post r u2 → WD g A H0 u2 s H1 locs1 → W p l e R s m args below meth c H1 locs1 cells slots Q (F0 m (pc + 3) ls (.int r :: rest))) : W p l e R s m args below meth c H locs cells slots Q (F0 m pc ls st0) := by
  have hF : ∀ q, va_A (wD g u) H.size q → A q := va_free (wc := wD g u) h.2.1 h.2.2 hA [0, 1, 2, 3, 4, 5, 6, 7] rfl
  exact va_calli (va_runV (As := As) (rest := rest) X (hM H.size) (cwV n X.2.2.2.2 (good_V h1 h2 h3 e_in_D h5) rfl hr0.1 hr0.2 hd hR) ⟨fun a U f9 mk q => ⟨q.1, q.2.1, q.2.2.1.moved (Vm.Alike.refl U.vm) rfl, q.2.2.2⟩, va_recv h.1.1 h.1.2 (ci := 0) (q0 := 0) rfl rfl, fun U hU hW => ⟨rfl, by rw [hU], h.1.moved hW.alike hU, h.2.1.weaken (fun _ _ _ _ => trivial)⟩⟩ rfl hn hls hst (lv_room hcat) hdg hc) h.2.2 (fun q _ hq => hF q hq) hF (fun r u2 t H1 locs1 ht hvm hw hB _ _ hS => kk r u2 H1 locs1 hw (h.back hA ht hvm hB hS))
theorem callVD {y : MethodName} {bytes : ByteArray} {maxL n idx : Nat} {ret : Option FieldType} {rm : Room} {u : DS} {As st0 : List Value} {post : DS → Prop} (X : CallFix p m c cc nL s args tb own) (hls : ls.size = nL) (hM : CVD l y (.code y bytes maxL ret) rm g u As post)
    (h1 : Cond.methodLink own idx y ∈ tb) (h2 : Cond.instanceMethod y ∈ tb) (h3 : Cond.selects R_D y y ∈ tb) (h5 : Cond.code y bytes maxL ret ∈ tb) (hd : y.cls = R_D ∧ y.cls ≠ "java/lang/invoke/MethodHandle" ∧ y.cls ≠ "java/lang/invoke/VarHandle" ∧ (parseMethodDescriptor y.desc).map (fun d => d.parameters.length) = some n)
    (hr0 : rm.cells = 0 ∧ rm.slots = 0) (hR : rm.frames + 1 ≤ R.frames ∧ 8 + (maxL + 11) + rm.locals ≤ R.locals) (hA : ∀ q, H0.size ≤ q → A q) (h : WD g A H0 u s H locs) (hn : As.length = n) (hst : st0 = As.reverse ++ .ref (g.2.1 0) :: rest) (hcat : (rest.map fun v => v.category).sum ≤ 8) (hc : cells ≤ R.cells ∧ slots ≤ R.slots) (hdg : decode cc pc = .ok (.invokevirtual idx, 3))
    (kk : ∀ (u2 : DS) (H1 : Heap) (locs1 : List Loc), post u2 → WD g A H0 u2 s H1 locs1 → W p l e R s m args below meth c H1 locs1 cells slots Q (F0 m (pc + 3) ls rest)) : W p l e R s m args below meth c H locs cells slots Q (F0 m pc ls st0) := by
  have hF : ∀ q, va_A (wD g u) H.size q → A q := va_free (wc := wD g u) h.2.1 h.2.2 hA [0, 1, 2, 3, 4, 5, 6, 7] rfl
  exact va_callv (va_runV (As := As) (rest := rest) X (hM H.size) (cwV n X.2.2.2.2 (good_V h1 h2 h3 e_in_D h5) rfl hr0.1 hr0.2 hd hR) ⟨fun a U f9 mk q => ⟨q.1, q.2.1, q.2.2.1.moved (Vm.Alike.refl U.vm) rfl, q.2.2.2⟩, va_recv h.1.1 h.1.2 (ci := 0) (q0 := 0) rfl rfl, fun U hU hW => ⟨rfl, by rw [hU], h.1.moved hW.alike hU, h.2.1.weaken (fun _ _ _ _ => trivial)⟩⟩ rfl hn hls hst (lv_room hcat) hdg hc) h.2.2 (fun q _ hq => hF q hq) hF (fun u2 t H1 locs1 ht hvm hw hB _ _ hS => kk u2 H1 locs1 hw (h.back hA ht hvm hB hS))
end OWN3
end
section
abbrev rm_D_init : Room := { frames := 1, cells := 7, slots := 300, locals := 12 }
abbrev rm_D_bad : Room := { frames := 0, cells := 0, slots := 0, locals := 0 }
theorem hd_D_bad : y_D_bad.cls = R_D ∧ y_D_bad.cls ≠ "java/lang/invoke/MethodHandle" ∧ y_D_bad.cls ≠ "java/lang/invoke/VarHandle" ∧ (parseMethodDescriptor y_D_bad.desc).map (fun d => d.parameters.length) = some 1 := by decide +kernel
abbrev rm_D_edge : Room := { frames := 1, cells := 0, slots := 0, locals := 21 }
theorem hd_D_edge : y_D_edge.cls = R_D ∧ y_D_edge.cls ≠ "java/lang/invoke/MethodHandle" ∧ y_D_edge.cls ≠ "java/lang/invoke/VarHandle" ∧ (parseMethodDescriptor y_D_edge.desc).map (fun d => d.parameters.length) = some 3 := by decide +kernel
abbrev rm_D_bonus : Room := { frames := 1, cells := 0, slots := 0, locals := 21 }
theorem hd_D_bonus : y_D_bonus.cls = R_D ∧ y_D_bonus.cls ≠ "java/lang/invoke/MethodHandle" ∧ y_D_bonus.cls ≠ "java/lang/invoke/VarHandle" ∧ (parseMethodDescriptor y_D_bonus.desc).map (fun d => d.parameters.length) = some 2 := by decide +kernel
abbrev rm_D_mode : Room := { frames := 1, cells := 0, slots := 0, locals := 21 }
theorem hd_D_mode : y_D_mode.cls = R_D ∧ y_D_mode.cls ≠ "java/lang/invoke/MethodHandle" ∧ y_D_mode.cls ≠ "java/lang/invoke/VarHandle" ∧ (parseMethodDescriptor y_D_mode.desc).map (fun d => d.parameters.length) = some 2 := by decide +kernel
abbrev rm_D_weight : Room := { frames := 0, cells := 0, slots := 0, locals := 0 }
theorem hd_D_weight : y_D_weight.cls = R_D ∧ y_D_weight.cls ≠ "java/lang/invoke/MethodHandle" ∧ y_D_weight.cls ≠ "java/lang/invoke/VarHandle" ∧ (parseMethodDescriptor y_D_weight.desc).map (fun d => d.parameters.length) = some 1 := by decide +kernel
abbrev rm_D_members : Room := { frames := 0, cells := 0, slots := 0, locals := 0 }
theorem hd_D_members : y_D_members.cls = R_D ∧ y_D_members.cls ≠ "java/lang/invoke/MethodHandle" ∧ y_D_members.cls ≠ "java/lang/invoke/VarHandle" ∧ (parseMethodDescriptor y_D_members.desc).map (fun d => d.parameters.length) = some 1 := by decide +kernel
abbrev rm_D_build : Room := { frames := 0, cells := 0, slots := 0, locals := 0 }
theorem hd_D_build : y_D_build.cls = R_D ∧ y_D_build.cls ≠ "java/lang/invoke/MethodHandle" ∧ y_D_build.cls ≠ "java/lang/invoke/VarHandle" ∧ (parseMethodDescriptor y_D_build.desc).map (fun d => d.parameters.length) = some 2 := by decide +kernel
abbrev rm_D_isNode : Room := { frames := 0, cells := 0, slots := 0, locals := 0 }
theorem hd_D_isNode : y_D_isNode.cls = R_D ∧ y_D_isNode.cls ≠ "java/lang/invoke/MethodHandle" ∧ y_D_isNode.cls ≠ "java/lang/invoke/VarHandle" ∧ (parseMethodDescriptor y_D_isNode.desc).map (fun d => d.parameters.length) = some 1 := by decide +kernel
abbrev rm_D_findWay : Room := { frames := 1, cells := 0, slots := 0, locals := 21 }
theorem hd_D_findWay : y_D_findWay.cls = R_D ∧ y_D_findWay.cls ≠ "java/lang/invoke/MethodHandle" ∧ y_D_findWay.cls ≠ "java/lang/invoke/VarHandle" ∧ (parseMethodDescriptor y_D_findWay.desc).map (fun d => d.parameters.length) = some 0 := by decide +kernel
abbrev rm_D_send : Room := { frames := 0, cells := 0, slots := 0, locals := 0 }
theorem hd_D_send : y_D_send.cls = R_D ∧ y_D_send.cls ≠ "java/lang/invoke/MethodHandle" ∧ y_D_send.cls ≠ "java/lang/invoke/VarHandle" ∧ (parseMethodDescriptor y_D_send.desc).map (fun d => d.parameters.length) = some 0 := by decide +kernel
abbrev rm_D_cut : Room := { frames := 2, cells := 0, slots := 0, locals := 45 }
theorem hd_D_cut : y_D_cut.cls = R_D ∧ y_D_cut.cls ≠ "java/lang/invoke/MethodHandle" ∧ y_D_cut.cls ≠ "java/lang/invoke/VarHandle" ∧ (parseMethodDescriptor y_D_cut.desc).map (fun d => d.parameters.length) = some 2 := by decide +kernel
abbrev rm_D_valueOf : Room := { frames := 1, cells := 0, slots := 0, locals := 24 }
theorem hd_D_valueOf : y_D_valueOf.cls = R_D ∧ y_D_valueOf.cls ≠ "java/lang/invoke/MethodHandle" ∧ y_D_valueOf.cls ≠ "java/lang/invoke/VarHandle" ∧ (parseMethodDescriptor y_D_valueOf.desc).map (fun d => d.parameters.length) = some 3 := by decide +kernel
abbrev rm_D_gcd : Room := { frames := 0, cells := 0, slots := 0, locals := 0 }
theorem hd_D_gcd : y_D_gcd.cls = R_D ∧ y_D_gcd.cls ≠ "java/lang/invoke/MethodHandle" ∧ y_D_gcd.cls ≠ "java/lang/invoke/VarHandle" ∧ (parseMethodDescriptor y_D_gcd.desc).map (fun d => d.parameters.length) = some 2 := by decide +kernel
abbrev rm_D_take : Room := { frames := 1, cells := 0, slots := 0, locals := 25 }
theorem hd_D_take : y_D_take.cls = R_D ∧ y_D_take.cls ≠ "java/lang/invoke/MethodHandle" ∧ y_D_take.cls ≠ "java/lang/invoke/VarHandle" ∧ (parseMethodDescriptor y_D_take.desc).map (fun d => d.parameters.length) = some 1 := by decide +kernel
abbrev rm_D_solve : Room := { frames := 3, cells := 0, slots := 0, locals := 72 }
theorem hd_D_solve : y_D_solve.cls = R_D ∧ y_D_solve.cls ≠ "java/lang/invoke/MethodHandle" ∧ y_D_solve.cls ≠ "java/lang/invoke/VarHandle" ∧ (parseMethodDescriptor y_D_solve.desc).map (fun d => d.parameters.length) = some 0 := by decide +kernel
abbrev rm_D_dTop : Room := { frames := 4, cells := 0, slots := 0, locals := 96 }
theorem hd_D_dTop : y_D_dTop.cls = R_D ∧ y_D_dTop.cls ≠ "java/lang/invoke/MethodHandle" ∧ y_D_dTop.cls ≠ "java/lang/invoke/VarHandle" ∧ (parseMethodDescriptor y_D_dTop.desc).map (fun d => d.parameters.length) = some 0 := by decide +kernel
abbrev rm_D_dBot : Room := { frames := 4, cells := 0, slots := 0, locals := 96 }
theorem hd_D_dBot : y_D_dBot.cls = R_D ∧ y_D_dBot.cls ≠ "java/lang/invoke/MethodHandle" ∧ y_D_dBot.cls ≠ "java/lang/invoke/VarHandle" ∧ (parseMethodDescriptor y_D_dBot.desc).map (fun d => d.parameters.length) = some 0 := by decide +kernel
abbrev rm_D_densest : Room := { frames := 4, cells := 0, slots := 0, locals := 96 }
theorem hd_D_densest : y_D_densest.cls = R_D ∧ y_D_densest.cls ≠ "java/lang/invoke/MethodHandle" ∧ y_D_densest.cls ≠ "java/lang/invoke/VarHandle" ∧ (parseMethodDescriptor y_D_densest.desc).map (fun d => d.parameters.length) = some 0 := by decide +kernel
abbrev rm_D_badPrice : Room := { frames := 0, cells := 0, slots := 0, locals := 0 }
theorem hd_D_badPrice : y_D_badPrice.cls = R_D ∧ y_D_badPrice.cls ≠ "java/lang/invoke/MethodHandle" ∧ y_D_badPrice.cls ≠ "java/lang/invoke/VarHandle" ∧ (parseMethodDescriptor y_D_badPrice.desc).map (fun d => d.parameters.length) = some 2 := by decide +kernel
abbrev rm_D_excess : Room := { frames := 3, cells := 0, slots := 0, locals := 72 }
theorem hd_D_excess : y_D_excess.cls = R_D ∧ y_D_excess.cls ≠ "java/lang/invoke/MethodHandle" ∧ y_D_excess.cls ≠ "java/lang/invoke/VarHandle" ∧ (parseMethodDescriptor y_D_excess.desc).map (fun d => d.parameters.length) = some 2 := by decide +kernel
abbrev rm_D_exSet : Room := { frames := 3, cells := 0, slots := 0, locals := 72 }
theorem hd_D_exSet : y_D_exSet.cls = R_D ∧ y_D_exSet.cls ≠ "java/lang/invoke/MethodHandle" ∧ y_D_exSet.cls ≠ "java/lang/invoke/VarHandle" ∧ (parseMethodDescriptor y_D_exSet.desc).map (fun d => d.parameters.length) = some 2 := by decide +kernel
abbrev rm_M_init : Room := { frames := 1, cells := 2, slots := 110, locals := 12 }
abbrev rm_M_bad : Room := { frames := 0, cells := 0, slots := 0, locals := 0 }
theorem hd_M_bad : y_M_bad.cls = R_M ∧ y_M_bad.cls ≠ "java/lang/invoke/MethodHandle" ∧ y_M_bad.cls ≠ "java/lang/invoke/VarHandle" ∧ (parseMethodDescriptor y_M_bad.desc).map (fun d => d.parameters.length) = some 1 := by decide +kernel
abbrev rm_M_edge : Room := { frames := 1, cells := 0, slots := 0, locals := 21 }
theorem hd_M_edge : y_M_edge.cls = R_M ∧ y_M_edge.cls ≠ "java/lang/invoke/MethodHandle" ∧ y_M_edge.cls ≠ "java/lang/invoke/VarHandle" ∧ (parseMethodDescriptor y_M_edge.desc).map (fun d => d.parameters.length) = some 3 := by decide +kernel
abbrev rm_M_bonus : Room := { frames := 1, cells := 0, slots := 0, locals := 21 }
theorem hd_M_bonus : y_M_bonus.cls = R_M ∧ y_M_bonus.cls ≠ "java/lang/invoke/MethodHandle" ∧ y_M_bonus.cls ≠ "java/lang/invoke/VarHandle" ∧ (parseMethodDescriptor y_M_bonus.desc).map (fun d => d.parameters.length) = some 2 := by decide +kernel
abbrev rm_M_mode : Room := { frames := 1, cells := 0, slots := 0, locals := 21 }
theorem hd_M_mode : y_M_mode.cls = R_M ∧ y_M_mode.cls ≠ "java/lang/invoke/MethodHandle" ∧ y_M_mode.cls ≠ "java/lang/invoke/VarHandle" ∧ (parseMethodDescriptor y_M_mode.desc).map (fun d => d.parameters.length) = some 2 := by decide +kernel
abbrev rm_M_weight : Room := { frames := 0, cells := 0, slots := 0, locals := 0 }
theorem hd_M_weight : y_M_weight.cls = R_M ∧ y_M_weight.cls ≠ "java/lang/invoke/MethodHandle" ∧ y_M_weight.cls ≠ "java/lang/invoke/VarHandle" ∧ (parseMethodDescriptor y_M_weight.desc).map (fun d => d.parameters.length) = some 1 := by decide +kernel
abbrev rm_M_size : Room := { frames := 0, cells := 0, slots := 0, locals := 0 }
theorem hd_M_size : y_M_size.cls = R_M ∧ y_M_size.cls ≠ "java/lang/invoke/MethodHandle" ∧ y_M_size.cls ≠ "java/lang/invoke/VarHandle" ∧ (parseMethodDescriptor y_M_size.desc).map (fun d => d.parameters.length) = some 1 := by decide +kernel
abbrev rm_M_allowed : Room := { frames := 0, cells := 0, slots := 0, locals := 0 }
theorem hd_M_allowed : y_M_allowed.cls = R_M ∧ y_M_allowed.cls ≠ "java/lang/invoke/MethodHandle" ∧ y_M_allowed.cls ≠ "java/lang/invoke/VarHandle" ∧ (parseMethodDescriptor y_M_allowed.desc).map (fun d => d.parameters.length) = some 1 := by decide +kernel
abbrev rm_M_one : Room := { frames := 1, cells := 0, slots := 0, locals := 24 }
theorem hd_M_one : y_M_one.cls = R_M ∧ y_M_one.cls ≠ "java/lang/invoke/MethodHandle" ∧ y_M_one.cls ≠ "java/lang/invoke/VarHandle" ∧ (parseMethodDescriptor y_M_one.desc).map (fun d => d.parameters.length) = some 0 := by decide +kernel
abbrev rm_M_common : Room := { frames := 1, cells := 0, slots := 0, locals := 24 }
theorem hd_M_common : y_M_common.cls = R_M ∧ y_M_common.cls ≠ "java/lang/invoke/MethodHandle" ∧ y_M_common.cls ≠ "java/lang/invoke/VarHandle" ∧ (parseMethodDescriptor y_M_common.desc).map (fun d => d.parameters.length) = some 1 := by decide +kernel
abbrev rm_M_dTop : Room := { frames := 2, cells := 0, slots := 0, locals := 50 }
theorem hd_M_dTop : y_M_dTop.cls = R_M ∧ y_M_dTop.cls ≠ "java/lang/invoke/MethodHandle" ∧ y_M_dTop.cls ≠ "java/lang/invoke/VarHandle" ∧ (parseMethodDescriptor y_M_dTop.desc).map (fun d => d.parameters.length) = some 0 := by decide +kernel
abbrev rm_M_dBot : Room := { frames := 2, cells := 0, slots := 0, locals := 50 }
theorem hd_M_dBot : y_M_dBot.cls = R_M ∧ y_M_dBot.cls ≠ "java/lang/invoke/MethodHandle" ∧ y_M_dBot.cls ≠ "java/lang/invoke/VarHandle" ∧ (parseMethodDescriptor y_M_dBot.desc).map (fun d => d.parameters.length) = some 0 := by decide +kernel
abbrev rm_M_densest : Room := { frames := 2, cells := 0, slots := 0, locals := 50 }
theorem hd_M_densest : y_M_densest.cls = R_M ∧ y_M_densest.cls ≠ "java/lang/invoke/MethodHandle" ∧ y_M_densest.cls ≠ "java/lang/invoke/VarHandle" ∧ (parseMethodDescriptor y_M_densest.desc).map (fun d => d.parameters.length) = some 0 := by decide +kernel
abbrev rm_M_badPrice : Room := { frames := 0, cells := 0, slots := 0, locals := 0 }
theorem hd_M_badPrice : y_M_badPrice.cls = R_M ∧ y_M_badPrice.cls ≠ "java/lang/invoke/MethodHandle" ∧ y_M_badPrice.cls ≠ "java/lang/invoke/VarHandle" ∧ (parseMethodDescriptor y_M_badPrice.desc).map (fun d => d.parameters.length) = some 2 := by decide +kernel
abbrev rm_M_excess : Room := { frames := 1, cells := 0, slots := 0, locals := 24 }
theorem hd_M_excess : y_M_excess.cls = R_M ∧ y_M_excess.cls ≠ "java/lang/invoke/MethodHandle" ∧ y_M_excess.cls ≠ "java/lang/invoke/VarHandle" ∧ (parseMethodDescriptor y_M_excess.desc).map (fun d => d.parameters.length) = some 2 := by decide +kernel
abbrev rm_M_exSet : Room := { frames := 2, cells := 0, slots := 0, locals := 49 }
theorem hd_M_exSet : y_M_exSet.cls = R_M ∧ y_M_exSet.cls ≠ "java/lang/invoke/MethodHandle" ∧ y_M_exSet.cls ≠ "java/lang/invoke/VarHandle" ∧ (parseMethodDescriptor y_M_exSet.desc).map (fun d => d.parameters.length) = some 2 := by decide +kernel
abbrev rm_L_cell : Room := { frames := 0, cells := 0, slots := 0, locals := 0 }
theorem hd_L_cell : y_L_cell.cls = R_law ∧ y_L_cell.cls ≠ "java/lang/invoke/MethodHandle" ∧ y_L_cell.cls ≠ "java/lang/invoke/VarHandle" ∧ (parseMethodDescriptor y_L_cell.desc).map (fun d => d.parameters.length) = some 2 := by decide +kernel
theorem htl_of {w : Cond} {args : Array Value} {s : State} (h : ∀ v ∈ w :: tb, v.before args s = true) : ∀ v ∈ tb, v.before args s = true := fun v hv => h v (List.mem_cons_of_mem _ hv)
section MK
variable {l : Launch} {y : MethodName} {cc : ByteArray} {maxL : Nat} {ret : Option FieldType} {rm : Room} {g : GD} {As : List Value}
theorem mkRD {u : DS} {post : Int32 → Prop} (hy : plainName y.cls = true) (hm : (lg_sl (.ref (g.2.1 0) :: As)).length ≤ maxL)
    (body : ∀ (p : Program) (e : Env) (s : State) (m : MethodId) (below : List Frame) (meth : Method) (c : Code) (ls : Array Slot), CallFix p m c cc maxL s (.ref (g.2.1 0) :: As).toArray tb y.cls → meth.sig.returnType = ret → meth.locks = false → RD g u s s.heap → lv_has ls maxL (lv_args 0 (.ref (g.2.1 0) :: As)) →
      W p l e rm s m (.ref (g.2.1 0) :: As).toArray below meth c s.heap [] 0 0 (MQ below (vp_Si post) (.ref (g.2.1 0) :: As).toArray s 0 0 (fun _ => False)) (F0 m 0 ls [])) : CRD l y (.code y cc maxL ret) rm g u As post := by
  skip
  refine Met.ofW (cc := cc) (maxL := maxL) (ret := ret) hy rfl ?_
  intro p e s m args below meth c s₁ B hml hv
  obtain ⟨rfl, h⟩ := hv
  have hts := htl_of (atoms_spec (ws := (.code y cc maxL ret :: tb)) B.pre)
  have hl := lv_entry (.ref (g.2.1 0) :: As) (n := maxL) hm
  rw [lg_entry_eq]
  generalize (lg_sl (.ref (g.2.1 0) :: As) ++ List.replicate (maxL - (lg_sl (.ref (g.2.1 0) :: As)).length) Slot.unset).toArray = ls at hl ⊢
  exact body p e s m below meth c ls ⟨B.exec, B.bytes, hml, findClass_of_methodNamed B.named, hts⟩ B.returns B.notSynchronized h hl
theorem mkRM {u : MS} {post : Int32 → Prop} (hy : plainName y.cls = true) (hm : (lg_sl (.ref (g.2.1 0) :: As)).length ≤ maxL)
    (body : ∀ (p : Program) (e : Env) (s : State) (m : MethodId) (below : List Frame) (meth : Method) (c : Code) (ls : Array Slot), CallFix p m c cc maxL s (.ref (g.2.1 0) :: As).toArray tb y.cls → meth.sig.returnType = ret → meth.locks = false → RM g u s s.heap → lv_has ls maxL (lv_args 0 (.ref (g.2.1 0) :: As)) →
      W p l e rm s m (.ref (g.2.1 0) :: As).toArray below meth c s.heap [] 0 0 (MQ below (vp_Si post) (.ref (g.2.1 0) :: As).toArray s 0 0 (fun _ => False)) (F0 m 0 ls [])) : CRM l y (.code y cc maxL ret) rm g u As post := by
  skip
  refine Met.ofW (cc := cc) (maxL := maxL) (ret := ret) hy rfl ?_
  intro p e s m args below meth c s₁ B hml hv
  obtain ⟨rfl, h⟩ := hv
  have hts := htl_of (atoms_spec (ws := (.code y cc maxL ret :: tb)) B.pre)
  have hl := lv_entry (.ref (g.2.1 0) :: As) (n := maxL) hm
  rw [lg_entry_eq]
  generalize (lg_sl (.ref (g.2.1 0) :: As) ++ List.replicate (maxL - (lg_sl (.ref (g.2.1 0) :: As)).length) Slot.unset).toArray = ls at hl ⊢
  exact body p e s m below meth c ls ⟨B.exec, B.bytes, hml, findClass_of_methodNamed B.named, hts⟩ B.returns B.notSynchronized h hl
theorem mkST {post : Int32 → Prop} (hy : plainName y.cls = true) (hm : (lg_sl (As)).length ≤ maxL)
    (body : ∀ (p : Program) (e : Env) (s : State) (m : MethodId) (below : List Frame) (meth : Method) (c : Code) (ls : Array Slot), CallFix p m c cc maxL s (As).toArray tb y.cls → meth.sig.returnType = ret → meth.locks = false → True → lv_has ls maxL (lv_args 0 (As)) →
      W p l e rm s m (As).toArray below meth c s.heap [] 0 0 (MQ below (vp_Si post) (As).toArray s 0 0 (fun _ => False)) (F0 m 0 ls [])) : CST l y (.code y cc maxL ret) rm As post := by
  skip
  refine Met.ofW (cc := cc) (maxL := maxL) (ret := ret) hy rfl ?_
  intro p e s m args below meth c s₁ B hml hv
  obtain ⟨rfl, h⟩ := hv
  have hts := htl_of (atoms_spec (ws := (.code y cc maxL ret :: tb)) B.pre)
  have hl := lv_entry (As) (n := maxL) hm
  rw [lg_entry_eq]
  generalize (lg_sl (As) ++ List.replicate (maxL - (lg_sl (As)).length) Slot.unset).toArray = ls at hl ⊢
  exact body p e s m below meth c ls ⟨B.exec, B.bytes, hml, findClass_of_methodNamed B.named, hts⟩ B.returns B.notSynchronized h hl
theorem mkWD {u : DS} {post : Int32 → DS → Prop} (hy : plainName y.cls = true) (hm : (lg_sl (.ref (g.2.1 0) :: As)).length ≤ maxL)
    (body : ∀ (p : Program) (e : Env) (s : State) (m : MethodId) (below : List Frame) (meth : Method) (c : Code) (ls : Array Slot), CallFix p m c cc maxL s (.ref (g.2.1 0) :: As).toArray tb y.cls → meth.sig.returnType = ret → meth.locks = false → WD g (va_A (wD g u) s.heap.size) s.heap u s s.heap [] → lv_has ls maxL (lv_args 0 (.ref (g.2.1 0) :: As)) →
      W p l e rm s m (.ref (g.2.1 0) :: As).toArray below meth c s.heap [] 0 0 (MQ below (va_Qi post (fun u2 t => RD g u2 t t.heap ∧ va_D (va_A (wD g u) s.heap.size) (wD g u2)) (va_A (wD g u) s.heap.size)) (.ref (g.2.1 0) :: As).toArray s 0 0 (va_A (wD g u) s.heap.size)) (F0 m 0 ls [])) : CWD l y (.code y cc maxL ret) rm g u As post := by
  intro sz
  refine Met.ofW (cc := cc) (maxL := maxL) (ret := ret) hy rfl ?_
  intro p e s m args below meth c s₁ B hml hv
  obtain ⟨rfl, rfl, h, hD⟩ := hv
  have hts := htl_of (atoms_spec (ws := (.code y cc maxL ret :: tb)) B.pre)
  have hl := lv_entry (.ref (g.2.1 0) :: As) (n := maxL) hm
  rw [lg_entry_eq]
  generalize (lg_sl (.ref (g.2.1 0) :: As) ++ List.replicate (maxL - (lg_sl (.ref (g.2.1 0) :: As)).length) Slot.unset).toArray = ls at hl ⊢
  exact body p e s m below meth c ls ⟨B.exec, B.bytes, hml, findClass_of_methodNamed B.named, hts⟩ B.returns B.notSynchronized ⟨h, hD.self, va_S.rf⟩ hl
theorem mkVD {u : DS} {post : DS → Prop} (hy : plainName y.cls = true) (hm : (lg_sl (.ref (g.2.1 0) :: As)).length ≤ maxL)
    (body : ∀ (p : Program) (e : Env) (s : State) (m : MethodId) (below : List Frame) (meth : Method) (c : Code) (ls : Array Slot), CallFix p m c cc maxL s (.ref (g.2.1 0) :: As).toArray tb y.cls → meth.sig.returnType = ret → meth.locks = false → WD g (va_A (wD g u) s.heap.size) s.heap u s s.heap [] → lv_has ls maxL (lv_args 0 (.ref (g.2.1 0) :: As)) →
      W p l e rm s m (.ref (g.2.1 0) :: As).toArray below meth c s.heap [] 0 0 (MQ below (va_Qv post (fun u2 t => RD g u2 t t.heap ∧ va_D (va_A (wD g u) s.heap.size) (wD g u2)) (va_A (wD g u) s.heap.size)) (.ref (g.2.1 0) :: As).toArray s 0 0 (va_A (wD g u) s.heap.size)) (F0 m 0 ls [])) : CVD l y (.code y cc maxL ret) rm g u As post := by
  intro sz
  refine Met.ofW (cc := cc) (maxL := maxL) (ret := ret) hy rfl ?_
  intro p e s m args below meth c s₁ B hml hv
  obtain ⟨rfl, rfl, h, hD⟩ := hv
  have hts := htl_of (atoms_spec (ws := (.code y cc maxL ret :: tb)) B.pre)
  have hl := lv_entry (.ref (g.2.1 0) :: As) (n := maxL) hm
  rw [lg_entry_eq]
  generalize (lg_sl (.ref (g.2.1 0) :: As) ++ List.replicate (maxL - (lg_sl (.ref (g.2.1 0) :: As)).length) Slot.unset).toArray = ls at hl ⊢
  exact body p e s m below meth c ls ⟨B.exec, B.bytes, hml, findClass_of_methodNamed B.named, hts⟩ B.returns B.notSynchronized ⟨h, hD.self, va_S.rf⟩ hl
theorem mkWM {u : MS} {post : Int32 → MS → Prop} (hy : plainName y.cls = true) (hm : (lg_sl (.ref (g.2.1 0) :: As)).length ≤ maxL)
    (body : ∀ (p : Program) (e : Env) (s : State) (m : MethodId) (below : List Frame) (meth : Method) (c : Code) (ls : Array Slot), CallFix p m c cc maxL s (.ref (g.2.1 0) :: As).toArray tb y.cls → meth.sig.returnType = ret → meth.locks = false → WM g (va_A (wM g u) s.heap.size) s.heap u s s.heap [] → lv_has ls maxL (lv_args 0 (.ref (g.2.1 0) :: As)) →
      W p l e rm s m (.ref (g.2.1 0) :: As).toArray below meth c s.heap [] 0 0 (MQ below (va_Qi post (fun u2 t => RM g u2 t t.heap ∧ va_D (va_A (wM g u) s.heap.size) (wM g u2)) (va_A (wM g u) s.heap.size)) (.ref (g.2.1 0) :: As).toArray s 0 0 (va_A (wM g u) s.heap.size)) (F0 m 0 ls [])) : CWM l y (.code y cc maxL ret) rm g u As post := by
  intro sz
  refine Met.ofW (cc := cc) (maxL := maxL) (ret := ret) hy rfl ?_
  intro p e s m args below meth c s₁ B hml hv
  obtain ⟨rfl, rfl, h, hD⟩ := hv
  have hts := htl_of (atoms_spec (ws := (.code y cc maxL ret :: tb)) B.pre)
  have hl := lv_entry (.ref (g.2.1 0) :: As) (n := maxL) hm
  rw [lg_entry_eq]
  generalize (lg_sl (.ref (g.2.1 0) :: As) ++ List.replicate (maxL - (lg_sl (.ref (g.2.1 0) :: As)).length) Slot.unset).toArray = ls at hl ⊢
  exact body p e s m below meth c ls ⟨B.exec, B.bytes, hml, findClass_of_methodNamed B.named, hts⟩ B.returns B.notSynchronized ⟨h, hD.self, va_S.rf⟩ hl
end MK
section END
variable {p : Program} {l : Launch} {e : Env} {R : Room} {s : State} {m : MethodId} {args : Array Value} {below : List Frame} {meth : Method} {c : Code} {H : Heap} {locs : List Loc} {cells slots : Nat} {Q : State → Prop} {cc : ByteArray} {pc nL : Nat} {ls : Array Slot} {rest : List Value} {own : String} {g : GD} {A : Nat → Prop} {H0 : Heap}
theorem endRI {post : Int32 → Prop} {v : Int32} (X : CallFix p m c cc nL s args tb own) (hr : meth.sig.returnType = some .int) (hlk : meth.locks = false) (hp : post v) (hdg : decode cc pc = .ok (.ireturn, 1)) : W p l e R s m args below meth c s.heap [] 0 0 (MQ below (vp_Si post) args s 0 0 (fun _ => False)) (F0 m pc ls [.int v]) :=
  W.iret X.1 X.2.1 hr (fun t ht hW => ⟨v, rfl, hp, ht⟩) (fun q h => by cases h) hdg (hlocks := hlk)
theorem endRZ {post : Int32 → Prop} {v : Int32} (X : CallFix p m c cc nL s args tb own) (hr : meth.sig.returnType = some .boolean) (hlk : meth.locks = false) (hn : narrow .boolean (.int v) = .int v) (hp : post v) (hdg : decode cc pc = .ok (.ireturn, 1)) : W p l e R s m args below meth c s.heap [] 0 0 (MQ below (vp_Si post) args s 0 0 (fun _ => False)) (F0 m pc ls [.int v]) :=
  W.zret X.1 X.2.1 hr hn (fun t ht hW => ⟨v, rfl, hp, ht⟩) (fun q h => by cases h) hdg (hlocks := hlk)
theorem endWD {post : Int32 → DS → Prop} {u u2 : DS} {v : Int32} (X : CallFix p m c cc nL s args tb own) (hr : meth.sig.returnType = some .int) (hlk : meth.locks = false) (h : WD g (va_A (wD g u) s.heap.size) s.heap u2 s H locs) (hp : post v u2) (hdg : decode cc pc = .ok (.ireturn, 1)) : W p l e R s m args below meth c H locs 0 0 (MQ below (va_Qi post (fun u2 t => RD g u2 t t.heap ∧ va_D (va_A (wD g u) s.heap.size) (wD g u2)) (va_A (wD g u) s.heap.size)) args s 0 0 (va_A (wD g u) s.heap.size)) (F0 m pc ls [.int v]) :=
  W.iret X.1 X.2.1 hr (fun t ht hW => ⟨⟨v, u2, rfl, hp, h.1.moved hW.alike ht, h.2.1⟩, h.2.2.F ht⟩) h.2.2.2.2 hdg (hlocks := hlk)
theorem endWDZ {post : Int32 → DS → Prop} {u u2 : DS} {v : Int32} (X : CallFix p m c cc nL s args tb own) (hr : meth.sig.returnType = some .boolean) (hlk : meth.locks = false) (hn : narrow .boolean (.int v) = .int v) (h : WD g (va_A (wD g u) s.heap.size) s.heap u2 s H locs) (hp : post v u2) (hdg : decode cc pc = .ok (.ireturn, 1)) : W p l e R s m args below meth c H locs 0 0 (MQ below (va_Qi post (fun u2 t => RD g u2 t t.heap ∧ va_D (va_A (wD g u) s.heap.size) (wD g u2)) (va_A (wD g u) s.heap.size)) args s 0 0 (va_A (wD g u) s.heap.size)) (F0 m pc ls [.int v]) :=
  W.zret X.1 X.2.1 hr hn (fun t ht hW => ⟨⟨v, u2, rfl, hp, h.1.moved hW.alike ht, h.2.1⟩, h.2.2.F ht⟩) h.2.2.2.2 hdg (hlocks := hlk)
theorem endVD {post : DS → Prop} {u u2 : DS} (X : CallFix p m c cc nL s args tb own) (hr : meth.sig.returnType = none) (hlk : meth.locks = false) (h : WD g (va_A (wD g u) s.heap.size) s.heap u2 s H locs) (hp : post u2) (hdg : decode cc pc = .ok (.return_, 1)) : W p l e R s m args below meth c H locs 0 0 (MQ below (va_Qv post (fun u2 t => RD g u2 t t.heap ∧ va_D (va_A (wD g u) s.heap.size) (wD g u2)) (va_A (wD g u) s.heap.size)) args s 0 0 (va_A (wD g u) s.heap.size)) (F0 m pc ls []) :=
  W.vret X.1 X.2.1 hr (fun t ht hW => ⟨⟨u2, rfl, hp, h.1.moved hW.alike ht, h.2.1⟩, h.2.2.F ht⟩) h.2.2.2.2 hdg (hlocks := hlk)
theorem endWM {post : Int32 → MS → Prop} {u u2 : MS} {v : Int32} (X : CallFix p m c cc nL s args tb own) (hr : meth.sig.returnType = some .int) (hlk : meth.locks = false) (h : WM g (va_A (wM g u) s.heap.size) s.heap u2 s H locs) (hp : post v u2) (hdg : decode cc pc = .ok (.ireturn, 1)) : W p l e R s m args below meth c H locs 0 0 (MQ below (va_Qi post (fun u2 t => RM g u2 t t.heap ∧ va_D (va_A (wM g u) s.heap.size) (wM g u2)) (va_A (wM g u) s.heap.size)) args s 0 0 (va_A (wM g u) s.heap.size)) (F0 m pc ls [.int v]) :=
  W.iret X.1 X.2.1 hr (fun t ht hW => ⟨⟨v, u2, rfl, hp, h.1.moved hW.alike ht, h.2.1⟩, h.2.2.F ht⟩) h.2.2.2.2 hdg (hlocks := hlk)
theorem hA_of {w : va_W} {sz : Nat} : ∀ q : Nat, sz ≤ q → va_A w sz q := fun _ h => Or.inr h
end END
theorem nz0 : narrow .boolean (.int (nI 0)) = .int (nI 0) := rfl
theorem nz1 : narrow .boolean (.int (nI 1)) = .int (nI 1) := rfl
theorem nr0 : vp_nar .boolean (nI 0) = nI 0 := by decide
theorem nr1 : vp_nar .boolean (nI 1) = nI 1 := by decide
end
section
/-- bit u of a mask, as the code reads it -/
def bitI (x : Int32) (u : Nat) : Int32 := (x >>> ((nI u) &&& 31)) &&& (nI 1)
/-- a loop's fold: k rounds from place v on -/
def fS {σ : Type} (f : Nat → σ → σ) : Nat → Nat → σ → σ
  | 0, _, a => a
  | k + 1, v, a => fS f k (v + 1) (f v a)
theorem fS_s {σ : Type} {f : Nat → σ → σ} {k v : Nat} {a b r : σ} (h : f v a = b) (hr : r = fS f k (v + 1) b) : r = fS f (k + 1) v a := by subst h; exact hr
def wIn (fp : Nat → Int32) (x : Int32) (u v : Nat) (a : Int32) : Int32 := if bitI x v = nI 1 then a + fp (u * 10 + v) else a
def wOut (fp fe : Nat → Int32) (N : Nat) (x : Int32) (u : Nat) (a : Int32) : Int32 := if bitI x u = 0 then a else fS (wIn fp x u) (N - (u + 1)) (u + 1) (a + fe u)
def weightD (fp fe : Nat → Int32) (N : Nat) (x : Int32) : Int32 := fS (wOut fp fe N x) N 0 (nI 0)
def memF (x : Int32) (v : Nat) (a : Int32) : Int32 := a + bitI x v
def membersI (N : Nat) (x : Int32) : Int32 := fS (memF x) N 0 (nI 0)
/-- vertex v is bad for a graph of N -/
def badP (N : Nat) (v : Int32) : Prop := v < 0 ∨ nI N ≤ v
set_option maxHeartbeats 4000000 in
set_option maxRecDepth 100000 in
theorem lp_D_weight_in {p : Program} {l : Launch} {e : Env} {s : State} {m : MethodId} {args : Array Value} {below : List Frame} {meth : Method} {c : Code} {H : Heap} {locs : List Loc} {cells slots : Nat} {Q : State → Prop} {g : GD} {R : Room} (X : CallFix p m c b_D_weight 5 s args tb R_D) {N : Nat} (hN : N ≤ 10) {cs bt bb bs : Int32} {fp fe fm fr fc fq fb : Nat → Int32} (h : RD g (nI N, fp, fe, fm, fr, fc, fq, fb, cs, bt, bb, bs) s H) {x : Int32} {u : Nat} (hu : u < N) :
    ∀ (k v : Nat) (a : Int32) (ls : Array Slot), v + k = N → lv_has ls 5 [(0, .ref (g.2.1 0)), (1, .int x), (2, .int a), (3, .int (nI u)), (4, .int (nI v))] → (∀ (ls : Array Slot) (r : Int32), r = fS (wIn fp x u) k v a → lv_has ls 5 [(0, .ref (g.2.1 0)), (1, .int x), (2, .int r), (3, .int (nI u))] → W p l e R s m args below meth c H locs cells slots Q (F0 m 77 ls [])) → W p l e R s m args below meth c H locs cells slots Q (F0 m 37 ls []) := by
  obtain ⟨hx, hb, hml, hown, htl⟩ := id X
  have htw : ∀ n : Nat, n ≤ 100000 → n < 2 ^ 31 := fun n h => by omega
  intro k
  induction k with
  | zero =>
    intro v a ls hv hl K
    refine lv_iload hx hb d_D_weight_37 (lv_at hl 4 rfl) ?_
    refine lv_aload_n hx hb d_D_weight_39 rfl (lv_at hl 0 rfl) ?_
    refine gD_n X h d_D_weight_40 ?_
    refine n_icmp_ge (tgt := 77) hx hb (by omega) (by omega) d_D_weight_43 (by decide) (fun c43 => ?_) (fun c43 => ?_)
    · exact K _ _ rfl (lv_sub hl [0, 1, 2, 3] rfl)
    · exact absurd c43 (by omega)
  | succ k ih =>
    intro v a ls hv hl K
    refine lv_iload hx hb d_D_weight_37 (lv_at hl 4 rfl) ?_
    refine lv_aload_n hx hb d_D_weight_39 rfl (lv_at hl 0 rfl) ?_
    refine gD_n X h d_D_weight_40 ?_
    refine n_icmp_ge (tgt := 77) hx hb (by omega) (by omega) d_D_weight_43 (by decide) (fun c43 => ?_) (fun c43 => ?_)
    · exact absurd c43 (by omega)
    · refine lv_iload_n hx hb d_D_weight_46 rfl (lv_at hl 1 rfl) ?_
      refine lv_iload hx hb d_D_weight_47 (lv_at hl 4 rfl) ?_
      refine lv_ishr hx hb d_D_weight_49 ?_
      refine lv_iconst (v := nI 1) hx hb d_D_weight_50 (by decide) ?_
      refine lv_iand hx hb d_D_weight_51 ?_
      refine tp_i (y := bitI x v) rfl ?_
      refine lv_iconst (v := nI 1) hx hb d_D_weight_52 (by decide) ?_
      refine lv_icmp_ne (tgt := 71) hx hb d_D_weight_53 (by decide) (fun c53 => ?_) (fun c53 => ?_)
      · refine lv_iinc (v := nI (v + 1)) (lv' := [(4, .int (nI (v + 1))), (0, .ref (g.2.1 0)), (1, .int x), (2, .int a), (3, .int (nI u))]) hx hb d_D_weight_71 hl (k := 4) rfl (inc1 v) (by decide) rfl (fun ls hl => ?_)
        refine lv_goto (tgt := 37) hx hb d_D_weight_74 (by decide) ?_
        exact ih _ _ _ (by omega) (lv_sub hl [1, 2, 3, 4, 0] rfl) (fun ls r hr hl => K ls r (fS_s (by first | exact if_neg c53 | exact if_pos c53) hr) hl)
      · refine lv_iload_n hx hb d_D_weight_56 rfl (lv_at hl 2 rfl) ?_
        refine lv_aload_n hx hb d_D_weight_57 rfl (lv_at hl 0 rfl) ?_
        refine gD_pair X h d_D_weight_58 ?_
        refine lv_iload_n hx hb d_D_weight_61 rfl (lv_at hl 3 rfl) ?_
        refine lv_bipush (v := nI 10) hx hb d_D_weight_62 (by decide) ?_
        refine n_imul hx hb d_D_weight_64 ?_
        refine lv_iload hx hb d_D_weight_65 (lv_at hl 4 rfl) ?_
        refine n_iadd hx hb d_D_weight_67 ?_
        refine ld_fp (i := u * 10 + v) X h (by omega) d_D_weight_68 ?_
        refine lv_iadd hx hb d_D_weight_69 ?_
        refine lv_istore_n (lv' := [(2, .int (a + (fp (u * 10 + v)))), (0, .ref (g.2.1 0)), (1, .int x), (3, .int (nI u)), (4, .int (nI v))]) hx hb d_D_weight_70 rfl hl (by decide) rfl (fun ls hl => ?_)
        refine lv_iinc (v := nI (v + 1)) (lv' := [(4, .int (nI (v + 1))), (2, .int (a + (fp (u * 10 + v)))), (0, .ref (g.2.1 0)), (1, .int x), (3, .int (nI u))]) hx hb d_D_weight_71 hl (k := 4) rfl (inc1 v) (by decide) rfl (fun ls hl => ?_)
        refine lv_goto (tgt := 37) hx hb d_D_weight_74 (by decide) ?_
        exact ih _ _ _ (by omega) (lv_sub hl [2, 3, 1, 4, 0] rfl) (fun ls r hr hl => K ls r (fS_s (by first | exact if_neg c53 | exact if_pos c53) hr) hl)

set_option maxHeartbeats 4000000 in
set_option maxRecDepth 100000 in
theorem lp_D_weight_out {p : Program} {l : Launch} {e : Env} {s : State} {m : MethodId} {args : Array Value} {below : List Frame} {meth : Method} {c : Code} {H : Heap} {locs : List Loc} {cells slots : Nat} {Q : State → Prop} {g : GD} {R : Room} (X : CallFix p m c b_D_weight 5 s args tb R_D) {N : Nat} (hN : N ≤ 10) {cs bt bb bs : Int32} {fp fe fm fr fc fq fb : Nat → Int32} (h : RD g (nI N, fp, fe, fm, fr, fc, fq, fb, cs, bt, bb, bs) s H) {x : Int32} :
    ∀ (k u : Nat) (a : Int32) (ls : Array Slot), u + k = N → lv_has ls 5 [(0, .ref (g.2.1 0)), (1, .int x), (2, .int a), (3, .int (nI u))] → (∀ (ls : Array Slot) (r : Int32), r = fS (wOut fp fe N x) k u a → lv_has ls 5 [(0, .ref (g.2.1 0)), (1, .int x), (2, .int r), (3, .int (nI N))] → W p l e R s m args below meth c H locs cells slots Q (F0 m 83 ls [])) → W p l e R s m args below meth c H locs cells slots Q (F0 m 4 ls []) := by
  obtain ⟨hx, hb, hml, hown, htl⟩ := id X
  have htw : ∀ n : Nat, n ≤ 100000 → n < 2 ^ 31 := fun n h => by omega
  intro k
  induction k with
  | zero =>
    intro u a ls hv hl K
    refine lv_iload_n hx hb d_D_weight_4 rfl (lv_at hl 3 rfl) ?_
    refine lv_aload_n hx hb d_D_weight_5 rfl (lv_at hl 0 rfl) ?_
    refine gD_n X h d_D_weight_6 ?_
    refine n_icmp_ge (tgt := 83) hx hb (by omega) (by omega) d_D_weight_9 (by decide) (fun c9 => ?_) (fun c9 => ?_)
    · obtain rfl : u = N := by omega
      exact K _ _ rfl (lv_sub hl [0, 1, 2, 3] rfl)
    · exact absurd c9 (by omega)
  | succ k ih =>
    intro u a ls hv hl K
    refine lv_iload_n hx hb d_D_weight_4 rfl (lv_at hl 3 rfl) ?_
    refine lv_aload_n hx hb d_D_weight_5 rfl (lv_at hl 0 rfl) ?_
    refine gD_n X h d_D_weight_6 ?_
    refine n_icmp_ge (tgt := 83) hx hb (by omega) (by omega) d_D_weight_9 (by decide) (fun c9 => ?_) (fun c9 => ?_)
    · exact absurd c9 (by omega)
    · refine lv_iload_n hx hb d_D_weight_12 rfl (lv_at hl 1 rfl) ?_
      refine lv_iload_n hx hb d_D_weight_13 rfl (lv_at hl 3 rfl) ?_
      refine lv_ishr hx hb d_D_weight_14 ?_
      refine lv_iconst (v := nI 1) hx hb d_D_weight_15 (by decide) ?_
      refine lv_iand hx hb d_D_weight_16 ?_
      refine tp_i (y := bitI x u) rfl ?_
      refine lv_if_ne (tgt := 23) hx hb d_D_weight_17 (by decide) (fun c17 => ?_) (fun c17 => ?_)
      · refine lv_iload_n hx hb d_D_weight_23 rfl (lv_at hl 2 rfl) ?_
        refine lv_aload_n hx hb d_D_weight_24 rfl (lv_at hl 0 rfl) ?_
        refine gD_extra X h d_D_weight_25 ?_
        refine lv_iload_n hx hb d_D_weight_28 rfl (lv_at hl 3 rfl) ?_
        refine ld_fe (i := u) X h (by omega) d_D_weight_29 ?_
        refine lv_iadd hx hb d_D_weight_30 ?_
        refine lv_istore_n (lv' := [(2, .int (a + (fe u))), (0, .ref (g.2.1 0)), (1, .int x), (3, .int (nI u))]) hx hb d_D_weight_31 rfl hl (by decide) rfl (fun ls hl => ?_)
        refine lv_iload_n hx hb d_D_weight_32 rfl (lv_at hl 3 rfl) ?_
        refine lv_iconst (v := nI 1) hx hb d_D_weight_33 (by decide) ?_
        refine n_iadd hx hb d_D_weight_34 ?_
        refine lv_istore (lv' := [(4, .int (nI (u + 1))), (2, .int (a + (fe u))), (0, .ref (g.2.1 0)), (1, .int x), (3, .int (nI u))]) hx hb d_D_weight_35 hl (by decide) rfl (fun ls hl => ?_)
        refine lp_D_weight_in X hN h (u := u) (by omega) (N - (u + 1)) (u + 1) _ _ (by omega) (lv_sub hl [2, 3, 1, 4, 0] rfl) (fun ls r1 hr1 hl => ?_)
        refine lv_iinc (v := nI (u + 1)) (lv' := [(3, .int (nI (u + 1))), (0, .ref (g.2.1 0)), (1, .int x), (2, .int r1)]) hx hb d_D_weight_77 hl (k := 3) rfl (inc1 u) (by decide) rfl (fun ls hl => ?_)
        refine lv_goto (tgt := 4) hx hb d_D_weight_80 (by decide) ?_
        exact ih _ _ _ (by omega) (lv_sub hl [1, 2, 3, 0] rfl) (fun ls r hr hl => K ls r (fS_s ((if_neg c17).trans hr1.symm) hr) hl)
      · refine lv_goto (tgt := 77) hx hb d_D_weight_20 (by decide) ?_
        refine lv_iinc (v := nI (u + 1)) (lv' := [(3, .int (nI (u + 1))), (0, .ref (g.2.1 0)), (1, .int x), (2, .int a)]) hx hb d_D_weight_77 hl (k := 3) rfl (inc1 u) (by decide) rfl (fun ls hl => ?_)
        refine lv_goto (tgt := 4) hx hb d_D_weight_80 (by decide) ?_
        exact ih _ _ _ (by omega) (lv_sub hl [1, 2, 3, 0] rfl) (fun ls r hr hl => K ls r (fS_s (if_pos c17) hr) hl)

set_option maxHeartbeats 4000000 in
set_option maxRecDepth 100000 in
theorem c_D_weight (l : Launch) (g : GD) {N : Nat} (hN : N ≤ 10) {cs bt bb bs : Int32} {fp fe fm fr fc fq fb : Nat → Int32} (x : Int32) : CRD l y_D_weight (.code y_D_weight b_D_weight 5 (some .int)) rm_D_weight g (nI N, fp, fe, fm, fr, fc, fq, fb, cs, bt, bb, bs) [.int x] (fun r => r = weightD fp fe N x) := by
  refine mkRD (by decide) (Nat.le_of_ble_eq_true rfl) ?_
  intro p e s m below meth c ls X hr hlk h hl
  obtain ⟨hx, hb, hml, hown, htl⟩ := id X
  have hl : lv_has ls 5 [(0, .ref (g.2.1 0)), (1, .int x)] := hl
  refine lv_iconst (v := nI 0) hx hb d_D_weight_0 (by decide) ?_
  refine lv_istore_n (lv' := [(2, .int (nI 0)), (0, .ref (g.2.1 0)), (1, .int x)]) hx hb d_D_weight_1 rfl hl (by decide) rfl (fun ls hl => ?_)
  refine lv_iconst (v := nI 0) hx hb d_D_weight_2 (by decide) ?_
  refine lv_istore_n (lv' := [(3, .int (nI 0)), (2, .int (nI 0)), (0, .ref (g.2.1 0)), (1, .int x)]) hx hb d_D_weight_3 rfl hl (by decide) rfl (fun ls hl => ?_)
  refine lp_D_weight_out X hN h N 0 _ _ (by omega) (lv_sub hl [2, 3, 1, 0] rfl) (fun ls r hr2 hl => ?_)
  refine lv_iload_n hx hb d_D_weight_83 rfl (lv_at hl 2 rfl) ?_
  exact endRI X hr hlk hr2 d_D_weight_84

set_option maxHeartbeats 4000000 in
set_option maxRecDepth 100000 in
theorem lp_D_members {p : Program} {l : Launch} {e : Env} {s : State} {m : MethodId} {args : Array Value} {below : List Frame} {meth : Method} {c : Code} {H : Heap} {locs : List Loc} {cells slots : Nat} {Q : State → Prop} {R : Room} (X : CallFix p m c b_D_members 3 s args tb R_D) {x : Int32} :
    ∀ (k v : Nat) (a : Int32) (ls : Array Slot), v + k = 10 → lv_has ls 3 [(0, .int x), (1, .int a), (2, .int (nI v))] → (∀ (ls : Array Slot) (r : Int32), r = fS (memF x) k v a → lv_has ls 3 [(0, .int x), (1, .int r)] → W p l e R s m args below meth c H locs cells slots Q (F0 m 24 ls [])) → W p l e R s m args below meth c H locs cells slots Q (F0 m 4 ls []) := by
  obtain ⟨hx, hb, hml, hown, htl⟩ := id X
  have htw : ∀ n : Nat, n ≤ 100000 → n < 2 ^ 31 := fun n h => by omega
  intro k
  induction k with
  | zero =>
    intro v a ls hv hl K
    refine lv_iload_n hx hb d_D_members_4 rfl (lv_at hl 2 rfl) ?_
    refine lv_bipush (v := nI 10) hx hb d_D_members_5 (by decide) ?_
    refine n_icmp_ge (tgt := 24) hx hb (by omega) (by omega) d_D_members_7 (by decide) (fun c7 => ?_) (fun c7 => ?_)
    · exact K _ _ rfl (lv_sub hl [0, 1] rfl)
    · exact absurd c7 (by omega)
  | succ k ih =>
    intro v a ls hv hl K
    refine lv_iload_n hx hb d_D_members_4 rfl (lv_at hl 2 rfl) ?_
    refine lv_bipush (v := nI 10) hx hb d_D_members_5 (by decide) ?_
    refine n_icmp_ge (tgt := 24) hx hb (by omega) (by omega) d_D_members_7 (by decide) (fun c7 => ?_) (fun c7 => ?_)
    · exact absurd c7 (by omega)
    · refine lv_iload_n hx hb d_D_members_10 rfl (lv_at hl 1 rfl) ?_
      refine lv_iload_n hx hb d_D_members_11 rfl (lv_at hl 0 rfl) ?_
      refine lv_iload_n hx hb d_D_members_12 rfl (lv_at hl 2 rfl) ?_
      refine lv_ishr hx hb d_D_members_13 ?_
      refine lv_iconst (v := nI 1) hx hb d_D_members_14 (by decide) ?_
      refine lv_iand hx hb d_D_members_15 ?_
      refine tp_i (y := bitI x v) rfl ?_
      refine lv_iadd hx hb d_D_members_16 ?_
      refine lv_istore_n (lv' := [(1, .int (a + (bitI x v))), (0, .int x), (2, .int (nI v))]) hx hb d_D_members_17 rfl hl (by decide) rfl (fun ls hl => ?_)
      refine lv_iinc (v := nI (v + 1)) (lv' := [(2, .int (nI (v + 1))), (1, .int (a + (bitI x v))), (0, .int x)]) hx hb d_D_members_18 hl (k := 2) rfl (inc1 v) (by decide) rfl (fun ls hl => ?_)
      refine lv_goto (tgt := 4) hx hb d_D_members_21 (by decide) ?_
      exact ih _ _ _ (by omega) (lv_sub hl [2, 1, 0] rfl) (fun ls r hr hl => K ls r (fS_s rfl hr) hl)

set_option maxHeartbeats 4000000 in
set_option maxRecDepth 100000 in
theorem c_D_members (l : Launch) (x : Int32) : CST l y_D_members (.code y_D_members b_D_members 3 (some .int)) rm_D_members [.int x] (fun r => r = membersI 10 x) := by
  refine mkST (by decide) (Nat.le_of_ble_eq_true rfl) ?_
  intro p e s m below meth c ls X hr hlk h hl
  obtain ⟨hx, hb, hml, hown, htl⟩ := id X
  have hl : lv_has ls 3 [(0, .int x)] := hl
  refine lv_iconst (v := nI 0) hx hb d_D_members_0 (by decide) ?_
  refine lv_istore_n (lv' := [(1, .int (nI 0)), (0, .int x)]) hx hb d_D_members_1 rfl hl (by decide) rfl (fun ls hl => ?_)
  refine lv_iconst (v := nI 0) hx hb d_D_members_2 (by decide) ?_
  refine lv_istore_n (lv' := [(2, .int (nI 0)), (1, .int (nI 0)), (0, .int x)]) hx hb d_D_members_3 rfl hl (by decide) rfl (fun ls hl => ?_)
  refine lp_D_members X 10 0 _ _ (by omega) (lv_sub hl [2, 1, 0] rfl) (fun ls r hr2 hl => ?_)
  refine lv_iload_n hx hb d_D_members_24 rfl (lv_at hl 1 rfl) ?_
  exact endRI X hr hlk hr2 d_D_members_25

set_option maxHeartbeats 4000000 in
set_option maxRecDepth 100000 in
theorem c_D_isNode (l : Launch) (g : GD) {N : Nat} (hN : N ≤ 10) {cs bt bb bs : Int32} {fp fe fm fr fc fq fb : Nat → Int32} {y : Nat} (hy : y < 12) : CRD l y_D_isNode (.code y_D_isNode b_D_isNode 2 (some .boolean)) rm_D_isNode g (nI N, fp, fe, fm, fr, fc, fq, fb, cs, bt, bb, bs) [.int (nI y)] (fun r => ((y < N ∨ 10 ≤ y) ∧ r = nI 1) ∨ (¬ (y < N ∨ 10 ≤ y) ∧ r = nI 0)) := by
  refine mkRD (by decide) (Nat.le_of_ble_eq_true rfl) ?_
  intro p e s m below meth c ls X hr hlk h hl
  obtain ⟨hx, hb, hml, hown, htl⟩ := id X
  have hl : lv_has ls 2 [(0, .ref (g.2.1 0)), (1, .int (nI y))] := hl
  refine lv_iload_n hx hb d_D_isNode_0 rfl (lv_at hl 1 rfl) ?_
  refine lv_aload_n hx hb d_D_isNode_1 rfl (lv_at hl 0 rfl) ?_
  refine gD_n X h d_D_isNode_2 ?_
  refine n_icmp_lt (tgt := 14) hx hb (by omega) (by omega) d_D_isNode_5 (by decide) (fun c5 => ?_) (fun c5 => ?_)
  · refine lv_iconst (v := nI 1) hx hb d_D_isNode_14 (by decide) ?_
    refine lv_goto (tgt := 19) hx hb d_D_isNode_15 (by decide) ?_
    exact endRZ X hr hlk nz1 (Or.inl ⟨by first | exact Or.inl c5 | exact Or.inr c11, rfl⟩) d_D_isNode_19
  · refine lv_iload_n hx hb d_D_isNode_8 rfl (lv_at hl 1 rfl) ?_
    refine lv_bipush (v := nI 10) hx hb d_D_isNode_9 (by decide) ?_
    refine n_icmp_lt (tgt := 18) hx hb (by omega) (by omega) d_D_isNode_11 (by decide) (fun c11 => ?_) (fun c11 => ?_)
    · refine lv_iconst (v := nI 0) hx hb d_D_isNode_18 (by decide) ?_
      exact endRZ X hr hlk nz0 (Or.inr ⟨by omega, rfl⟩) d_D_isNode_19
    · refine lv_iconst (v := nI 1) hx hb d_D_isNode_14 (by decide) ?_
      refine lv_goto (tgt := 19) hx hb d_D_isNode_15 (by decide) ?_
      exact endRZ X hr hlk nz1 (Or.inl ⟨by first | exact Or.inl c5 | exact Or.inr c11, rfl⟩) d_D_isNode_19

set_option maxHeartbeats 4000000 in
set_option maxRecDepth 100000 in
theorem c_D_bad (l : Launch) (g : GD) {N : Nat} {cs bt bb bs : Int32} {fp fe fm fr fc fq fb : Nat → Int32} (v : Int32) : CRD l y_D_bad (.code y_D_bad b_D_bad 2 (some .boolean)) rm_D_bad g (nI N, fp, fe, fm, fr, fc, fq, fb, cs, bt, bb, bs) [.int v] (fun r => (badP N v ∧ r = nI 1) ∨ (¬ badP N v ∧ r = nI 0)) := by
  refine mkRD (by decide) (Nat.le_of_ble_eq_true rfl) ?_
  intro p e s m below meth c ls X hr hlk h hl
  obtain ⟨hx, hb, hml, hown, htl⟩ := id X
  have hl : lv_has ls 2 [(0, .ref (g.2.1 0)), (1, .int v)] := hl
  refine lv_iload_n hx hb d_D_bad_0 rfl (lv_at hl 1 rfl) ?_
  refine lv_if_lt (tgt := 12) hx hb d_D_bad_1 (by decide) (fun c1 => ?_) (fun c1 => ?_)
  · refine lv_iconst (v := nI 1) hx hb d_D_bad_12 (by decide) ?_
    refine lv_goto (tgt := 17) hx hb d_D_bad_13 (by decide) ?_
    exact endRZ X hr hlk nz1 (Or.inl ⟨by first | exact Or.inl c1 | exact Or.inr (Int32.not_lt.mp c9), rfl⟩) d_D_bad_17
  · refine lv_iload_n hx hb d_D_bad_4 rfl (lv_at hl 1 rfl) ?_
    refine lv_aload_n hx hb d_D_bad_5 rfl (lv_at hl 0 rfl) ?_
    refine gD_n X h d_D_bad_6 ?_
    refine lv_icmp_lt (tgt := 16) hx hb d_D_bad_9 (by decide) (fun c9 => ?_) (fun c9 => ?_)
    · refine lv_iconst (v := nI 0) hx hb d_D_bad_16 (by decide) ?_
      exact endRZ X hr hlk nz0 (Or.inr ⟨fun q => q.elim c1 (fun q2 => absurd c9 (Int32.not_lt.mpr q2)), rfl⟩) d_D_bad_17
    · refine lv_iconst (v := nI 1) hx hb d_D_bad_12 (by decide) ?_
      refine lv_goto (tgt := 17) hx hb d_D_bad_13 (by decide) ?_
      exact endRZ X hr hlk nz1 (Or.inl ⟨by first | exact Or.inl c1 | exact Or.inr (Int32.not_lt.mp c9), rfl⟩) d_D_bad_17

set_option maxHeartbeats 4000000 in
set_option maxRecDepth 100000 in
theorem c_M_bad (l : Launch) (g : GD) {N : Nat} {fw fm : Nat → Int32} (v : Int32) : CRM l y_M_bad (.code y_M_bad b_M_bad 2 (some .boolean)) rm_M_bad g (nI N, fw, fm) [.int v] (fun r => (badP N v ∧ r = nI 1) ∨ (¬ badP N v ∧ r = nI 0)) := by
  refine mkRM (by decide) (Nat.le_of_ble_eq_true rfl) ?_
  intro p e s m below meth c ls X hr hlk h hl
  obtain ⟨hx, hb, hml, hown, htl⟩ := id X
  have hl : lv_has ls 2 [(0, .ref (g.2.1 0)), (1, .int v)] := hl
  refine lv_iload_n hx hb d_M_bad_0 rfl (lv_at hl 1 rfl) ?_
  refine lv_if_lt (tgt := 12) hx hb d_M_bad_1 (by decide) (fun c1 => ?_) (fun c1 => ?_)
  · refine lv_iconst (v := nI 1) hx hb d_M_bad_12 (by decide) ?_
    refine lv_goto (tgt := 17) hx hb d_M_bad_13 (by decide) ?_
    exact endRZ X hr hlk nz1 (Or.inl ⟨by first | exact Or.inl c1 | exact Or.inr (Int32.not_lt.mp c9), rfl⟩) d_M_bad_17
  · refine lv_iload_n hx hb d_M_bad_4 rfl (lv_at hl 1 rfl) ?_
    refine lv_aload_n hx hb d_M_bad_5 rfl (lv_at hl 0 rfl) ?_
    refine gM_n X h d_M_bad_6 ?_
    refine lv_icmp_lt (tgt := 16) hx hb d_M_bad_9 (by decide) (fun c9 => ?_) (fun c9 => ?_)
    · refine lv_iconst (v := nI 0) hx hb d_M_bad_16 (by decide) ?_
      exact endRZ X hr hlk nz0 (Or.inr ⟨fun q => q.elim c1 (fun q2 => absurd c9 (Int32.not_lt.mpr q2)), rfl⟩) d_M_bad_17
    · refine lv_iconst (v := nI 1) hx hb d_M_bad_12 (by decide) ?_
      refine lv_goto (tgt := 17) hx hb d_M_bad_13 (by decide) ?_
      exact endRZ X hr hlk nz1 (Or.inl ⟨by first | exact Or.inl c1 | exact Or.inr (Int32.not_lt.mp c9), rfl⟩) d_M_bad_17

def bpP (a b : Int32) : Prop := a < nI 1 ∨ nI 20 < a ∨ b < 0 ∨ nI 2000 < b
set_option maxHeartbeats 4000000 in
set_option maxRecDepth 100000 in
theorem c_D_badPrice (l : Launch) (a b : Int32) : CST l y_D_badPrice (.code y_D_badPrice b_D_badPrice 2 (some .boolean)) rm_D_badPrice [.int a, .int b] (fun r => (bpP a b ∧ r = nI 1) ∨ (¬ bpP a b ∧ r = nI 0)) := by
  refine mkST (by decide) (Nat.le_of_ble_eq_true rfl) ?_
  intro p e s m below meth c ls X hr hlk h hl
  obtain ⟨hx, hb, hml, hown, htl⟩ := id X
  have hl : lv_has ls 2 [(0, .int a), (1, .int b)] := hl
  refine lv_iload_n hx hb d_D_badPrice_0 rfl (lv_at hl 0 rfl) ?_
  refine lv_iconst (v := nI 1) hx hb d_D_badPrice_1 (by decide) ?_
  refine lv_icmp_lt (tgt := 22) hx hb d_D_badPrice_2 (by decide) (fun c2 => ?_) (fun c2 => ?_)
  · refine lv_iconst (v := nI 1) hx hb d_D_badPrice_22 (by decide) ?_
    refine lv_goto (tgt := 27) hx hb d_D_badPrice_23 (by decide) ?_
    exact endRZ X hr hlk nz1 (Or.inl ⟨by first | exact Or.inl c2 | exact Or.inl c1 | exact Or.inr (Or.inl c8) | exact Or.inr (Or.inr (Or.inl c12)) | exact Or.inr (Or.inr (Or.inr (Int32.not_le.mp c19))), rfl⟩) d_D_badPrice_27
  · refine lv_iload_n hx hb d_D_badPrice_5 rfl (lv_at hl 0 rfl) ?_
    refine lv_bipush (v := nI 20) hx hb d_D_badPrice_6 (by decide) ?_
    refine lv_icmp_gt (tgt := 22) hx hb d_D_badPrice_8 (by decide) (fun c8 => ?_) (fun c8 => ?_)
    · refine lv_iconst (v := nI 1) hx hb d_D_badPrice_22 (by decide) ?_
      refine lv_goto (tgt := 27) hx hb d_D_badPrice_23 (by decide) ?_
      exact endRZ X hr hlk nz1 (Or.inl ⟨by first | exact Or.inl c2 | exact Or.inl c1 | exact Or.inr (Or.inl c8) | exact Or.inr (Or.inr (Or.inl c12)) | exact Or.inr (Or.inr (Or.inr (Int32.not_le.mp c19))), rfl⟩) d_D_badPrice_27
    · refine lv_iload_n hx hb d_D_badPrice_11 rfl (lv_at hl 1 rfl) ?_
      refine lv_if_lt (tgt := 22) hx hb d_D_badPrice_12 (by decide) (fun c12 => ?_) (fun c12 => ?_)
      · refine lv_iconst (v := nI 1) hx hb d_D_badPrice_22 (by decide) ?_
        refine lv_goto (tgt := 27) hx hb d_D_badPrice_23 (by decide) ?_
        exact endRZ X hr hlk nz1 (Or.inl ⟨by first | exact Or.inl c2 | exact Or.inl c1 | exact Or.inr (Or.inl c8) | exact Or.inr (Or.inr (Or.inl c12)) | exact Or.inr (Or.inr (Or.inr (Int32.not_le.mp c19))), rfl⟩) d_D_badPrice_27
      · refine lv_iload_n hx hb d_D_badPrice_15 rfl (lv_at hl 1 rfl) ?_
        refine lv_sipush (v := nI 2000) hx hb d_D_badPrice_16 (by decide) ?_
        refine lv_icmp_le (tgt := 26) hx hb d_D_badPrice_19 (by decide) (fun c19 => ?_) (fun c19 => ?_)
        · refine lv_iconst (v := nI 0) hx hb d_D_badPrice_26 (by decide) ?_
          exact endRZ X hr hlk nz0 (Or.inr ⟨fun q => q.elim c2 (fun q => q.elim c8 (fun q => q.elim c12 (fun q => absurd c19 (Int32.not_le.mpr q)))), rfl⟩) d_D_badPrice_27
        · refine lv_iconst (v := nI 1) hx hb d_D_badPrice_22 (by decide) ?_
          refine lv_goto (tgt := 27) hx hb d_D_badPrice_23 (by decide) ?_
          exact endRZ X hr hlk nz1 (Or.inl ⟨by first | exact Or.inl c2 | exact Or.inl c1 | exact Or.inr (Or.inl c8) | exact Or.inr (Or.inr (Or.inl c12)) | exact Or.inr (Or.inr (Or.inr (Int32.not_le.mp c19))), rfl⟩) d_D_badPrice_27

set_option maxHeartbeats 4000000 in
set_option maxRecDepth 100000 in
theorem c_M_badPrice (l : Launch) (g : GD) {N : Nat} {fw fm : Nat → Int32} (a b : Int32) : CRM l y_M_badPrice (.code y_M_badPrice b_M_badPrice 3 (some .boolean)) rm_M_badPrice g (nI N, fw, fm) [.int a, .int b] (fun r => (bpP a b ∧ r = nI 1) ∨ (¬ bpP a b ∧ r = nI 0)) := by
  refine mkRM (by decide) (Nat.le_of_ble_eq_true rfl) ?_
  intro p e s m below meth c ls X hr hlk h hl
  obtain ⟨hx, hb, hml, hown, htl⟩ := id X
  have hl : lv_has ls 3 [(0, .ref (g.2.1 0)), (1, .int a), (2, .int b)] := hl
  refine lv_iload_n hx hb d_M_badPrice_0 rfl (lv_at hl 1 rfl) ?_
  refine lv_iconst (v := nI 1) hx hb d_M_badPrice_1 (by decide) ?_
  refine lv_icmp_lt (tgt := 22) hx hb d_M_badPrice_2 (by decide) (fun c2 => ?_) (fun c2 => ?_)
  · refine lv_iconst (v := nI 1) hx hb d_M_badPrice_22 (by decide) ?_
    refine lv_goto (tgt := 27) hx hb d_M_badPrice_23 (by decide) ?_
    exact endRZ X hr hlk nz1 (Or.inl ⟨by first | exact Or.inl c2 | exact Or.inl c1 | exact Or.inr (Or.inl c8) | exact Or.inr (Or.inr (Or.inl c12)) | exact Or.inr (Or.inr (Or.inr (Int32.not_le.mp c19))), rfl⟩) d_M_badPrice_27
  · refine lv_iload_n hx hb d_M_badPrice_5 rfl (lv_at hl 1 rfl) ?_
    refine lv_bipush (v := nI 20) hx hb d_M_badPrice_6 (by decide) ?_
    refine lv_icmp_gt (tgt := 22) hx hb d_M_badPrice_8 (by decide) (fun c8 => ?_) (fun c8 => ?_)
    · refine lv_iconst (v := nI 1) hx hb d_M_badPrice_22 (by decide) ?_
      refine lv_goto (tgt := 27) hx hb d_M_badPrice_23 (by decide) ?_
      exact endRZ X hr hlk nz1 (Or.inl ⟨by first | exact Or.inl c2 | exact Or.inl c1 | exact Or.inr (Or.inl c8) | exact Or.inr (Or.inr (Or.inl c12)) | exact Or.inr (Or.inr (Or.inr (Int32.not_le.mp c19))), rfl⟩) d_M_badPrice_27
    · refine lv_iload_n hx hb d_M_badPrice_11 rfl (lv_at hl 2 rfl) ?_
      refine lv_if_lt (tgt := 22) hx hb d_M_badPrice_12 (by decide) (fun c12 => ?_) (fun c12 => ?_)
      · refine lv_iconst (v := nI 1) hx hb d_M_badPrice_22 (by decide) ?_
        refine lv_goto (tgt := 27) hx hb d_M_badPrice_23 (by decide) ?_
        exact endRZ X hr hlk nz1 (Or.inl ⟨by first | exact Or.inl c2 | exact Or.inl c1 | exact Or.inr (Or.inl c8) | exact Or.inr (Or.inr (Or.inl c12)) | exact Or.inr (Or.inr (Or.inr (Int32.not_le.mp c19))), rfl⟩) d_M_badPrice_27
      · refine lv_iload_n hx hb d_M_badPrice_15 rfl (lv_at hl 2 rfl) ?_
        refine lv_sipush (v := nI 2000) hx hb d_M_badPrice_16 (by decide) ?_
        refine lv_icmp_le (tgt := 26) hx hb d_M_badPrice_19 (by decide) (fun c19 => ?_) (fun c19 => ?_)
        · refine lv_iconst (v := nI 0) hx hb d_M_badPrice_26 (by decide) ?_
          exact endRZ X hr hlk nz0 (Or.inr ⟨fun q => q.elim c2 (fun q => q.elim c8 (fun q => q.elim c12 (fun q => absurd c19 (Int32.not_le.mpr q)))), rfl⟩) d_M_badPrice_27
        · refine lv_iconst (v := nI 1) hx hb d_M_badPrice_22 (by decide) ?_
          refine lv_goto (tgt := 27) hx hb d_M_badPrice_23 (by decide) ?_
          exact endRZ X hr hlk nz1 (Or.inl ⟨by first | exact Or.inl c2 | exact Or.inl c1 | exact Or.inr (Or.inl c8) | exact Or.inr (Or.inr (Or.inl c12)) | exact Or.inr (Or.inr (Or.inr (Int32.not_le.mp c19))), rfl⟩) d_M_badPrice_27
end
section
def wmIn (fw : Nat → Int32) (x : Int32) (u v : Nat) (a : Int32) : Int32 := if bitI x u = nI 1 ∧ bitI x v = nI 1 then a + fw (u * 10 + v) else a
def wmOut (fw : Nat → Int32) (x : Int32) (u : Nat) (a : Int32) : Int32 := fS (wmIn fw x u) (u + 1) 0 a
def weightM (fw : Nat → Int32) (N : Nat) (x : Int32) : Int32 := fS (wmOut fw x) N 0 (nI 0)
def okV (fm : Nat → Int32) (x : Int32) (v : Nat) : Prop := (bitI x v = nI 1 → ¬ fm v = nI 2) ∧ (¬ bitI x v = nI 1 → ¬ fm v = nI 1)
def alwI (N : Nat) (fm : Nat → Int32) (x : Int32) : Prop := ∀ v, v < N → okV fm x v
theorem lt_s1 {i : Nat} {q : Nat → Prop} (h : ∀ a, a < i → q a) (hi : q i) : ∀ a, a < i + 1 → q a := lt_s h hi
theorem nbad {N : Nat} {v : Int32} (hN : N ≤ 10) (h : ¬ badP N v) : ∃ a : Nat, a < N ∧ v = nI a := by
  rcases pk_ix v (n := N) (by omega) with q | q | q
  · exact absurd (Or.inl q) h
  · exact absurd (Or.inr q) h
  · exact q
set_option maxHeartbeats 4000000 in
set_option maxRecDepth 100000 in
theorem lp_M_weight_in {p : Program} {l : Launch} {e : Env} {s : State} {m : MethodId} {args : Array Value} {below : List Frame} {meth : Method} {c : Code} {H : Heap} {locs : List Loc} {cells slots : Nat} {Q : State → Prop} {g : GD} {R : Room} (X : CallFix p m c b_M_weight 5 s args tb R_M) {N : Nat} (hN : N ≤ 10) {fw fm : Nat → Int32} (h : RM g (nI N, fw, fm) s H) {x : Int32} {u : Nat} (hu : u < N) :
    ∀ (k v : Nat) (a : Int32) (ls : Array Slot), v + k = u + 1 → lv_has ls 5 [(0, .ref (g.2.1 0)), (1, .int x), (2, .int a), (3, .int (nI u)), (4, .int (nI v))] → (∀ (ls : Array Slot) (r : Int32), r = fS (wmIn fw x u) k v a → lv_has ls 5 [(0, .ref (g.2.1 0)), (1, .int x), (2, .int r), (3, .int (nI u))] → W p l e R s m args below meth c H locs cells slots Q (F0 m 61 ls [])) → W p l e R s m args below meth c H locs cells slots Q (F0 m 15 ls []) := by
  obtain ⟨hx, hb, hml, hown, htl⟩ := id X
  have htw : ∀ n : Nat, n ≤ 100000 → n < 2 ^ 31 := fun n h => by omega
  intro k
  induction k with
  | zero =>
    intro v a ls hv hl K
    refine lv_iload hx hb d_M_weight_15 (lv_at hl 4 rfl) ?_
    refine lv_iload_n hx hb d_M_weight_17 rfl (lv_at hl 3 rfl) ?_
    refine n_icmp_gt (tgt := 61) hx hb (by omega) (by omega) d_M_weight_18 (by decide) (fun c18 => ?_) (fun c18 => ?_)
    · exact K _ _ rfl (lv_sub hl [0, 1, 2, 3] rfl)
    · exact absurd c18 (by omega)
  | succ k ih =>
    intro v a ls hv hl K
    refine lv_iload hx hb d_M_weight_15 (lv_at hl 4 rfl) ?_
    refine lv_iload_n hx hb d_M_weight_17 rfl (lv_at hl 3 rfl) ?_
    refine n_icmp_gt (tgt := 61) hx hb (by omega) (by omega) d_M_weight_18 (by decide) (fun c18 => ?_) (fun c18 => ?_)
    · exact absurd c18 (by omega)
    · refine lv_iload_n hx hb d_M_weight_21 rfl (lv_at hl 1 rfl) ?_
      refine lv_iload_n hx hb d_M_weight_22 rfl (lv_at hl 3 rfl) ?_
      refine lv_ishr hx hb d_M_weight_23 ?_
      refine lv_iconst (v := nI 1) hx hb d_M_weight_24 (by decide) ?_
      refine lv_iand hx hb d_M_weight_25 ?_
      refine tp_i (y := bitI x u) rfl ?_
      refine lv_iconst (v := nI 1) hx hb d_M_weight_26 (by decide) ?_
      refine lv_icmp_ne (tgt := 55) hx hb d_M_weight_27 (by decide) (fun c27 => ?_) (fun c27 => ?_)
      · refine lv_iinc (v := nI (v + 1)) (lv' := [(4, .int (nI (v + 1))), (0, .ref (g.2.1 0)), (1, .int x), (2, .int a), (3, .int (nI u))]) hx hb d_M_weight_55 hl (k := 4) rfl (inc1 v) (by decide) rfl (fun ls hl => ?_)
        refine lv_goto (tgt := 15) hx hb d_M_weight_58 (by decide) ?_
        exact ih _ _ _ (by omega) (lv_sub hl [1, 2, 3, 4, 0] rfl) (fun ls r hr hl => K ls r (fS_s (by first | exact if_pos ⟨c27, c37⟩ | exact if_neg (fun q => c27 q.1) | exact if_neg (fun q => c37 q.2)) hr) hl)
      · refine lv_iload_n hx hb d_M_weight_30 rfl (lv_at hl 1 rfl) ?_
        refine lv_iload hx hb d_M_weight_31 (lv_at hl 4 rfl) ?_
        refine lv_ishr hx hb d_M_weight_33 ?_
        refine lv_iconst (v := nI 1) hx hb d_M_weight_34 (by decide) ?_
        refine lv_iand hx hb d_M_weight_35 ?_
        refine tp_i (y := bitI x v) rfl ?_
        refine lv_iconst (v := nI 1) hx hb d_M_weight_36 (by decide) ?_
        refine lv_icmp_ne (tgt := 55) hx hb d_M_weight_37 (by decide) (fun c37 => ?_) (fun c37 => ?_)
        · refine lv_iinc (v := nI (v + 1)) (lv' := [(4, .int (nI (v + 1))), (0, .ref (g.2.1 0)), (1, .int x), (2, .int a), (3, .int (nI u))]) hx hb d_M_weight_55 hl (k := 4) rfl (inc1 v) (by decide) rfl (fun ls hl => ?_)
          refine lv_goto (tgt := 15) hx hb d_M_weight_58 (by decide) ?_
          exact ih _ _ _ (by omega) (lv_sub hl [1, 2, 3, 4, 0] rfl) (fun ls r hr hl => K ls r (fS_s (by first | exact if_pos ⟨c27, c37⟩ | exact if_neg (fun q => c27 q.1) | exact if_neg (fun q => c37 q.2)) hr) hl)
        · refine lv_iload_n hx hb d_M_weight_40 rfl (lv_at hl 2 rfl) ?_
          refine lv_aload_n hx hb d_M_weight_41 rfl (lv_at hl 0 rfl) ?_
          refine gM_w X h d_M_weight_42 ?_
          refine lv_iload_n hx hb d_M_weight_45 rfl (lv_at hl 3 rfl) ?_
          refine lv_bipush (v := nI 10) hx hb d_M_weight_46 (by decide) ?_
          refine n_imul hx hb d_M_weight_48 ?_
          refine lv_iload hx hb d_M_weight_49 (lv_at hl 4 rfl) ?_
          refine n_iadd hx hb d_M_weight_51 ?_
          refine lm_fw (i := u * 10 + v) X h (by omega) d_M_weight_52 ?_
          refine lv_iadd hx hb d_M_weight_53 ?_
          refine lv_istore_n (lv' := [(2, .int (a + (fw (u * 10 + v)))), (0, .ref (g.2.1 0)), (1, .int x), (3, .int (nI u)), (4, .int (nI v))]) hx hb d_M_weight_54 rfl hl (by decide) rfl (fun ls hl => ?_)
          refine lv_iinc (v := nI (v + 1)) (lv' := [(4, .int (nI (v + 1))), (2, .int (a + (fw (u * 10 + v)))), (0, .ref (g.2.1 0)), (1, .int x), (3, .int (nI u))]) hx hb d_M_weight_55 hl (k := 4) rfl (inc1 v) (by decide) rfl (fun ls hl => ?_)
          refine lv_goto (tgt := 15) hx hb d_M_weight_58 (by decide) ?_
          exact ih _ _ _ (by omega) (lv_sub hl [2, 3, 1, 4, 0] rfl) (fun ls r hr hl => K ls r (fS_s (by first | exact if_pos ⟨c27, c37⟩ | exact if_neg (fun q => c27 q.1) | exact if_neg (fun q => c37 q.2)) hr) hl)

set_option maxHeartbeats 4000000 in
set_option maxRecDepth 100000 in
theorem lp_M_weight_out {p : Program} {l : Launch} {e : Env} {s : State} {m : MethodId} {args : Array Value} {below : List Frame} {meth : Method} {c : Code} {H : Heap} {locs : List Loc} {cells slots : Nat} {Q : State → Prop} {g : GD} {R : Room} (X : CallFix p m c b_M_weight 5 s args tb R_M) {N : Nat} (hN : N ≤ 10) {fw fm : Nat → Int32} (h : RM g (nI N, fw, fm) s H) {x : Int32} :
    ∀ (k u : Nat) (a : Int32) (ls : Array Slot), u + k = N → lv_has ls 5 [(0, .ref (g.2.1 0)), (1, .int x), (2, .int a), (3, .int (nI u))] → (∀ (ls : Array Slot) (r : Int32), r = fS (wmOut fw x) k u a → lv_has ls 5 [(0, .ref (g.2.1 0)), (1, .int x), (2, .int r)] → W p l e R s m args below meth c H locs cells slots Q (F0 m 67 ls [])) → W p l e R s m args below meth c H locs cells slots Q (F0 m 4 ls []) := by
  obtain ⟨hx, hb, hml, hown, htl⟩ := id X
  have htw : ∀ n : Nat, n ≤ 100000 → n < 2 ^ 31 := fun n h => by omega
  intro k
  induction k with
  | zero =>
    intro u a ls hv hl K
    refine lv_iload_n hx hb d_M_weight_4 rfl (lv_at hl 3 rfl) ?_
    refine lv_aload_n hx hb d_M_weight_5 rfl (lv_at hl 0 rfl) ?_
    refine gM_n X h d_M_weight_6 ?_
    refine n_icmp_ge (tgt := 67) hx hb (by omega) (by omega) d_M_weight_9 (by decide) (fun c9 => ?_) (fun c9 => ?_)
    · exact K _ _ rfl (lv_sub hl [0, 1, 2] rfl)
    · exact absurd c9 (by omega)
  | succ k ih =>
    intro u a ls hv hl K
    refine lv_iload_n hx hb d_M_weight_4 rfl (lv_at hl 3 rfl) ?_
    refine lv_aload_n hx hb d_M_weight_5 rfl (lv_at hl 0 rfl) ?_
    refine gM_n X h d_M_weight_6 ?_
    refine n_icmp_ge (tgt := 67) hx hb (by omega) (by omega) d_M_weight_9 (by decide) (fun c9 => ?_) (fun c9 => ?_)
    · exact absurd c9 (by omega)
    · refine lv_iconst (v := nI 0) hx hb d_M_weight_12 (by decide) ?_
      refine lv_istore (lv' := [(4, .int (nI 0)), (0, .ref (g.2.1 0)), (1, .int x), (2, .int a), (3, .int (nI u))]) hx hb d_M_weight_13 hl (by decide) rfl (fun ls hl => ?_)
      refine lp_M_weight_in X hN h (u := u) (by omega) (u + 1) 0 _ _ (by omega) (lv_sub hl [1, 2, 3, 4, 0] rfl) (fun ls r1 hr1 hl => ?_)
      refine lv_iinc (v := nI (u + 1)) (lv' := [(3, .int (nI (u + 1))), (0, .ref (g.2.1 0)), (1, .int x), (2, .int r1)]) hx hb d_M_weight_61 hl (k := 3) rfl (inc1 u) (by decide) rfl (fun ls hl => ?_)
      refine lv_goto (tgt := 4) hx hb d_M_weight_64 (by decide) ?_
      exact ih _ _ _ (by omega) (lv_sub hl [1, 2, 3, 0] rfl) (fun ls r hr hl => K ls r (fS_s hr1.symm hr) hl)

set_option maxHeartbeats 4000000 in
set_option maxRecDepth 100000 in
theorem c_M_weight (l : Launch) (g : GD) {N : Nat} (hN : N ≤ 10) {fw fm : Nat → Int32} (x : Int32) : CRM l y_M_weight (.code y_M_weight b_M_weight 5 (some .int)) rm_M_weight g (nI N, fw, fm) [.int x] (fun r => r = weightM fw N x) := by
  refine mkRM (by decide) (Nat.le_of_ble_eq_true rfl) ?_
  intro p e s m below meth c ls X hr hlk h hl
  obtain ⟨hx, hb, hml, hown, htl⟩ := id X
  have hl : lv_has ls 5 [(0, .ref (g.2.1 0)), (1, .int x)] := hl
  refine lv_iconst (v := nI 0) hx hb d_M_weight_0 (by decide) ?_
  refine lv_istore_n (lv' := [(2, .int (nI 0)), (0, .ref (g.2.1 0)), (1, .int x)]) hx hb d_M_weight_1 rfl hl (by decide) rfl (fun ls hl => ?_)
  refine lv_iconst (v := nI 0) hx hb d_M_weight_2 (by decide) ?_
  refine lv_istore_n (lv' := [(3, .int (nI 0)), (2, .int (nI 0)), (0, .ref (g.2.1 0)), (1, .int x)]) hx hb d_M_weight_3 rfl hl (by decide) rfl (fun ls hl => ?_)
  refine lp_M_weight_out X hN h N 0 _ _ (by omega) (lv_sub hl [2, 3, 1, 0] rfl) (fun ls r hr2 hl => ?_)
  refine lv_iload_n hx hb d_M_weight_67 rfl (lv_at hl 2 rfl) ?_
  exact endRI X hr hlk hr2 d_M_weight_68

set_option maxHeartbeats 4000000 in
set_option maxRecDepth 100000 in
theorem lp_M_size {p : Program} {l : Launch} {e : Env} {s : State} {m : MethodId} {args : Array Value} {below : List Frame} {meth : Method} {c : Code} {H : Heap} {locs : List Loc} {cells slots : Nat} {Q : State → Prop} {g : GD} {R : Room} (X : CallFix p m c b_M_size 4 s args tb R_M) {N : Nat} (hN : N ≤ 10) {fw fm : Nat → Int32} (h : RM g (nI N, fw, fm) s H) {x : Int32} :
    ∀ (k u : Nat) (a : Int32) (ls : Array Slot), u + k = N → lv_has ls 4 [(0, .ref (g.2.1 0)), (1, .int x), (2, .int a), (3, .int (nI u))] → (∀ (ls : Array Slot) (r : Int32), r = fS (memF x) k u a → lv_has ls 4 [(0, .ref (g.2.1 0)), (1, .int x), (2, .int r)] → W p l e R s m args below meth c H locs cells slots Q (F0 m 26 ls [])) → W p l e R s m args below meth c H locs cells slots Q (F0 m 4 ls []) := by
  obtain ⟨hx, hb, hml, hown, htl⟩ := id X
  have htw : ∀ n : Nat, n ≤ 100000 → n < 2 ^ 31 := fun n h => by omega
  intro k
  induction k with
  | zero =>
    intro u a ls hv hl K
    refine lv_iload_n hx hb d_M_size_4 rfl (lv_at hl 3 rfl) ?_
    refine lv_aload_n hx hb d_M_size_5 rfl (lv_at hl 0 rfl) ?_
    refine gM_n X h d_M_size_6 ?_
    refine n_icmp_ge (tgt := 26) hx hb (by omega) (by omega) d_M_size_9 (by decide) (fun c9 => ?_) (fun c9 => ?_)
    · exact K _ _ rfl (lv_sub hl [0, 1, 2] rfl)
    · exact absurd c9 (by omega)
  | succ k ih =>
    intro u a ls hv hl K
    refine lv_iload_n hx hb d_M_size_4 rfl (lv_at hl 3 rfl) ?_
    refine lv_aload_n hx hb d_M_size_5 rfl (lv_at hl 0 rfl) ?_
    refine gM_n X h d_M_size_6 ?_
    refine n_icmp_ge (tgt := 26) hx hb (by omega) (by omega) d_M_size_9 (by decide) (fun c9 => ?_) (fun c9 => ?_)
    · exact absurd c9 (by omega)
    · refine lv_iload_n hx hb d_M_size_12 rfl (lv_at hl 2 rfl) ?_
      refine lv_iload_n hx hb d_M_size_13 rfl (lv_at hl 1 rfl) ?_
      refine lv_iload_n hx hb d_M_size_14 rfl (lv_at hl 3 rfl) ?_
      refine lv_ishr hx hb d_M_size_15 ?_
      refine lv_iconst (v := nI 1) hx hb d_M_size_16 (by decide) ?_
      refine lv_iand hx hb d_M_size_17 ?_
      refine tp_i (y := bitI x u) rfl ?_
      refine lv_iadd hx hb d_M_size_18 ?_
      refine lv_istore_n (lv' := [(2, .int (a + (bitI x u))), (0, .ref (g.2.1 0)), (1, .int x), (3, .int (nI u))]) hx hb d_M_size_19 rfl hl (by decide) rfl (fun ls hl => ?_)
      refine lv_iinc (v := nI (u + 1)) (lv' := [(3, .int (nI (u + 1))), (2, .int (a + (bitI x u))), (0, .ref (g.2.1 0)), (1, .int x)]) hx hb d_M_size_20 hl (k := 3) rfl (inc1 u) (by decide) rfl (fun ls hl => ?_)
      refine lv_goto (tgt := 4) hx hb d_M_size_23 (by decide) ?_
      exact ih _ _ _ (by omega) (lv_sub hl [2, 3, 1, 0] rfl) (fun ls r hr hl => K ls r (fS_s rfl hr) hl)

set_option maxHeartbeats 4000000 in
set_option maxRecDepth 100000 in
theorem c_M_size (l : Launch) (g : GD) {N : Nat} (hN : N ≤ 10) {fw fm : Nat → Int32} (x : Int32) : CRM l y_M_size (.code y_M_size b_M_size 4 (some .int)) rm_M_size g (nI N, fw, fm) [.int x] (fun r => r = membersI N x) := by
  refine mkRM (by decide) (Nat.le_of_ble_eq_true rfl) ?_
  intro p e s m below meth c ls X hr hlk h hl
  obtain ⟨hx, hb, hml, hown, htl⟩ := id X
  have hl : lv_has ls 4 [(0, .ref (g.2.1 0)), (1, .int x)] := hl
  refine lv_iconst (v := nI 0) hx hb d_M_size_0 (by decide) ?_
  refine lv_istore_n (lv' := [(2, .int (nI 0)), (0, .ref (g.2.1 0)), (1, .int x)]) hx hb d_M_size_1 rfl hl (by decide) rfl (fun ls hl => ?_)
  refine lv_iconst (v := nI 0) hx hb d_M_size_2 (by decide) ?_
  refine lv_istore_n (lv' := [(3, .int (nI 0)), (2, .int (nI 0)), (0, .ref (g.2.1 0)), (1, .int x)]) hx hb d_M_size_3 rfl hl (by decide) rfl (fun ls hl => ?_)
  refine lp_M_size X hN h N 0 _ _ (by omega) (lv_sub hl [2, 3, 1, 0] rfl) (fun ls r hr2 hl => ?_)
  refine lv_iload_n hx hb d_M_size_26 rfl (lv_at hl 2 rfl) ?_
  exact endRI X hr hlk hr2 d_M_size_27

set_option maxHeartbeats 4000000 in
set_option maxRecDepth 100000 in
theorem lp_M_allowed {p : Program} {l : Launch} {e : Env} {s : State} {m : MethodId} {args : Array Value} {below : List Frame} {meth : Method} {c : Code} {H : Heap} {locs : List Loc} {cells slots : Nat} {Q : State → Prop} {g : GD} {R : Room} (X : CallFix p m c b_M_allowed 4 s args tb R_M) {N : Nat} (hN : N ≤ 10) {fw fm : Nat → Int32} (h : RM g (nI N, fw, fm) s H) {x : Int32} (Kt : alwI N fm x → ∀ ls : Array Slot, lv_has ls 4 [(0, .ref (g.2.1 0)), (1, .int x)] → W p l e R s m args below meth c H locs cells slots Q (F0 m 61 ls [])) (Kf : ¬ alwI N fm x → ∀ ls : Array Slot, lv_has ls 4 [(0, .ref (g.2.1 0)), (1, .int x)] → W p l e R s m args below meth c H locs cells slots Q (F0 m 53 ls [])) :
    ∀ (k v : Nat) (ls : Array Slot), v + k = N → lv_has ls 4 [(0, .ref (g.2.1 0)), (1, .int x), (2, .int (nI v))] → (∀ w, w < v → okV fm x w) → W p l e R s m args below meth c H locs cells slots Q (F0 m 2 ls []) := by
  obtain ⟨hx, hb, hml, hown, htl⟩ := id X
  have htw : ∀ n : Nat, n ≤ 100000 → n < 2 ^ 31 := fun n h => by omega
  intro k
  induction k with
  | zero =>
    intro v ls hv hl hi
    refine lv_iload_n hx hb d_M_allowed_2 rfl (lv_at hl 2 rfl) ?_
    refine lv_aload_n hx hb d_M_allowed_3 rfl (lv_at hl 0 rfl) ?_
    refine gM_n X h d_M_allowed_4 ?_
    refine n_icmp_ge (tgt := 61) hx hb (by omega) (by omega) d_M_allowed_7 (by decide) (fun c7 => ?_) (fun c7 => ?_)
    · exact Kt (fun w hw => hi w (by omega)) _ (lv_sub hl [0, 1] rfl)
    · exact absurd c7 (by omega)
  | succ k ih =>
    intro v ls hv hl hi
    refine lv_iload_n hx hb d_M_allowed_2 rfl (lv_at hl 2 rfl) ?_
    refine lv_aload_n hx hb d_M_allowed_3 rfl (lv_at hl 0 rfl) ?_
    refine gM_n X h d_M_allowed_4 ?_
    refine n_icmp_ge (tgt := 61) hx hb (by omega) (by omega) d_M_allowed_7 (by decide) (fun c7 => ?_) (fun c7 => ?_)
    · exact absurd c7 (by omega)
    · refine lv_iload_n hx hb d_M_allowed_10 rfl (lv_at hl 1 rfl) ?_
      refine lv_iload_n hx hb d_M_allowed_11 rfl (lv_at hl 2 rfl) ?_
      refine lv_ishr hx hb d_M_allowed_12 ?_
      refine lv_iconst (v := nI 1) hx hb d_M_allowed_13 (by decide) ?_
      refine lv_iand hx hb d_M_allowed_14 ?_
      refine tp_i (y := bitI x v) rfl ?_
      refine lv_iconst (v := nI 1) hx hb d_M_allowed_15 (by decide) ?_
      refine lv_icmp_ne (tgt := 23) hx hb d_M_allowed_16 (by decide) (fun c16 => ?_) (fun c16 => ?_)
      · refine lv_iconst (v := nI 0) hx hb d_M_allowed_23 (by decide) ?_
        refine lv_istore_n (lv' := [(3, .int (nI 0)), (0, .ref (g.2.1 0)), (1, .int x), (2, .int (nI v))]) hx hb d_M_allowed_24 rfl hl (by decide) rfl (fun ls hl => ?_)
        refine lv_iload_n hx hb d_M_allowed_25 rfl (lv_at hl 0 rfl) ?_
        refine lv_if_eq (tgt := 39) hx hb d_M_allowed_26 (by decide) (fun c26 => ?_) (fun c26 => ?_)
        · refine lv_iload_n hx hb d_M_allowed_39 rfl (lv_at hl 0 rfl) ?_
          refine lv_if_ne (tgt := 55) hx hb d_M_allowed_40 (by decide) (fun c40 => ?_) (fun c40 => ?_)
          · exact absurd c40 (by decide)
          · refine lv_aload_n hx hb d_M_allowed_43 rfl (lv_at hl 1 rfl) ?_
            refine gM_modes X h d_M_allowed_44 ?_
            refine lv_iload_n hx hb d_M_allowed_47 rfl (lv_at hl 3 rfl) ?_
            refine lm_fm (i := v) X h (by omega) d_M_allowed_48 ?_
            refine lv_iconst (v := nI 1) hx hb d_M_allowed_49 (by decide) ?_
            refine lv_icmp_ne (tgt := 55) hx hb d_M_allowed_50 (by decide) (fun c50 => ?_) (fun c50 => ?_)
            · refine lv_iinc (v := nI (v + 1)) (lv' := [(2, .int (nI (v + 1))), (3, .int (nI 0)), (0, .ref (g.2.1 0)), (1, .int x)]) hx hb d_M_allowed_55 hl (k := 3) rfl (inc1 v) (by decide) rfl (fun ls hl => ?_)
              refine lv_goto (tgt := 2) hx hb d_M_allowed_58 (by decide) ?_
              exact ih _ _ (by omega) (lv_sub hl [2, 3, 0] rfl) (lt_s hi ⟨by first | exact fun q => absurd q c16 | exact fun _ => c36, by first | exact fun q => absurd c16 q | exact fun _ => c50⟩)
            · exact Kf (fun q => by first | exact (q v (by omega)).1 c16 c36 | exact (q v (by omega)).2 c16 c50) _ (lv_sub hl [1, 2] rfl)
        · exact absurd c26 (by decide)
      · refine lv_iconst (v := nI 1) hx hb d_M_allowed_19 (by decide) ?_
        refine lv_goto (tgt := 24) hx hb d_M_allowed_20 (by decide) ?_
        refine lv_istore_n (lv' := [(3, .int (nI 1)), (0, .ref (g.2.1 0)), (1, .int x), (2, .int (nI v))]) hx hb d_M_allowed_24 rfl hl (by decide) rfl (fun ls hl => ?_)
        refine lv_iload_n hx hb d_M_allowed_25 rfl (lv_at hl 0 rfl) ?_
        refine lv_if_eq (tgt := 39) hx hb d_M_allowed_26 (by decide) (fun c26 => ?_) (fun c26 => ?_)
        · exact absurd c26 (by decide)
        · refine lv_aload_n hx hb d_M_allowed_29 rfl (lv_at hl 1 rfl) ?_
          refine gM_modes X h d_M_allowed_30 ?_
          refine lv_iload_n hx hb d_M_allowed_33 rfl (lv_at hl 3 rfl) ?_
          refine lm_fm (i := v) X h (by omega) d_M_allowed_34 ?_
          refine lv_iconst (v := nI 2) hx hb d_M_allowed_35 (by decide) ?_
          refine lv_icmp_eq (tgt := 53) hx hb d_M_allowed_36 (by decide) (fun c36 => ?_) (fun c36 => ?_)
          · exact Kf (fun q => by first | exact (q v (by omega)).1 c16 c36 | exact (q v (by omega)).2 c16 c50) _ (lv_sub hl [1, 2] rfl)
          · refine lv_iload_n hx hb d_M_allowed_39 rfl (lv_at hl 0 rfl) ?_
            refine lv_if_ne (tgt := 55) hx hb d_M_allowed_40 (by decide) (fun c40 => ?_) (fun c40 => ?_)
            · refine lv_iinc (v := nI (v + 1)) (lv' := [(2, .int (nI (v + 1))), (3, .int (nI 1)), (0, .ref (g.2.1 0)), (1, .int x)]) hx hb d_M_allowed_55 hl (k := 3) rfl (inc1 v) (by decide) rfl (fun ls hl => ?_)
              refine lv_goto (tgt := 2) hx hb d_M_allowed_58 (by decide) ?_
              exact ih _ _ (by omega) (lv_sub hl [2, 3, 0] rfl) (lt_s hi ⟨by first | exact fun q => absurd q c16 | exact fun _ => c36, by first | exact fun q => absurd c16 q | exact fun _ => c50⟩)
            · exact absurd c40 (by decide)

set_option maxHeartbeats 4000000 in
set_option maxRecDepth 100000 in
theorem c_M_allowed (l : Launch) (g : GD) {N : Nat} (hN : N ≤ 10) {fw fm : Nat → Int32} (x : Int32) : CRM l y_M_allowed (.code y_M_allowed b_M_allowed 4 (some .boolean)) rm_M_allowed g (nI N, fw, fm) [.int x] (fun r => (alwI N fm x ∧ r = nI 1) ∨ (¬ alwI N fm x ∧ r = nI 0)) := by
  refine mkRM (by decide) (Nat.le_of_ble_eq_true rfl) ?_
  intro p e s m below meth c ls X hr hlk h hl
  obtain ⟨hx, hb, hml, hown, htl⟩ := id X
  have hl : lv_has ls 4 [(0, .ref (g.2.1 0)), (1, .int x)] := hl
  refine lv_iconst (v := nI 0) hx hb d_M_allowed_0 (by decide) ?_
  refine lv_istore_n (lv' := [(2, .int (nI 0)), (0, .ref (g.2.1 0)), (1, .int x)]) hx hb d_M_allowed_1 rfl hl (by decide) rfl (fun ls hl => ?_)
  refine lp_M_allowed X hN h (fun hq ls hl => ?_) (fun hq ls hl => ?_) N 0 _ (by omega) (lv_sub hl [1, 2, 0] rfl) lt_0
  · refine lv_iconst (v := nI 1) hx hb d_M_allowed_61 (by decide) ?_
    exact endRZ X hr hlk nz1 (Or.inl ⟨hq, rfl⟩) d_M_allowed_62
  · refine lv_iconst (v := nI 0) hx hb d_M_allowed_53 (by decide) ?_
    exact endRZ X hr hlk nz0 (Or.inr ⟨hq, rfl⟩) d_M_allowed_54

set_option maxHeartbeats 4000000 in
set_option maxRecDepth 100000 in
theorem lp_D_gcd {p : Program} {l : Launch} {e : Env} {s : State} {m : MethodId} {args : Array Value} {below : List Frame} {meth : Method} {c : Code} {H : Heap} {locs : List Loc} {cells slots : Nat} {Q : State → Prop} {R : Room} (X : CallFix p m c b_D_gcd 6 s args tb R_D) :
    ∀ (k x y i : Nat) (ls : Array Slot), i + k < 40 → x < 2 ^ 31 → y < 2 ^ 31 → y ≤ k → lv_has ls 6 [(2, .int (nI x)), (3, .int (nI y)), (4, .int (nI i))] → (∀ (ls : Array Slot) (r : Nat), r = Nat.gcd x y → lv_has ls 6 [(2, .int (nI r))] → W p l e R s m args below meth c H locs cells slots Q (F0 m 34 ls [])) → W p l e R s m args below meth c H locs cells slots Q (F0 m 7 ls []) := by
  obtain ⟨hx, hb, hml, hown, htl⟩ := id X
  have htw : ∀ n : Nat, n ≤ 100000 → n < 2 ^ 31 := fun n h => by omega
  intro k
  induction k with
  | zero =>
    intro x y i ls hi hx2 hy2 hyk hl K
    refine lv_iload hx hb d_D_gcd_7 (lv_at hl 2 rfl) ?_
    refine lv_bipush (v := nI 40) hx hb d_D_gcd_9 (by decide) ?_
    refine n_icmp_ge (tgt := 34) hx hb (by omega) (by omega) d_D_gcd_11 (by decide) (fun c11 => ?_) (fun c11 => ?_)
    · exact absurd c11 (by omega)
    · refine lv_iload_n hx hb d_D_gcd_14 rfl (lv_at hl 1 rfl) ?_
      refine lv_if_le (tgt := 34) hx hb d_D_gcd_15 (by decide) (fun c15 => ?_) (fun c15 => ?_)
      · exact K _ _ (by rw [show y = 0 from by omega, Nat.gcd_zero_right]) (lv_sub hl [0] rfl)
      · exact absurd (show nI y ≤ 0 by rw [show y = 0 from by omega]; decide) c15
  | succ k ih =>
    intro x y i ls hi hx2 hy2 hyk hl K
    refine lv_iload hx hb d_D_gcd_7 (lv_at hl 2 rfl) ?_
    refine lv_bipush (v := nI 40) hx hb d_D_gcd_9 (by decide) ?_
    refine n_icmp_ge (tgt := 34) hx hb (by omega) (by omega) d_D_gcd_11 (by decide) (fun c11 => ?_) (fun c11 => ?_)
    · exact absurd c11 (by omega)
    · refine lv_iload_n hx hb d_D_gcd_14 rfl (lv_at hl 1 rfl) ?_
      refine lv_if_le (tgt := 34) hx hb d_D_gcd_15 (by decide) (fun c15 => ?_) (fun c15 => ?_)
      · obtain rfl : y = 0 := by
         rcases Nat.eq_zero_or_pos y with q | q
         · exact q
         · exact absurd c15 (nI_nle q (by omega))
        exact K _ _ (by rw [Nat.gcd_zero_right]) (lv_sub hl [0] rfl)
      · have hy0 : 0 < y := by
         rcases Nat.eq_zero_or_pos y with q | q
         · exact absurd (show nI y ≤ 0 by rw [q]; decide) c15
         · exact q
        refine lv_iload_n hx hb d_D_gcd_18 rfl (lv_at hl 0 rfl) ?_
        refine lv_iload_n hx hb d_D_gcd_19 rfl (lv_at hl 1 rfl) ?_
        refine lv_irem hx hb d_D_gcd_20 (nI_ne0 hy0 (by omega)) ?_
        refine tp_i (y := nI (x % y)) (pk_rem (by omega) hy0 (by omega)) ?_
        refine lv_istore (lv' := [(5, .int (nI (x % y))), (2, .int (nI x)), (3, .int (nI y)), (4, .int (nI i))]) hx hb d_D_gcd_21 hl (by decide) rfl (fun ls hl => ?_)
        refine lv_iload_n hx hb d_D_gcd_23 rfl (lv_at hl 2 rfl) ?_
        refine lv_istore_n (lv' := [(2, .int (nI y)), (5, .int (nI (x % y))), (3, .int (nI y)), (4, .int (nI i))]) hx hb d_D_gcd_24 rfl hl (by decide) rfl (fun ls hl => ?_)
        refine lv_iload hx hb d_D_gcd_25 (lv_at hl 1 rfl) ?_
        refine lv_istore_n (lv' := [(3, .int (nI (x % y))), (2, .int (nI y)), (5, .int (nI (x % y))), (4, .int (nI i))]) hx hb d_D_gcd_27 rfl hl (by decide) rfl (fun ls hl => ?_)
        refine lv_iinc (v := nI (i + 1)) (lv' := [(4, .int (nI (i + 1))), (3, .int (nI (x % y))), (2, .int (nI y)), (5, .int (nI (x % y)))]) hx hb d_D_gcd_28 hl (k := 3) rfl (inc1 i) (by decide) rfl (fun ls hl => ?_)
        refine lv_goto (tgt := 7) hx hb d_D_gcd_31 (by decide) ?_
        exact ih _ _ _ _ (by omega) (by omega) (by have := Nat.mod_lt x hy0; omega) (by have := Nat.mod_lt x hy0; omega) (lv_sub hl [2, 1, 0] rfl) (fun ls r hr hl => K ls r (by rw [hr, Nat.gcd_comm x y, Nat.gcd_rec y x, Nat.gcd_comm]) hl)

set_option maxHeartbeats 4000000 in
set_option maxRecDepth 100000 in
theorem c_D_gcd (l : Launch) {a b : Nat} (ha : a < 2 ^ 31) (hb10 : b ≤ 10) : CST l y_D_gcd (.code y_D_gcd b_D_gcd 6 (some .int)) rm_D_gcd [.int (nI a), .int (nI b)] (fun r => r = nI (Nat.gcd a b)) := by
  refine mkST (by decide) (Nat.le_of_ble_eq_true rfl) ?_
  intro p e s m below meth c ls X hr hlk h hl
  obtain ⟨hx, hb, hml, hown, htl⟩ := id X
  have hl : lv_has ls 6 [(0, .int (nI a)), (1, .int (nI b))] := hl
  refine lv_iload_n hx hb d_D_gcd_0 rfl (lv_at hl 0 rfl) ?_
  refine lv_istore_n (lv' := [(2, .int (nI a)), (0, .int (nI a)), (1, .int (nI b))]) hx hb d_D_gcd_1 rfl hl (by decide) rfl (fun ls hl => ?_)
  refine lv_iload_n hx hb d_D_gcd_2 rfl (lv_at hl 2 rfl) ?_
  refine lv_istore_n (lv' := [(3, .int (nI b)), (2, .int (nI a)), (0, .int (nI a)), (1, .int (nI b))]) hx hb d_D_gcd_3 rfl hl (by decide) rfl (fun ls hl => ?_)
  refine lv_iconst (v := nI 0) hx hb d_D_gcd_4 (by decide) ?_
  refine lv_istore (lv' := [(4, .int (nI 0)), (3, .int (nI b)), (2, .int (nI a)), (0, .int (nI a)), (1, .int (nI b))]) hx hb d_D_gcd_5 hl (by decide) rfl (fun ls hl => ?_)
  refine lp_D_gcd X b a b 0 _ (by omega) ha (by omega) (Nat.le_refl b) (lv_sub hl [2, 1, 0] rfl) (fun ls r hr2 hl => ?_)
  refine lv_iload_n hx hb d_D_gcd_34 rfl (lv_at hl 0 rfl) ?_
  exact endRI X hr hlk (by rw [hr2]) d_D_gcd_35

set_option maxHeartbeats 4000000 in
set_option maxRecDepth 100000 in
theorem c_D_valueOf (l : Launch) (g : GD) {N : Nat} (hN : N ≤ 10) {cs bt bb bs : Int32} {fp fe fm fr fc fq fb : Nat → Int32} (x a b : Int32) : CRD l y_D_valueOf (.code y_D_valueOf b_D_valueOf 6 (some .int)) rm_D_valueOf g (nI N, fp, fe, fm, fr, fc, fq, fb, cs, bt, bb, bs) [.int x, .int a, .int b] (fun r => r = a * weightD fp fe N x - b * membersI 10 x) := by
  refine mkRD (by decide) (Nat.le_of_ble_eq_true rfl) ?_
  intro p e s m below meth c ls X hr hlk h hl
  obtain ⟨hx, hb, hml, hown, htl⟩ := id X
  have hl : lv_has ls 6 [(0, .ref (g.2.1 0)), (1, .int x), (2, .int a), (3, .int b)] := hl
  refine lv_aload_n hx hb d_D_valueOf_0 rfl (lv_at hl 0 rfl) ?_
  refine lv_iload_n hx hb d_D_valueOf_1 rfl (lv_at hl 1 rfl) ?_
  refine callRD (rest := []) X hl.1 (c_D_weight l g hN x) e_ml_D_D_weight e_im_D_weight e_se_D_weight e_co_D_weight hd_D_weight ⟨rfl, rfl⟩ ⟨Nat.le_of_ble_eq_true rfl, Nat.le_of_ble_eq_true rfl⟩ h rfl rfl (Nat.le_of_ble_eq_true rfl) ⟨Nat.zero_le _, Nat.zero_le _⟩ d_D_valueOf_2 (fun r2 hr2 => ?_)
  subst hr2
  refine lv_istore (lv' := [(4, .int ((weightD fp fe N x))), (0, .ref (g.2.1 0)), (1, .int x), (2, .int a), (3, .int b)]) hx hb d_D_valueOf_5 hl (by decide) rfl (fun ls hl => ?_)
  refine lv_iload_n hx hb d_D_valueOf_7 rfl (lv_at hl 2 rfl) ?_
  refine callST (rest := []) X hl.1 (c_D_members l x) e_ml_D_D_members e_im_D_members e_in_D e_co_D_members hd_D_members ⟨rfl, rfl⟩ ⟨Nat.le_of_ble_eq_true rfl, Nat.le_of_ble_eq_true rfl⟩ rfl rfl (Nat.le_of_ble_eq_true rfl) ⟨Nat.zero_le _, Nat.zero_le _⟩ d_D_valueOf_8 (fun r8 hr8 => ?_)
  subst hr8
  refine lv_istore (lv' := [(5, .int ((membersI 10 x))), (4, .int ((weightD fp fe N x))), (0, .ref (g.2.1 0)), (1, .int x), (2, .int a), (3, .int b)]) hx hb d_D_valueOf_11 hl (by decide) rfl (fun ls hl => ?_)
  refine lv_iload_n hx hb d_D_valueOf_13 rfl (lv_at hl 4 rfl) ?_
  refine lv_iload hx hb d_D_valueOf_14 (lv_at hl 1 rfl) ?_
  refine lv_imul hx hb d_D_valueOf_16 ?_
  refine lv_iload_n hx hb d_D_valueOf_17 rfl (lv_at hl 5 rfl) ?_
  refine lv_iload hx hb d_D_valueOf_18 (lv_at hl 0 rfl) ?_
  refine lv_imul hx hb d_D_valueOf_20 ?_
  refine lv_isub hx hb d_D_valueOf_21 ?_
  exact endRI X hr hlk rfl d_D_valueOf_22

/-- what edge(x, y, w) answers and does to a table f of pairs -/
def edgeP (N : Nat) (x y w : Int32) (f : Nat → Int32) (r : Int32) (f2 : Nat → Int32) : Prop :=
  ((badP N x ∨ badP N y ∨ x = y) ∧ r = (-1) ∧ f2 = f) ∨ (¬ (badP N x ∨ badP N y ∨ x = y) ∧ (w < 0 ∨ nI 20 < w) ∧ r = (-2) ∧ f2 = f) ∨
  (∃ a b : Nat, a < N ∧ b < N ∧ a ≠ b ∧ x = nI a ∧ y = nI b ∧ ¬ (w < 0 ∨ nI 20 < w) ∧ r = f (a * 10 + b) ∧ f2 = upd (upd f (a * 10 + b) w) (b * 10 + a) w)
/-- what bonus, mode (v, w) answer and do to a table f, at the place i of vertex a, w at most T -/
def bonusP (N T : Nat) (q : Nat → Nat) (er : Int32) (x w : Int32) (f : Nat → Int32) (r : Int32) (f2 : Nat → Int32) : Prop :=
  (badP N x ∧ r = (-1) ∧ f2 = f) ∨ (¬ badP N x ∧ (w < 0 ∨ nI T < w) ∧ r = er ∧ f2 = f) ∨
  (∃ a : Nat, a < N ∧ x = nI a ∧ ¬ (w < 0 ∨ nI T < w) ∧ r = f (q a) ∧ f2 = upd f (q a) w)
set_option maxHeartbeats 4000000 in
set_option maxRecDepth 100000 in
theorem c_D_edge (l : Launch) (g : GD) {N : Nat} (hN : N ≤ 10) {cs bt bb bs : Int32} {fp fe fm fr fc fq fb : Nat → Int32} (x y w : Int32) : CWD l y_D_edge (.code y_D_edge b_D_edge 5 (some .int)) rm_D_edge g (nI N, fp, fe, fm, fr, fc, fq, fb, cs, bt, bb, bs) [.int x, .int y, .int w] (fun r u2 => ∃ f2, edgeP N x y w fp r f2 ∧ u2 = (nI N, f2, fe, fm, fr, fc, fq, fb, cs, bt, bb, bs)) := by
  refine mkWD (by decide) (Nat.le_of_ble_eq_true rfl) ?_
  intro p e s m below meth c ls X hr hlk h hl
  obtain ⟨hx, hb, hml, hown, htl⟩ := id X
  have hl : lv_has ls 5 [(0, .ref (g.2.1 0)), (1, .int x), (2, .int y), (3, .int w)] := hl
  refine lv_aload_n hx hb d_D_edge_0 rfl (lv_at hl 0 rfl) ?_
  refine lv_iload_n hx hb d_D_edge_1 rfl (lv_at hl 1 rfl) ?_
  refine callRD (rest := []) X hl.1 (c_D_bad l g x) e_ml_D_D_bad e_im_D_bad e_se_D_bad e_co_D_bad hd_D_bad ⟨rfl, rfl⟩ ⟨Nat.le_of_ble_eq_true rfl, Nat.le_of_ble_eq_true rfl⟩ h.1 rfl rfl (Nat.le_of_ble_eq_true rfl) ⟨Nat.zero_le _, Nat.zero_le _⟩ d_D_edge_2 (fun r2 hr2 => ?_)
  rcases hr2 with ⟨br2, rfl⟩ | ⟨br2, rfl⟩
  · refine lv_if_ne (tgt := 21) hx hb d_D_edge_5 (by decide) (fun c5 => ?_) (fun c5 => ?_)
    · refine lv_iconst (v := (-1)) hx hb d_D_edge_21 (by decide) ?_
      exact endWD X hr hlk h (⟨_, Or.inl ⟨by first | exact Or.inl br2 | exact Or.inr (Or.inl br10) | exact Or.inr (Or.inr c18), rfl, rfl⟩, rfl⟩) d_D_edge_22
    · exact absurd c5 (by decide)
  · refine lv_if_ne (tgt := 21) hx hb d_D_edge_5 (by decide) (fun c5 => ?_) (fun c5 => ?_)
    · exact absurd c5 (by decide)
    · refine lv_aload_n hx hb d_D_edge_8 rfl (lv_at hl 0 rfl) ?_
      refine lv_iload_n hx hb d_D_edge_9 rfl (lv_at hl 2 rfl) ?_
      refine callRD (rest := []) X hl.1 (c_D_bad l g y) e_ml_D_D_bad e_im_D_bad e_se_D_bad e_co_D_bad hd_D_bad ⟨rfl, rfl⟩ ⟨Nat.le_of_ble_eq_true rfl, Nat.le_of_ble_eq_true rfl⟩ h.1 rfl rfl (Nat.le_of_ble_eq_true rfl) ⟨Nat.zero_le _, Nat.zero_le _⟩ d_D_edge_10 (fun r10 hr10 => ?_)
      rcases hr10 with ⟨br10, rfl⟩ | ⟨br10, rfl⟩
      · refine lv_if_ne (tgt := 21) hx hb d_D_edge_13 (by decide) (fun c13 => ?_) (fun c13 => ?_)
        · refine lv_iconst (v := (-1)) hx hb d_D_edge_21 (by decide) ?_
          exact endWD X hr hlk h (⟨_, Or.inl ⟨by first | exact Or.inl br2 | exact Or.inr (Or.inl br10) | exact Or.inr (Or.inr c18), rfl, rfl⟩, rfl⟩) d_D_edge_22
        · exact absurd c13 (by decide)
      · refine lv_if_ne (tgt := 21) hx hb d_D_edge_13 (by decide) (fun c13 => ?_) (fun c13 => ?_)
        · exact absurd c13 (by decide)
        · refine lv_iload_n hx hb d_D_edge_16 rfl (lv_at hl 1 rfl) ?_
          refine lv_iload_n hx hb d_D_edge_17 rfl (lv_at hl 2 rfl) ?_
          refine lv_icmp_ne (tgt := 23) hx hb d_D_edge_18 (by decide) (fun c18 => ?_) (fun c18 => ?_)
          · refine lv_iload_n hx hb d_D_edge_23 rfl (lv_at hl 3 rfl) ?_
            refine lv_if_lt (tgt := 33) hx hb d_D_edge_24 (by decide) (fun c24 => ?_) (fun c24 => ?_)
            · refine lv_bipush (v := (-2)) hx hb d_D_edge_33 (by decide) ?_
              exact endWD X hr hlk h (⟨_, Or.inr (Or.inl ⟨fun q => q.elim br2 (fun q => q.elim br10 c18), by first | exact Or.inl c24 | exact Or.inr (Int32.not_le.mp c30), rfl, rfl⟩), rfl⟩) d_D_edge_35
            · refine lv_iload_n hx hb d_D_edge_27 rfl (lv_at hl 3 rfl) ?_
              refine lv_bipush (v := nI 20) hx hb d_D_edge_28 (by decide) ?_
              refine lv_icmp_le (tgt := 36) hx hb d_D_edge_30 (by decide) (fun c30 => ?_) (fun c30 => ?_)
              · obtain ⟨a, ha, rfl⟩ := nbad hN br2
                obtain ⟨b, hb2, rfl⟩ := nbad hN br10
                refine lv_aload_n hx hb d_D_edge_36 rfl (lv_at hl 0 rfl) ?_
                refine gD_pair X h.1 d_D_edge_37 ?_
                refine lv_iload_n hx hb d_D_edge_40 rfl (lv_at hl 1 rfl) ?_
                refine lv_bipush (v := nI 10) hx hb d_D_edge_41 (by decide) ?_
                refine n_imul hx hb d_D_edge_43 ?_
                refine lv_iload_n hx hb d_D_edge_44 rfl (lv_at hl 2 rfl) ?_
                refine n_iadd hx hb d_D_edge_45 ?_
                refine ld_fp (i := a * 10 + b) X h.1 (by omega) d_D_edge_46 ?_
                refine lv_istore (lv' := [(4, .int (fp (a * 10 + b))), (0, .ref (g.2.1 0)), (1, .int (nI a)), (2, .int (nI b)), (3, .int w)]) hx hb d_D_edge_47 hl (by decide) rfl (fun ls hl => ?_)
                refine lv_aload_n hx hb d_D_edge_49 rfl (lv_at hl 1 rfl) ?_
                refine gD_pair X h.1 d_D_edge_50 ?_
                refine lv_iload_n hx hb d_D_edge_53 rfl (lv_at hl 2 rfl) ?_
                refine lv_bipush (v := nI 10) hx hb d_D_edge_54 (by decide) ?_
                refine n_imul hx hb d_D_edge_56 ?_
                refine lv_iload_n hx hb d_D_edge_57 rfl (lv_at hl 3 rfl) ?_
                refine n_iadd hx hb d_D_edge_58 ?_
                refine lv_iload_n hx hb d_D_edge_59 rfl (lv_at hl 4 rfl) ?_
                refine st_fp (i := a * 10 + b) X h (by omega) d_D_edge_60 (fun H locs h => ?_)
                refine lv_aload_n hx hb d_D_edge_61 rfl (lv_at hl 1 rfl) ?_
                refine gD_pair X h.1 d_D_edge_62 ?_
                refine lv_iload_n hx hb d_D_edge_65 rfl (lv_at hl 3 rfl) ?_
                refine lv_bipush (v := nI 10) hx hb d_D_edge_66 (by decide) ?_
                refine n_imul hx hb d_D_edge_68 ?_
                refine lv_iload_n hx hb d_D_edge_69 rfl (lv_at hl 2 rfl) ?_
                refine n_iadd hx hb d_D_edge_70 ?_
                refine lv_iload_n hx hb d_D_edge_71 rfl (lv_at hl 4 rfl) ?_
                refine st_fp (i := b * 10 + a) X h (by omega) d_D_edge_72 (fun H locs h => ?_)
                refine lv_iload hx hb d_D_edge_73 (lv_at hl 0 rfl) ?_
                exact endWD X hr hlk h (⟨_, Or.inr (Or.inr ⟨a, b, ha, hb2, fun q => c18 (by rw [q]), rfl, rfl, fun q => q.elim c24 (fun q => absurd c30 (Int32.not_le.mpr q)), rfl, rfl⟩), rfl⟩) d_D_edge_75
              · refine lv_bipush (v := (-2)) hx hb d_D_edge_33 (by decide) ?_
                exact endWD X hr hlk h (⟨_, Or.inr (Or.inl ⟨fun q => q.elim br2 (fun q => q.elim br10 c18), by first | exact Or.inl c24 | exact Or.inr (Int32.not_le.mp c30), rfl, rfl⟩), rfl⟩) d_D_edge_35
          · refine lv_iconst (v := (-1)) hx hb d_D_edge_21 (by decide) ?_
            exact endWD X hr hlk h (⟨_, Or.inl ⟨by first | exact Or.inl br2 | exact Or.inr (Or.inl br10) | exact Or.inr (Or.inr c18), rfl, rfl⟩, rfl⟩) d_D_edge_22

set_option maxHeartbeats 4000000 in
set_option maxRecDepth 100000 in
theorem c_D_bonus (l : Launch) (g : GD) {N : Nat} (hN : N ≤ 10) {cs bt bb bs : Int32} {fp fe fm fr fc fq fb : Nat → Int32} (x w : Int32) : CWD l y_D_bonus (.code y_D_bonus b_D_bonus 4 (some .int)) rm_D_bonus g (nI N, fp, fe, fm, fr, fc, fq, fb, cs, bt, bb, bs) [.int x, .int w] (fun r u2 => ∃ f2, bonusP N 20 (fun a => a) (-2) x w fe r f2 ∧ u2 = (nI N, fp, f2, fm, fr, fc, fq, fb, cs, bt, bb, bs)) := by
  refine mkWD (by decide) (Nat.le_of_ble_eq_true rfl) ?_
  intro p e s m below meth c ls X hr hlk h hl
  obtain ⟨hx, hb, hml, hown, htl⟩ := id X
  have hl : lv_has ls 4 [(0, .ref (g.2.1 0)), (1, .int x), (2, .int w)] := hl
  refine lv_aload_n hx hb d_D_bonus_0 rfl (lv_at hl 0 rfl) ?_
  refine lv_iload_n hx hb d_D_bonus_1 rfl (lv_at hl 1 rfl) ?_
  refine callRD (rest := []) X hl.1 (c_D_bad l g x) e_ml_D_D_bad e_im_D_bad e_se_D_bad e_co_D_bad hd_D_bad ⟨rfl, rfl⟩ ⟨Nat.le_of_ble_eq_true rfl, Nat.le_of_ble_eq_true rfl⟩ h.1 rfl rfl (Nat.le_of_ble_eq_true rfl) ⟨Nat.zero_le _, Nat.zero_le _⟩ d_D_bonus_2 (fun r2 hr2 => ?_)
  rcases hr2 with ⟨br2, rfl⟩ | ⟨br2, rfl⟩
  · refine lv_if_eq (tgt := 10) hx hb d_D_bonus_5 (by decide) (fun c5 => ?_) (fun c5 => ?_)
    · exact absurd c5 (by decide)
    · refine lv_iconst (v := (-1)) hx hb d_D_bonus_8 (by decide) ?_
      exact endWD X hr hlk h (⟨_, Or.inl ⟨br2, rfl, rfl⟩, rfl⟩) d_D_bonus_9
  · refine lv_if_eq (tgt := 10) hx hb d_D_bonus_5 (by decide) (fun c5 => ?_) (fun c5 => ?_)
    · refine lv_iload_n hx hb d_D_bonus_10 rfl (lv_at hl 2 rfl) ?_
      refine lv_if_lt (tgt := 20) hx hb d_D_bonus_11 (by decide) (fun c11 => ?_) (fun c11 => ?_)
      · refine lv_bipush (v := (-2)) hx hb d_D_bonus_20 (by decide) ?_
        exact endWD X hr hlk h (⟨_, Or.inr (Or.inl ⟨br2, by first | exact Or.inl c11 | exact Or.inr (Int32.not_le.mp c17), rfl, rfl⟩), rfl⟩) d_D_bonus_22
      · refine lv_iload_n hx hb d_D_bonus_14 rfl (lv_at hl 2 rfl) ?_
        refine lv_bipush (v := nI 20) hx hb d_D_bonus_15 (by decide) ?_
        refine lv_icmp_le (tgt := 23) hx hb d_D_bonus_17 (by decide) (fun c17 => ?_) (fun c17 => ?_)
        · obtain ⟨a, ha, rfl⟩ := nbad hN br2
          refine lv_aload_n hx hb d_D_bonus_23 rfl (lv_at hl 0 rfl) ?_
          refine gD_extra X h.1 d_D_bonus_24 ?_
          refine lv_iload_n hx hb d_D_bonus_27 rfl (lv_at hl 1 rfl) ?_
          refine ld_fe (i := a) X h.1 (by omega) d_D_bonus_28 ?_
          refine lv_istore_n (lv' := [(3, .int (fe a)), (0, .ref (g.2.1 0)), (1, .int (nI a)), (2, .int w)]) hx hb d_D_bonus_29 rfl hl (by decide) rfl (fun ls hl => ?_)
          refine lv_aload_n hx hb d_D_bonus_30 rfl (lv_at hl 1 rfl) ?_
          refine gD_extra X h.1 d_D_bonus_31 ?_
          refine lv_iload_n hx hb d_D_bonus_34 rfl (lv_at hl 2 rfl) ?_
          refine lv_iload_n hx hb d_D_bonus_35 rfl (lv_at hl 3 rfl) ?_
          refine st_fe (i := a) X h (by omega) d_D_bonus_36 (fun H locs h => ?_)
          refine lv_iload_n hx hb d_D_bonus_37 rfl (lv_at hl 0 rfl) ?_
          exact endWD X hr hlk h (⟨_, Or.inr (Or.inr ⟨a, ha, rfl, fun q => q.elim c11 (fun q => absurd c17 (Int32.not_le.mpr q)), rfl, rfl⟩), rfl⟩) d_D_bonus_38
        · refine lv_bipush (v := (-2)) hx hb d_D_bonus_20 (by decide) ?_
          exact endWD X hr hlk h (⟨_, Or.inr (Or.inl ⟨br2, by first | exact Or.inl c11 | exact Or.inr (Int32.not_le.mp c17), rfl, rfl⟩), rfl⟩) d_D_bonus_22
    · exact absurd c5 (by decide)

set_option maxHeartbeats 4000000 in
set_option maxRecDepth 100000 in
theorem c_D_mode (l : Launch) (g : GD) {N : Nat} (hN : N ≤ 10) {cs bt bb bs : Int32} {fp fe fm fr fc fq fb : Nat → Int32} (x w : Int32) : CWD l y_D_mode (.code y_D_mode b_D_mode 4 (some .int)) rm_D_mode g (nI N, fp, fe, fm, fr, fc, fq, fb, cs, bt, bb, bs) [.int x, .int w] (fun r u2 => ∃ f2, bonusP N 2 (fun a => a) (-3) x w fm r f2 ∧ u2 = (nI N, fp, fe, f2, fr, fc, fq, fb, cs, bt, bb, bs)) := by
  refine mkWD (by decide) (Nat.le_of_ble_eq_true rfl) ?_
  intro p e s m below meth c ls X hr hlk h hl
  obtain ⟨hx, hb, hml, hown, htl⟩ := id X
  have hl : lv_has ls 4 [(0, .ref (g.2.1 0)), (1, .int x), (2, .int w)] := hl
  refine lv_aload_n hx hb d_D_mode_0 rfl (lv_at hl 0 rfl) ?_
  refine lv_iload_n hx hb d_D_mode_1 rfl (lv_at hl 1 rfl) ?_
  refine callRD (rest := []) X hl.1 (c_D_bad l g x) e_ml_D_D_bad e_im_D_bad e_se_D_bad e_co_D_bad hd_D_bad ⟨rfl, rfl⟩ ⟨Nat.le_of_ble_eq_true rfl, Nat.le_of_ble_eq_true rfl⟩ h.1 rfl rfl (Nat.le_of_ble_eq_true rfl) ⟨Nat.zero_le _, Nat.zero_le _⟩ d_D_mode_2 (fun r2 hr2 => ?_)
  rcases hr2 with ⟨br2, rfl⟩ | ⟨br2, rfl⟩
  · refine lv_if_eq (tgt := 10) hx hb d_D_mode_5 (by decide) (fun c5 => ?_) (fun c5 => ?_)
    · exact absurd c5 (by decide)
    · refine lv_iconst (v := (-1)) hx hb d_D_mode_8 (by decide) ?_
      exact endWD X hr hlk h (⟨_, Or.inl ⟨br2, rfl, rfl⟩, rfl⟩) d_D_mode_9
  · refine lv_if_eq (tgt := 10) hx hb d_D_mode_5 (by decide) (fun c5 => ?_) (fun c5 => ?_)
    · refine lv_iload_n hx hb d_D_mode_10 rfl (lv_at hl 2 rfl) ?_
      refine lv_if_lt (tgt := 19) hx hb d_D_mode_11 (by decide) (fun c11 => ?_) (fun c11 => ?_)
      · refine lv_bipush (v := (-3)) hx hb d_D_mode_19 (by decide) ?_
        exact endWD X hr hlk h (⟨_, Or.inr (Or.inl ⟨br2, by first | exact Or.inl c11 | exact Or.inr (Int32.not_le.mp c16), rfl, rfl⟩), rfl⟩) d_D_mode_21
      · refine lv_iload_n hx hb d_D_mode_14 rfl (lv_at hl 2 rfl) ?_
        refine lv_iconst (v := nI 2) hx hb d_D_mode_15 (by decide) ?_
        refine lv_icmp_le (tgt := 22) hx hb d_D_mode_16 (by decide) (fun c16 => ?_) (fun c16 => ?_)
        · obtain ⟨a, ha, rfl⟩ := nbad hN br2
          refine lv_aload_n hx hb d_D_mode_22 rfl (lv_at hl 0 rfl) ?_
          refine gD_modes X h.1 d_D_mode_23 ?_
          refine lv_iload_n hx hb d_D_mode_26 rfl (lv_at hl 1 rfl) ?_
          refine ld_fm (i := a) X h.1 (by omega) d_D_mode_27 ?_
          refine lv_istore_n (lv' := [(3, .int (fm a)), (0, .ref (g.2.1 0)), (1, .int (nI a)), (2, .int w)]) hx hb d_D_mode_28 rfl hl (by decide) rfl (fun ls hl => ?_)
          refine lv_aload_n hx hb d_D_mode_29 rfl (lv_at hl 1 rfl) ?_
          refine gD_modes X h.1 d_D_mode_30 ?_
          refine lv_iload_n hx hb d_D_mode_33 rfl (lv_at hl 2 rfl) ?_
          refine lv_iload_n hx hb d_D_mode_34 rfl (lv_at hl 3 rfl) ?_
          refine st_fm (i := a) X h (by omega) d_D_mode_35 (fun H locs h => ?_)
          refine lv_iload_n hx hb d_D_mode_36 rfl (lv_at hl 0 rfl) ?_
          exact endWD X hr hlk h (⟨_, Or.inr (Or.inr ⟨a, ha, rfl, fun q => q.elim c11 (fun q => absurd c16 (Int32.not_le.mpr q)), rfl, rfl⟩), rfl⟩) d_D_mode_37
        · refine lv_bipush (v := (-3)) hx hb d_D_mode_19 (by decide) ?_
          exact endWD X hr hlk h (⟨_, Or.inr (Or.inl ⟨br2, by first | exact Or.inl c11 | exact Or.inr (Int32.not_le.mp c16), rfl, rfl⟩), rfl⟩) d_D_mode_21
    · exact absurd c5 (by decide)

set_option maxHeartbeats 4000000 in
set_option maxRecDepth 100000 in
theorem c_M_edge (l : Launch) (g : GD) {N : Nat} (hN : N ≤ 10) {fw fm : Nat → Int32} (x y w : Int32) : CWM l y_M_edge (.code y_M_edge b_M_edge 5 (some .int)) rm_M_edge g (nI N, fw, fm) [.int x, .int y, .int w] (fun r u2 => ∃ f2, edgeP N x y w fw r f2 ∧ u2 = (nI N, f2, fm)) := by
  refine mkWM (by decide) (Nat.le_of_ble_eq_true rfl) ?_
  intro p e s m below meth c ls X hr hlk h hl
  obtain ⟨hx, hb, hml, hown, htl⟩ := id X
  have hl : lv_has ls 5 [(0, .ref (g.2.1 0)), (1, .int x), (2, .int y), (3, .int w)] := hl
  refine lv_aload_n hx hb d_M_edge_0 rfl (lv_at hl 0 rfl) ?_
  refine lv_iload_n hx hb d_M_edge_1 rfl (lv_at hl 1 rfl) ?_
  refine callRM (rest := []) X hl.1 (c_M_bad l g x) e_ml_M_M_bad e_im_M_bad e_se_M_bad e_co_M_bad hd_M_bad ⟨rfl, rfl⟩ ⟨Nat.le_of_ble_eq_true rfl, Nat.le_of_ble_eq_true rfl⟩ h.1 rfl rfl (Nat.le_of_ble_eq_true rfl) ⟨Nat.zero_le _, Nat.zero_le _⟩ d_M_edge_2 (fun r2 hr2 => ?_)
  rcases hr2 with ⟨br2, rfl⟩ | ⟨br2, rfl⟩
  · refine lv_if_ne (tgt := 21) hx hb d_M_edge_5 (by decide) (fun c5 => ?_) (fun c5 => ?_)
    · refine lv_iconst (v := (-1)) hx hb d_M_edge_21 (by decide) ?_
      exact endWM X hr hlk h (⟨_, Or.inl ⟨by first | exact Or.inl br2 | exact Or.inr (Or.inl br10) | exact Or.inr (Or.inr c18), rfl, rfl⟩, rfl⟩) d_M_edge_22
    · exact absurd c5 (by decide)
  · refine lv_if_ne (tgt := 21) hx hb d_M_edge_5 (by decide) (fun c5 => ?_) (fun c5 => ?_)
    · exact absurd c5 (by decide)
    · refine lv_aload_n hx hb d_M_edge_8 rfl (lv_at hl 0 rfl) ?_
      refine lv_iload_n hx hb d_M_edge_9 rfl (lv_at hl 2 rfl) ?_
      refine callRM (rest := []) X hl.1 (c_M_bad l g y) e_ml_M_M_bad e_im_M_bad e_se_M_bad e_co_M_bad hd_M_bad ⟨rfl, rfl⟩ ⟨Nat.le_of_ble_eq_true rfl, Nat.le_of_ble_eq_true rfl⟩ h.1 rfl rfl (Nat.le_of_ble_eq_true rfl) ⟨Nat.zero_le _, Nat.zero_le _⟩ d_M_edge_10 (fun r10 hr10 => ?_)
      rcases hr10 with ⟨br10, rfl⟩ | ⟨br10, rfl⟩
      · refine lv_if_ne (tgt := 21) hx hb d_M_edge_13 (by decide) (fun c13 => ?_) (fun c13 => ?_)
        · refine lv_iconst (v := (-1)) hx hb d_M_edge_21 (by decide) ?_
          exact endWM X hr hlk h (⟨_, Or.inl ⟨by first | exact Or.inl br2 | exact Or.inr (Or.inl br10) | exact Or.inr (Or.inr c18), rfl, rfl⟩, rfl⟩) d_M_edge_22
        · exact absurd c13 (by decide)
      · refine lv_if_ne (tgt := 21) hx hb d_M_edge_13 (by decide) (fun c13 => ?_) (fun c13 => ?_)
        · exact absurd c13 (by decide)
        · refine lv_iload_n hx hb d_M_edge_16 rfl (lv_at hl 1 rfl) ?_
          refine lv_iload_n hx hb d_M_edge_17 rfl (lv_at hl 2 rfl) ?_
          refine lv_icmp_ne (tgt := 23) hx hb d_M_edge_18 (by decide) (fun c18 => ?_) (fun c18 => ?_)
          · refine lv_iload_n hx hb d_M_edge_23 rfl (lv_at hl 3 rfl) ?_
            refine lv_if_lt (tgt := 33) hx hb d_M_edge_24 (by decide) (fun c24 => ?_) (fun c24 => ?_)
            · refine lv_bipush (v := (-2)) hx hb d_M_edge_33 (by decide) ?_
              exact endWM X hr hlk h (⟨_, Or.inr (Or.inl ⟨fun q => q.elim br2 (fun q => q.elim br10 c18), by first | exact Or.inl c24 | exact Or.inr (Int32.not_le.mp c30), rfl, rfl⟩), rfl⟩) d_M_edge_35
            · refine lv_iload_n hx hb d_M_edge_27 rfl (lv_at hl 3 rfl) ?_
              refine lv_bipush (v := nI 20) hx hb d_M_edge_28 (by decide) ?_
              refine lv_icmp_le (tgt := 36) hx hb d_M_edge_30 (by decide) (fun c30 => ?_) (fun c30 => ?_)
              · obtain ⟨a, ha, rfl⟩ := nbad hN br2
                obtain ⟨b, hb2, rfl⟩ := nbad hN br10
                refine lv_aload_n hx hb d_M_edge_36 rfl (lv_at hl 0 rfl) ?_
                refine gM_w X h.1 d_M_edge_37 ?_
                refine lv_iload_n hx hb d_M_edge_40 rfl (lv_at hl 1 rfl) ?_
                refine lv_bipush (v := nI 10) hx hb d_M_edge_41 (by decide) ?_
                refine n_imul hx hb d_M_edge_43 ?_
                refine lv_iload_n hx hb d_M_edge_44 rfl (lv_at hl 2 rfl) ?_
                refine n_iadd hx hb d_M_edge_45 ?_
                refine lm_fw (i := a * 10 + b) X h.1 (by omega) d_M_edge_46 ?_
                refine lv_istore (lv' := [(4, .int (fw (a * 10 + b))), (0, .ref (g.2.1 0)), (1, .int (nI a)), (2, .int (nI b)), (3, .int w)]) hx hb d_M_edge_47 hl (by decide) rfl (fun ls hl => ?_)
                refine lv_aload_n hx hb d_M_edge_49 rfl (lv_at hl 1 rfl) ?_
                refine gM_w X h.1 d_M_edge_50 ?_
                refine lv_iload_n hx hb d_M_edge_53 rfl (lv_at hl 2 rfl) ?_
                refine lv_bipush (v := nI 10) hx hb d_M_edge_54 (by decide) ?_
                refine n_imul hx hb d_M_edge_56 ?_
                refine lv_iload_n hx hb d_M_edge_57 rfl (lv_at hl 3 rfl) ?_
                refine n_iadd hx hb d_M_edge_58 ?_
                refine lv_iload_n hx hb d_M_edge_59 rfl (lv_at hl 4 rfl) ?_
                refine sm_fw (i := a * 10 + b) X h (by omega) d_M_edge_60 (fun H locs h => ?_)
                refine lv_aload_n hx hb d_M_edge_61 rfl (lv_at hl 1 rfl) ?_
                refine gM_w X h.1 d_M_edge_62 ?_
                refine lv_iload_n hx hb d_M_edge_65 rfl (lv_at hl 3 rfl) ?_
                refine lv_bipush (v := nI 10) hx hb d_M_edge_66 (by decide) ?_
                refine n_imul hx hb d_M_edge_68 ?_
                refine lv_iload_n hx hb d_M_edge_69 rfl (lv_at hl 2 rfl) ?_
                refine n_iadd hx hb d_M_edge_70 ?_
                refine lv_iload_n hx hb d_M_edge_71 rfl (lv_at hl 4 rfl) ?_
                refine sm_fw (i := b * 10 + a) X h (by omega) d_M_edge_72 (fun H locs h => ?_)
                refine lv_iload hx hb d_M_edge_73 (lv_at hl 0 rfl) ?_
                exact endWM X hr hlk h (⟨_, Or.inr (Or.inr ⟨a, b, ha, hb2, fun q => c18 (by rw [q]), rfl, rfl, fun q => q.elim c24 (fun q => absurd c30 (Int32.not_le.mpr q)), rfl, rfl⟩), rfl⟩) d_M_edge_75
              · refine lv_bipush (v := (-2)) hx hb d_M_edge_33 (by decide) ?_
                exact endWM X hr hlk h (⟨_, Or.inr (Or.inl ⟨fun q => q.elim br2 (fun q => q.elim br10 c18), by first | exact Or.inl c24 | exact Or.inr (Int32.not_le.mp c30), rfl, rfl⟩), rfl⟩) d_M_edge_35
          · refine lv_iconst (v := (-1)) hx hb d_M_edge_21 (by decide) ?_
            exact endWM X hr hlk h (⟨_, Or.inl ⟨by first | exact Or.inl br2 | exact Or.inr (Or.inl br10) | exact Or.inr (Or.inr c18), rfl, rfl⟩, rfl⟩) d_M_edge_22

set_option maxHeartbeats 4000000 in
set_option maxRecDepth 100000 in
theorem c_M_bonus (l : Launch) (g : GD) {N : Nat} (hN : N ≤ 10) {fw fm : Nat → Int32} (x w : Int32) : CWM l y_M_bonus (.code y_M_bonus b_M_bonus 4 (some .int)) rm_M_bonus g (nI N, fw, fm) [.int x, .int w] (fun r u2 => ∃ f2, bonusP N 20 (fun a => a * 10 + a) (-2) x w fw r f2 ∧ u2 = (nI N, f2, fm)) := by
  refine mkWM (by decide) (Nat.le_of_ble_eq_true rfl) ?_
  intro p e s m below meth c ls X hr hlk h hl
  obtain ⟨hx, hb, hml, hown, htl⟩ := id X
  have hl : lv_has ls 4 [(0, .ref (g.2.1 0)), (1, .int x), (2, .int w)] := hl
  refine lv_aload_n hx hb d_M_bonus_0 rfl (lv_at hl 0 rfl) ?_
  refine lv_iload_n hx hb d_M_bonus_1 rfl (lv_at hl 1 rfl) ?_
  refine callRM (rest := []) X hl.1 (c_M_bad l g x) e_ml_M_M_bad e_im_M_bad e_se_M_bad e_co_M_bad hd_M_bad ⟨rfl, rfl⟩ ⟨Nat.le_of_ble_eq_true rfl, Nat.le_of_ble_eq_true rfl⟩ h.1 rfl rfl (Nat.le_of_ble_eq_true rfl) ⟨Nat.zero_le _, Nat.zero_le _⟩ d_M_bonus_2 (fun r2 hr2 => ?_)
  rcases hr2 with ⟨br2, rfl⟩ | ⟨br2, rfl⟩
  · refine lv_if_eq (tgt := 10) hx hb d_M_bonus_5 (by decide) (fun c5 => ?_) (fun c5 => ?_)
    · exact absurd c5 (by decide)
    · refine lv_iconst (v := (-1)) hx hb d_M_bonus_8 (by decide) ?_
      exact endWM X hr hlk h (⟨_, Or.inl ⟨br2, rfl, rfl⟩, rfl⟩) d_M_bonus_9
  · refine lv_if_eq (tgt := 10) hx hb d_M_bonus_5 (by decide) (fun c5 => ?_) (fun c5 => ?_)
    · refine lv_iload_n hx hb d_M_bonus_10 rfl (lv_at hl 2 rfl) ?_
      refine lv_if_lt (tgt := 20) hx hb d_M_bonus_11 (by decide) (fun c11 => ?_) (fun c11 => ?_)
      · refine lv_bipush (v := (-2)) hx hb d_M_bonus_20 (by decide) ?_
        exact endWM X hr hlk h (⟨_, Or.inr (Or.inl ⟨br2, by first | exact Or.inl c11 | exact Or.inr (Int32.not_le.mp c17), rfl, rfl⟩), rfl⟩) d_M_bonus_22
      · refine lv_iload_n hx hb d_M_bonus_14 rfl (lv_at hl 2 rfl) ?_
        refine lv_bipush (v := nI 20) hx hb d_M_bonus_15 (by decide) ?_
        refine lv_icmp_le (tgt := 23) hx hb d_M_bonus_17 (by decide) (fun c17 => ?_) (fun c17 => ?_)
        · obtain ⟨a, ha, rfl⟩ := nbad hN br2
          refine lv_aload_n hx hb d_M_bonus_23 rfl (lv_at hl 0 rfl) ?_
          refine gM_w X h.1 d_M_bonus_24 ?_
          refine lv_iload_n hx hb d_M_bonus_27 rfl (lv_at hl 1 rfl) ?_
          refine lv_bipush (v := nI 10) hx hb d_M_bonus_28 (by decide) ?_
          refine n_imul hx hb d_M_bonus_30 ?_
          refine lv_iload_n hx hb d_M_bonus_31 rfl (lv_at hl 1 rfl) ?_
          refine n_iadd hx hb d_M_bonus_32 ?_
          refine lm_fw (i := a * 10 + a) X h.1 (by omega) d_M_bonus_33 ?_
          refine lv_istore_n (lv' := [(3, .int (fw (a * 10 + a))), (0, .ref (g.2.1 0)), (1, .int (nI a)), (2, .int w)]) hx hb d_M_bonus_34 rfl hl (by decide) rfl (fun ls hl => ?_)
          refine lv_aload_n hx hb d_M_bonus_35 rfl (lv_at hl 1 rfl) ?_
          refine gM_w X h.1 d_M_bonus_36 ?_
          refine lv_iload_n hx hb d_M_bonus_39 rfl (lv_at hl 2 rfl) ?_
          refine lv_bipush (v := nI 10) hx hb d_M_bonus_40 (by decide) ?_
          refine n_imul hx hb d_M_bonus_42 ?_
          refine lv_iload_n hx hb d_M_bonus_43 rfl (lv_at hl 2 rfl) ?_
          refine n_iadd hx hb d_M_bonus_44 ?_
          refine lv_iload_n hx hb d_M_bonus_45 rfl (lv_at hl 3 rfl) ?_
          refine sm_fw (i := a * 10 + a) X h (by omega) d_M_bonus_46 (fun H locs h => ?_)
          refine lv_iload_n hx hb d_M_bonus_47 rfl (lv_at hl 0 rfl) ?_
          exact endWM X hr hlk h (⟨_, Or.inr (Or.inr ⟨a, ha, rfl, fun q => q.elim c11 (fun q => absurd c17 (Int32.not_le.mpr q)), rfl, rfl⟩), rfl⟩) d_M_bonus_48
        · refine lv_bipush (v := (-2)) hx hb d_M_bonus_20 (by decide) ?_
          exact endWM X hr hlk h (⟨_, Or.inr (Or.inl ⟨br2, by first | exact Or.inl c11 | exact Or.inr (Int32.not_le.mp c17), rfl, rfl⟩), rfl⟩) d_M_bonus_22
    · exact absurd c5 (by decide)

set_option maxHeartbeats 4000000 in
set_option maxRecDepth 100000 in
theorem c_M_mode (l : Launch) (g : GD) {N : Nat} (hN : N ≤ 10) {fw fm : Nat → Int32} (x w : Int32) : CWM l y_M_mode (.code y_M_mode b_M_mode 4 (some .int)) rm_M_mode g (nI N, fw, fm) [.int x, .int w] (fun r u2 => ∃ f2, bonusP N 2 (fun a => a) (-3) x w fm r f2 ∧ u2 = (nI N, fw, f2)) := by
  refine mkWM (by decide) (Nat.le_of_ble_eq_true rfl) ?_
  intro p e s m below meth c ls X hr hlk h hl
  obtain ⟨hx, hb, hml, hown, htl⟩ := id X
  have hl : lv_has ls 4 [(0, .ref (g.2.1 0)), (1, .int x), (2, .int w)] := hl
  refine lv_aload_n hx hb d_M_mode_0 rfl (lv_at hl 0 rfl) ?_
  refine lv_iload_n hx hb d_M_mode_1 rfl (lv_at hl 1 rfl) ?_
  refine callRM (rest := []) X hl.1 (c_M_bad l g x) e_ml_M_M_bad e_im_M_bad e_se_M_bad e_co_M_bad hd_M_bad ⟨rfl, rfl⟩ ⟨Nat.le_of_ble_eq_true rfl, Nat.le_of_ble_eq_true rfl⟩ h.1 rfl rfl (Nat.le_of_ble_eq_true rfl) ⟨Nat.zero_le _, Nat.zero_le _⟩ d_M_mode_2 (fun r2 hr2 => ?_)
  rcases hr2 with ⟨br2, rfl⟩ | ⟨br2, rfl⟩
  · refine lv_if_eq (tgt := 10) hx hb d_M_mode_5 (by decide) (fun c5 => ?_) (fun c5 => ?_)
    · exact absurd c5 (by decide)
    · refine lv_iconst (v := (-1)) hx hb d_M_mode_8 (by decide) ?_
      exact endWM X hr hlk h (⟨_, Or.inl ⟨br2, rfl, rfl⟩, rfl⟩) d_M_mode_9
  · refine lv_if_eq (tgt := 10) hx hb d_M_mode_5 (by decide) (fun c5 => ?_) (fun c5 => ?_)
    · refine lv_iload_n hx hb d_M_mode_10 rfl (lv_at hl 2 rfl) ?_
      refine lv_if_lt (tgt := 19) hx hb d_M_mode_11 (by decide) (fun c11 => ?_) (fun c11 => ?_)
      · refine lv_bipush (v := (-3)) hx hb d_M_mode_19 (by decide) ?_
        exact endWM X hr hlk h (⟨_, Or.inr (Or.inl ⟨br2, by first | exact Or.inl c11 | exact Or.inr (Int32.not_le.mp c16), rfl, rfl⟩), rfl⟩) d_M_mode_21
      · refine lv_iload_n hx hb d_M_mode_14 rfl (lv_at hl 2 rfl) ?_
        refine lv_iconst (v := nI 2) hx hb d_M_mode_15 (by decide) ?_
        refine lv_icmp_le (tgt := 22) hx hb d_M_mode_16 (by decide) (fun c16 => ?_) (fun c16 => ?_)
        · obtain ⟨a, ha, rfl⟩ := nbad hN br2
          refine lv_aload_n hx hb d_M_mode_22 rfl (lv_at hl 0 rfl) ?_
          refine gM_modes X h.1 d_M_mode_23 ?_
          refine lv_iload_n hx hb d_M_mode_26 rfl (lv_at hl 1 rfl) ?_
          refine lm_fm (i := a) X h.1 (by omega) d_M_mode_27 ?_
          refine lv_istore_n (lv' := [(3, .int (fm a)), (0, .ref (g.2.1 0)), (1, .int (nI a)), (2, .int w)]) hx hb d_M_mode_28 rfl hl (by decide) rfl (fun ls hl => ?_)
          refine lv_aload_n hx hb d_M_mode_29 rfl (lv_at hl 1 rfl) ?_
          refine gM_modes X h.1 d_M_mode_30 ?_
          refine lv_iload_n hx hb d_M_mode_33 rfl (lv_at hl 2 rfl) ?_
          refine lv_iload_n hx hb d_M_mode_34 rfl (lv_at hl 3 rfl) ?_
          refine sm_fm (i := a) X h (by omega) d_M_mode_35 (fun H locs h => ?_)
          refine lv_iload_n hx hb d_M_mode_36 rfl (lv_at hl 0 rfl) ?_
          exact endWM X hr hlk h (⟨_, Or.inr (Or.inr ⟨a, ha, rfl, fun q => q.elim c11 (fun q => absurd c16 (Int32.not_le.mpr q)), rfl, rfl⟩), rfl⟩) d_M_mode_37
        · refine lv_bipush (v := (-3)) hx hb d_M_mode_19 (by decide) ?_
          exact endWM X hr hlk h (⟨_, Or.inr (Or.inl ⟨br2, by first | exact Or.inl c11 | exact Or.inr (Int32.not_le.mp c16), rfl, rfl⟩), rfl⟩) d_M_mode_21
    · exact absurd c5 (by decide)
end
section
/-! rows on bits, shifts and unsigned numbers, to paste: each family out of a closed proof of our own, whole with what it rests on; each by itself clean at Lean in its own claim (generation 39, form 5). Take a family whole -/
/-! ===== Int32 by its bits: bt x i ===== -/
def bt (x : Int32) (i : Nat) : Bool := x.toBitVec.getLsbD i
theorem b_ext {x y : Int32} (h : ∀ i, i < 32 → bt x i = bt y i) : x = y := Int32.toBitVec_inj.mp (BitVec.eq_of_getLsbD_eq (fun i hi => h i hi))
theorem b_or (x y : Int32) (i : Nat) : bt (x ||| y) i = (bt x i || bt y i) := by unfold bt; rw [Int32.toBitVec_or, BitVec.getLsbD_or]
theorem b_and (x y : Int32) (i : Nat) : bt (x &&& y) i = (bt x i && bt y i) := by unfold bt; rw [Int32.toBitVec_and, BitVec.getLsbD_and]
theorem b_xor (x y : Int32) (i : Nat) : bt (x ^^^ y) i = (bt x i ^^ bt y i) := by unfold bt; rw [Int32.toBitVec_xor, BitVec.getLsbD_xor]
theorem b_big {x : Int32} {i : Nat} (h : 32 ≤ i) : bt x i = false := BitVec.getLsbD_of_ge _ _ h
theorem b_255 (i : Nat) : bt 255 i = decide (i < 8) := by
  rcases Nat.lt_or_ge i 32 with h | h
  · exact (by decide +kernel : ∀ i, i < 32 → bt 255 i = decide (i < 8)) i h
  · rw [b_big h, decide_eq_false (by omega)]
theorem b_65535 (i : Nat) : bt 65535 i = decide (i < 16) := by
  rcases Nat.lt_or_ge i 32 with h | h
  · exact (by decide +kernel : ∀ i, i < 32 → bt 65535 i = decide (i < 16)) i h
  · rw [b_big h, decide_eq_false (by omega)]
theorem b_m1 : ∀ i, i < 32 → bt (-1) i = true := by decide +kernel
theorem b_0 (i : Nat) : bt 0 i = false := BitVec.getLsbD_zero
theorem s_l : ∀ n, n < 32 → ((nI n &&& 31).toBitVec.smod 32).toNat = n := by decide +kernel
theorem s_u : ∀ n, n < 32 → (((nI n).toUInt32 &&& Int32.toUInt32 31).toBitVec % 32).toNat = n := by decide +kernel
theorem b_shl (n : Nat) (hn : n < 32) (x : Int32) {i : Nat} (hi : i < 32) : bt (x <<< (nI n &&& 31)) i = (decide (n ≤ i) && bt x (i - n)) := by
  unfold bt
  rw [Int32.toBitVec_shiftLeft]
  show (x.toBitVec <<< ((nI n &&& 31).toBitVec.smod 32).toNat).getLsbD i = _
  rw [s_l n hn, BitVec.getLsbD_shiftLeft]
  rcases Nat.lt_or_ge i n with h | h
  · simp [h, Nat.not_le.mpr h]
  · simp [hi, h, Nat.not_lt.mpr h]
theorem b_ushr (n : Nat) (hn : n < 32) (x : Int32) (i : Nat) : bt ((x.toUInt32 >>> ((nI n).toUInt32 &&& Int32.toUInt32 31)).toInt32) i = bt x (n + i) := by
  show (x.toUInt32 >>> ((nI n).toUInt32 &&& Int32.toUInt32 31)).toBitVec.getLsbD i = x.toUInt32.toBitVec.getLsbD (n + i)
  rw [UInt32.toBitVec_shiftRight]
  show (x.toUInt32.toBitVec >>> (((nI n).toUInt32 &&& Int32.toUInt32 31).toBitVec % 32).toNat).getLsbD i = _
  rw [s_u n hn, BitVec.getLsbD_ushiftRight]
theorem b_sshr (n : Nat) (hn : n < 32) (x : Int32) {i : Nat} (hi : i < 32) : bt (x >>> (nI n &&& 31)) i = if n + i < 32 then bt x (n + i) else bt x 31 := by
  unfold bt
  rw [Int32.toBitVec_shiftRight]
  show (x.toBitVec.sshiftRight ((nI n &&& 31).toBitVec.smod 32).toNat).getLsbD i = _
  rw [s_l n hn, BitVec.getLsbD_sshiftRight, BitVec.msb_eq_getLsbD_last]
  simp [hi]
theorem b_shl8 (x : Int32) {i : Nat} (hi : i < 32) : bt (x <<< ((8 : Int32) &&& 31)) i = (decide (8 ≤ i) && bt x (i - 8)) := b_shl 8 (by omega) x hi
theorem b_shl16 (x : Int32) {i : Nat} (hi : i < 32) : bt (x <<< ((16 : Int32) &&& 31)) i = (decide (16 ≤ i) && bt x (i - 16)) := b_shl 16 (by omega) x hi
theorem b_shl24 (x : Int32) {i : Nat} (hi : i < 32) : bt (x <<< ((24 : Int32) &&& 31)) i = (decide (24 ≤ i) && bt x (i - 24)) := b_shl 24 (by omega) x hi
theorem b_sshr8 (x : Int32) {i : Nat} (hi : i < 32) : bt (x >>> ((8 : Int32) &&& 31)) i = if 8 + i < 32 then bt x (8 + i) else bt x 31 := b_sshr 8 (by omega) x hi
theorem b_n1 : ∀ i, i < 32 → bt (nI 1) i = decide (i = 0) := by decide +kernel
theorem b_n0 : ∀ i, i < 32 → bt (nI 0) i = false := by decide +kernel
theorem bitI_eq (x : Int32) {u : Nat} (hu : u < 32) : bitI x u = nI (if bt x u = true then 1 else 0) := by
  apply b_ext
  intro i hi
  unfold bitI
  rw [b_and, b_sshr u hu x hi, b_n1 i hi]
  by_cases h0 : i = 0
  · subst h0
    by_cases hb : bt x u = true
    · rw [if_pos hb, b_n1 0 hi]; simp [hu, hb]
    · rw [if_neg hb, b_n0 0 hi]; simp [hu]; simpa using hb
  · by_cases hb : bt x u = true
    · rw [if_pos hb, b_n1 i hi]; simp [h0]
    · rw [if_neg hb, b_n0 i hi]; simp [h0]
theorem bitI_1 {x : Int32} {u : Nat} (hu : u < 32) : bitI x u = nI 1 ↔ bt x u = true := by
  rw [bitI_eq x hu]
  by_cases h : bt x u = true
  · simp [h]
  · rw [if_neg h]; exact ⟨fun q => absurd q (by decide), fun q => absurd q h⟩
theorem bitI_0 {x : Int32} {u : Nat} (hu : u < 32) : bitI x u = 0 ↔ bt x u = false := by
  rw [bitI_eq x hu]
  by_cases h : bt x u = true
  · rw [if_pos h]; exact ⟨fun q => absurd q (by decide), fun q => by rw [h] at q; cases q⟩
  · rw [if_neg h]; exact ⟨fun _ => by simpa using h, fun _ => rfl⟩
theorem bt_nI {k u : Nat} (hu : u < 32) : bt (nI k) u = k.testBit u := by
  show (BitVec.ofNat 32 k).getLsbD u = _
  rw [BitVec.getLsbD_ofNat]; simp [hu]
theorem nI_or (a b : Nat) : nI a ||| nI b = nI (a ||| b) := by
  apply Int32.toBitVec_inj.1
  show BitVec.ofNat 32 a ||| BitVec.ofNat 32 b = BitVec.ofNat 32 (a ||| b)
  apply BitVec.eq_of_getLsbD_eq
  intro i hi
  rw [BitVec.getLsbD_or, BitVec.getLsbD_ofNat, BitVec.getLsbD_ofNat, BitVec.getLsbD_ofNat, Nat.testBit_or]
  simp [hi]
theorem shl1 : ∀ N, N ≤ 10 → nI 1 <<< ((nI N) &&& 31) = nI (2 ^ N) := by decide +kernel
theorem pow10 : ∀ N, N ≤ 10 → 2 ^ N ≤ 1024 ∧ 1 ≤ 2 ^ N := by decide
/-! sums -/
def sN : Nat → (Nat → Nat) → Nat
  | 0, _ => 0
  | n + 1, f => sN n f + f n
theorem sN_congr {n : Nat} {f g : Nat → Nat} (h : ∀ i, i < n → f i = g i) : sN n f = sN n g := by
  induction n with
  | zero => rfl
  | succ n ih => show sN n f + f n = sN n g + g n; rw [ih (fun i hi => h i (by omega)), h n (by omega)]
theorem sN_le {n : Nat} {f g : Nat → Nat} (h : ∀ i, i < n → f i ≤ g i) : sN n f ≤ sN n g := by
  induction n with
  | zero => exact Nat.le_refl _
  | succ n ih =>
    have h1 := ih (fun i hi => h i (by omega))
    have h2 := h n (by omega)
    show sN n f + f n ≤ sN n g + g n
    omega
theorem sN_add (n : Nat) (f g : Nat → Nat) : sN n (fun i => f i + g i) = sN n f + sN n g := by
  induction n with
  | zero => rfl
  | succ n ih => show sN n (fun i => f i + g i) + (f n + g n) = (sN n f + f n) + (sN n g + g n); rw [ih]; omega
theorem sN_head (n : Nat) (f : Nat → Nat) : sN (n + 1) f = f 0 + sN n (fun i => f (i + 1)) := by
  induction n with
  | zero => show 0 + f 0 = f 0 + 0; omega
  | succ n ih => show sN (n + 1) f + f (n + 1) = f 0 + (sN n (fun i => f (i + 1)) + f (n + 1)); rw [ih]; omega
theorem sN_const (n c : Nat) : sN n (fun _ => c) = n * c := by
  induction n with
  | zero => show 0 = 0 * c; omega
  | succ n ih => show sN n (fun _ => c) + c = (n + 1) * c; rw [ih, Nat.succ_mul]
theorem sN_zero (n : Nat) : sN n (fun _ => 0) = 0 := by rw [sN_const]; rfl
theorem fS_sum {F : Nat → Int32 → Int32} {f : Nat → Nat} : ∀ (k lo : Nat) (a : Int32), (∀ v a, lo ≤ v → v < lo + k → F v a = a + nI (f v)) → fS F k lo a = a + nI (sN k (fun i => f (lo + i))) := by
  intro k
  induction k with
  | zero => intro lo a h; show a = a + nI 0; rw [nI_0, Int32.add_zero]
  | succ k ih =>
    intro lo a h
    show fS F k (lo + 1) (F lo a) = _
    rw [h lo a (by omega) (by omega), ih (lo + 1) _ (fun v a h1 h2 => h v a (by omega) (by omega)), sN_head, ← nI_add, Int32.add_assoc]
    congr 3
    exact sN_congr (fun i _ => by rw [show lo + 1 + i = lo + (i + 1) from by omega])
/-- the weight of a set A of vertices below N, with pairs P and bonuses E -/
def wt (N : Nat) (P : Nat → Nat → Nat) (E : Nat → Nat) (A : Nat → Bool) : Nat := sN N (fun u => if A u = true then E u + sN u (fun v => if A v = true then P u v else 0) else 0)
def sz (N : Nat) (A : Nat → Bool) : Nat := sN N (fun v => if A v = true then 1 else 0)
/-- the numbers of a graph: what the class and the model hold -/
def okG (P : Nat → Nat → Nat) (E Md : Nat → Nat) : Prop := (∀ a b, a < 10 → b < 10 → P a b ≤ 20) ∧ (∀ a b, a < 10 → b < 10 → P a b = P b a) ∧ (∀ a, a < 10 → P a a = 0) ∧ (∀ a, a < 10 → E a ≤ 20) ∧ (∀ a, a < 10 → Md a ≤ 2)
def okD (P : Nat → Nat → Nat) (E Md : Nat → Nat) (fp fe fm : Nat → Int32) : Prop := (∀ a b, a < 10 → b < 10 → fp (a * 10 + b) = nI (P a b)) ∧ (∀ a, a < 10 → fe a = nI (E a)) ∧ (∀ a, a < 10 → fm a = nI (Md a))
def okM (P : Nat → Nat → Nat) (E Md : Nat → Nat) (fw fm : Nat → Int32) : Prop := (∀ a b, a < 10 → b < 10 → a ≠ b → fw (a * 10 + b) = nI (P a b)) ∧ (∀ a, a < 10 → fw (a * 10 + a) = nI (E a)) ∧ (∀ a, a < 10 → fm a = nI (Md a))
theorem weightM_eq {N : Nat} {P : Nat → Nat → Nat} {E Md : Nat → Nat} {fw fm : Nat → Int32} (hN : N ≤ 10) (h : okM P E Md fw fm) (x : Int32) : weightM fw N x = nI (wt N P E (bt x)) := by
  unfold weightM wt
  rw [fS_sum (f := fun u => if bt x u = true then E u + sN u (fun v => if bt x v = true then P u v else 0) else 0) N 0 (nI 0) ?_]
  · rw [nI_add]; congr 1; rw [Nat.zero_add]; exact sN_congr (fun i _ => by rw [Nat.zero_add])
  · intro u a _ hu
    unfold wmOut
    rw [fS_sum (f := fun v => if bt x u = true then (if bt x v = true then (if u = v then E u else P u v) else 0) else 0) (u + 1) 0 a ?_]
    · congr 2
      show sN u _ + _ = _
      by_cases hb : bt x u = true
      · simp only [hb, if_true, Nat.zero_add]
        rw [Nat.add_comm]
        congr 1
        exact sN_congr (fun i hi => by rw [if_neg (show ¬ u = i by omega)])
      · simp [hb, sN_zero]
    · intro v a _ hv
      unfold wmIn
      by_cases hb : bt x u = true
      · by_cases hc : bt x v = true
        · rw [if_pos ⟨(bitI_1 (by omega)).mpr hb, (bitI_1 (by omega)).mpr hc⟩]
          simp only [hb, hc, if_true]
          by_cases he : u = v
          · subst he; rw [if_pos rfl, h.2.1 u (by omega)]
          · rw [if_neg he, h.1 u v (by omega) (by omega) he]
        · rw [if_neg (fun q => hc ((bitI_1 (by omega)).mp q.2))]
          simp [hc, nI_0]
      · rw [if_neg (fun q => hb ((bitI_1 (by omega)).mp q.1))]
        simp [hb, nI_0]
theorem tri (f : Nat → Nat → Nat) : ∀ N, sN N (fun u => sN (N - (u + 1)) (fun i => f u (u + 1 + i))) = sN N (fun u => sN u (fun v => f v u)) := by
  intro N
  induction N with
  | zero => rfl
  | succ N ih =>
    show sN N (fun u => sN (N + 1 - (u + 1)) (fun i => f u (u + 1 + i))) + sN (N + 1 - (N + 1)) (fun i => f N (N + 1 + i)) = sN N (fun u => sN u (fun v => f v u)) + sN N (fun v => f v N)
    rw [← ih, ← sN_add, Nat.sub_self]
    show _ + 0 = _
    rw [Nat.add_zero]
    refine sN_congr (fun u hu => ?_)
    rw [show N + 1 - (u + 1) = (N - (u + 1)) + 1 from by omega]
    show sN (N - (u + 1)) _ + f u (u + 1 + (N - (u + 1))) = _
    rw [show u + 1 + (N - (u + 1)) = N from by omega]
theorem weightD_eq {N : Nat} {P : Nat → Nat → Nat} {E Md : Nat → Nat} {fp fe fm : Nat → Int32} (hN : N ≤ 10) (hG : okG P E Md) (h : okD P E Md fp fe fm) (x : Int32) : weightD fp fe N x = nI (wt N P E (bt x)) := by
  unfold weightD wt
  rw [fS_sum (f := fun u => (if bt x u = true then E u else 0) + sN (N - (u + 1)) (fun i => if bt x u = true ∧ bt x (u + 1 + i) = true then P u (u + 1 + i) else 0)) N 0 (nI 0) ?_]
  · rw [nI_add, Nat.zero_add]
    congr 1
    simp only [Nat.zero_add]
    rw [sN_add, tri (fun u v => if bt x u = true ∧ bt x v = true then P u v else 0) N, ← sN_add]
    refine sN_congr (fun u hu => ?_)
    by_cases hb : bt x u = true
    · simp only [hb, if_true, and_true]
      congr 1
      refine sN_congr (fun v hv => ?_)
      rw [hG.2.1 v u (by omega) (by omega)]
    · simp [hb, sN_zero]
  · intro u a _ hu
    unfold wOut
    by_cases hb : bt x u = true
    · rw [if_neg (fun q => by rw [(bitI_0 (by omega)).mp q] at hb; cases hb), fS_sum (f := fun v => if bt x v = true then P u v else 0) (N - (u + 1)) (u + 1) _ ?_, h.2.1 u (by omega)]
      · simp only [hb, if_true, true_and]
        rw [Int32.add_assoc, nI_add]
      · intro v a h1 h2
        unfold wIn
        by_cases hc : bt x v = true
        · rw [if_pos ((bitI_1 (by omega)).mpr hc), h.1 u v (by omega) (by omega)]; simp only [hc, if_true]
        · rw [if_neg (fun q => hc ((bitI_1 (by omega)).mp q))]; simp [hc, nI_0]
    · rw [if_pos ((bitI_0 (by omega)).mpr (by simpa using hb))]
      simp [hb, nI_0, sN_zero]
theorem membersI_eq {N : Nat} (hN : N ≤ 10) (x : Int32) : membersI N x = nI (sz N (bt x)) := by
  unfold membersI sz
  rw [fS_sum (f := fun v => if bt x v = true then 1 else 0) N 0 (nI 0) ?_]
  · rw [nI_add, Nat.zero_add]; simp only [Nat.zero_add]
  · intro v a _ hv
    unfold memF
    rw [bitI_eq x (by omega)]
theorem wt_le {N : Nat} {P : Nat → Nat → Nat} {E Md : Nat → Nat} (hN : N ≤ 10) (hG : okG P E Md) (A : Nat → Bool) : wt N P E A ≤ 1100 := by
  have key : ∀ N, N ≤ 10 → sN N (fun u => 20 + u * 20) ≤ 1100 := by decide
  refine Nat.le_trans (sN_le (fun u hu => ?_)) (key N hN)
  by_cases hb : A u = true
  · rw [if_pos hb]
    have h1 := hG.2.2.2.1 u (by omega)
    have h2 : sN u (fun v => if A v = true then P u v else 0) ≤ sN u (fun _ => 20) := sN_le (fun v hv => by
      by_cases hc : A v = true
      · rw [if_pos hc]; exact hG.1 u v (by omega) (by omega)
      · rw [if_neg hc]; omega)
    rw [sN_const] at h2
    omega
  · rw [if_neg hb]; omega
theorem sz_le (N : Nat) (A : Nat → Bool) : sz N A ≤ N := by
  have h : sz N A ≤ sN N (fun _ => 1) := sN_le (fun v hv => by by_cases hc : A v = true <;> simp [hc])
  rw [sN_const] at h
  omega
theorem wt_congr {N : Nat} {P : Nat → Nat → Nat} {E : Nat → Nat} {A B : Nat → Bool} (h : ∀ v, v < N → A v = B v) : wt N P E A = wt N P E B :=
  sN_congr (fun u hu => by
    rw [h u hu, show sN u (fun v => if A v = true then P u v else 0) = sN u (fun v => if B v = true then P u v else 0) from sN_congr (fun v hv => by rw [h v (by omega)])])
theorem sz_congr {N : Nat} {A B : Nat → Bool} (h : ∀ v, v < N → A v = B v) : sz N A = sz N B := sN_congr (fun u hu => by rw [h u hu])
theorem sz_pos {N : Nat} {A : Nat → Bool} {v : Nat} (hv : v < N) (h : A v = true) : 1 ≤ sz N A := by
  induction N with
  | zero => omega
  | succ N ih =>
    show 1 ≤ sN N (fun v => if A v = true then 1 else 0) + (if A N = true then 1 else 0)
    by_cases he : v = N
    · subst he; rw [if_pos h]; omega
    · have := ih (by omega)
      have h2 : sz N A = sN N (fun v => if A v = true then 1 else 0) := rfl
      omega
theorem sz_zero {N : Nat} {A : Nat → Bool} (h : ∀ v, v < N → A v = false) : sz N A = 0 := by
  rw [show sz N A = sN N (fun _ => 0) from sN_congr (fun v hv => by rw [h v hv]; rfl), sN_zero]
theorem wt_zero {N : Nat} {P : Nat → Nat → Nat} {E : Nat → Nat} {A : Nat → Bool} (h : ∀ v, v < N → A v = false) : wt N P E A = 0 := by
  rw [show wt N P E A = sN N (fun _ => 0) from sN_congr (fun v hv => by rw [h v hv]; rfl), sN_zero]
theorem sz_10 {N : Nat} {A : Nat → Bool} (h : ∀ v, N ≤ v → A v = false) : ∀ k, sz (N + k) A = sz N A := by
  intro k
  induction k with
  | zero => rfl
  | succ k ih =>
    show sN (N + k) (fun v => if A v = true then 1 else 0) + (if A (N + k) = true then 1 else 0) = _
    rw [h (N + k) (by omega)]
    exact ih
/-- a set that the modes allow -/
def alw (N : Nat) (Md : Nat → Nat) (A : Nat → Bool) : Prop := ∀ v, v < N → (A v = true → Md v ≠ 2) ∧ (A v = false → Md v ≠ 1)
theorem alwI_iff {N : Nat} {Md : Nat → Nat} {fm : Nat → Int32} (hN : N ≤ 10) (hm : ∀ a, a < 10 → Md a ≤ 2) (h : ∀ a, a < 10 → fm a = nI (Md a)) (x : Int32) : alwI N fm x ↔ alw N Md (bt x) := by
  have key : ∀ v, v < N → ∀ k, k ≤ 2 → (fm v = nI k ↔ Md v = k) := fun v hv k hk => by
    rw [h v (by omega), nI_eq (by have := hm v (by omega); omega) (by omega)]
  refine ⟨fun q v hv => ⟨fun a b => (q v hv).1 ((bitI_1 (by omega)).mpr a) ((key v hv 2 (by omega)).mpr b), fun a b => (q v hv).2 (fun z => by rw [(bitI_1 (by omega)).mp z] at a; cases a) ((key v hv 1 (by omega)).mpr b)⟩, fun q v hv => ⟨fun a b => (q v hv).1 ((bitI_1 (by omega)).mp a) ((key v hv 2 (by omega)).mp b), fun a b => (q v hv).2 (by cases hz : bt x v with | false => rfl | true => exact absurd ((bitI_1 (by omega)).mpr hz) a) ((key v hv 1 (by omega)).mp b)⟩⟩
theorem alw_congr {N : Nat} {Md : Nat → Nat} {A B : Nat → Bool} (h : ∀ v, v < N → A v = B v) (q : alw N Md A) : alw N Md B := fun v hv => by rw [← h v hv]; exact q v hv
/-- a mask's value at gain a, price b -/
def vl (N : Nat) (P : Nat → Nat → Nat) (E : Nat → Nat) (a b : Nat) (A : Nat → Bool) : Int := (a : Int) * (wt N P E A : Int) - (b : Int) * (sz N A : Int)
end
section
/-! what the model's loops over all masks keep -/
def WJ (N : Nat) (P : Nat → Nat → Nat) (E : Nat → Nat) (j : Nat) : Nat := wt N P E (bt (nI j))
def SJ (N : Nat) (j : Nat) : Nat := sz N (bt (nI j))
def AJ (N : Nat) (Md : Nat → Nat) (j : Nat) : Prop := alw N Md (bt (nI j))
theorem SJ_pos {N j : Nat} (hN : N ≤ 10) (h1 : 1 ≤ j) (h2 : j < 2 ^ N) : 1 ≤ SJ N j := by
  apply Classical.byContradiction
  intro hc
  have hz : ∀ v, v < N → j.testBit v = false := fun v hv => by
    cases hb : j.testBit v with
    | false => rfl
    | true => exact absurd (sz_pos (A := bt (nI j)) hv (by rw [bt_nI (by omega)]; exact hb)) hc
  have : j = 0 := Nat.eq_of_testBit_eq (fun v => by
    rw [Nat.zero_testBit]
    rcases Nat.lt_or_ge v N with q | q
    · exact hz v q
    · exact Nat.testBit_lt_two_pow (Nat.lt_of_lt_of_le h2 (Nat.pow_le_pow_right (by omega) q)))
  omega
def oneInv (N : Nat) (P : Nat → Nat → Nat) (E Md : Nat → Nat) (i B T K : Nat) : Prop :=
  (B = 0 ∧ T = 0 ∧ K = 1 ∧ ∀ j, 1 ≤ j → j < i → ¬ AJ N Md j) ∨ (1 ≤ B ∧ B < i ∧ AJ N Md B ∧ T = WJ N P E B ∧ K = SJ N B ∧ 1 ≤ K ∧ ∀ j, 1 ≤ j → j < i → AJ N Md j → WJ N P E j * K ≤ T * SJ N j)
section ONE
variable {N : Nat} {P : Nat → Nat → Nat} {E Md : Nat → Nat} {i B T K : Nat}
theorem one_0 : oneInv N P E Md 1 0 0 1 := Or.inl ⟨rfl, rfl, rfl, fun j h1 h2 => by omega⟩
theorem one_lt (h : oneInv N P E Md i B T K) (hi : 1 ≤ i) : B < i := by
  rcases h with h | h
  · omega
  · exact h.2.1
theorem one_le (hN : N ≤ 10) (hG : okG P E Md) (h : oneInv N P E Md i B T K) : T ≤ 1100 ∧ K ≤ 10 := by
  rcases h with ⟨-, h1, h2, -⟩ | ⟨-, -, -, h1, h2, -⟩
  · omega
  · rw [h1, h2]; exact ⟨wt_le hN hG _, Nat.le_trans (sz_le N _) hN⟩
theorem one_no (h : oneInv N P E Md i B T K) (hn : ¬ AJ N Md i) : oneInv N P E Md (i + 1) B T K := by
  rcases h with ⟨h1, h2, h3, h4⟩ | ⟨h1, h2, h3, h4, h5, h6, h7⟩
  · refine Or.inl ⟨h1, h2, h3, fun j a b => ?_⟩
    by_cases he : j = i
    · subst he; exact hn
    · exact h4 j a (by omega)
  · refine Or.inr ⟨h1, by omega, h3, h4, h5, h6, fun j a b c => ?_⟩
    by_cases he : j = i
    · subst he; exact absurd c hn
    · exact h7 j a (by omega) c
theorem one_keep (h : oneInv N P E Md i B T K) (hB : B ≠ 0) (hle : WJ N P E i * K ≤ T * SJ N i) : oneInv N P E Md (i + 1) B T K := by
  rcases h with ⟨h1, h2, h3, h4⟩ | ⟨h1, h2, h3, h4, h5, h6, h7⟩
  · exact absurd h1 hB
  · refine Or.inr ⟨h1, by omega, h3, h4, h5, h6, fun j a b c => ?_⟩
    by_cases he : j = i
    · subst he; exact hle
    · exact h7 j a (by omega) c
theorem one_take (hi : 1 ≤ i) (hs : 1 ≤ SJ N i) (h : oneInv N P E Md i B T K) (ha : AJ N Md i) (hlt : B = 0 ∨ T * SJ N i < WJ N P E i * K) : oneInv N P E Md (i + 1) i (WJ N P E i) (SJ N i) := by
  refine Or.inr ⟨hi, by omega, ha, rfl, rfl, hs, fun j a b c => ?_⟩
  by_cases he : j = i
  · subst he; exact Nat.le_refl _
  · rcases h with ⟨h1, h2, h3, h4⟩ | ⟨h1, h2, h3, h4, h5, h6, h7⟩
    · exact absurd c (h4 j a (by omega))
    · have hlt : T * SJ N i < WJ N P E i * K := by
        rcases hlt with q | q
        · omega
        · exact q
      have k1 := h7 j a (by omega) c
      refine Nat.le_of_mul_le_mul_right (c := K) ?_ (by omega)
      calc WJ N P E j * SJ N i * K = (WJ N P E j * K) * SJ N i := Nat.mul_right_comm _ _ _
        _ ≤ (T * SJ N j) * SJ N i := Nat.mul_le_mul_right _ k1
        _ = (T * SJ N i) * SJ N j := Nat.mul_right_comm _ _ _
        _ ≤ (WJ N P E i * K) * SJ N j := Nat.mul_le_mul_right _ (Nat.le_of_lt hlt)
        _ = WJ N P E i * SJ N j * K := Nat.mul_right_comm _ _ _
end ONE
/-- the union of the masks below i of which C holds -/
def orInv (N : Nat) (C : Nat → Prop) (i R : Nat) : Prop := R < 2 ^ N ∧ ∀ v, R.testBit v = true ↔ ∃ j, j < i ∧ C j ∧ j.testBit v = true
theorem or_0 {N i : Nat} {C : Nat → Prop} (h : ∀ j, j < i → ¬ C j) : orInv N C i 0 := ⟨Nat.two_pow_pos N, fun v => ⟨fun q => (by rw [Nat.zero_testBit] at q; cases q), fun ⟨j, a, b, _⟩ => absurd b (h j a)⟩⟩
theorem or_no {N i R : Nat} {C : Nat → Prop} (h : orInv N C i R) (hn : ¬ C i) : orInv N C (i + 1) R := ⟨h.1, fun v => by
  rw [h.2 v]
  exact ⟨fun ⟨j, a, b, c⟩ => ⟨j, by omega, b, c⟩, fun ⟨j, a, b, c⟩ => by
    by_cases he : j = i
    · subst he; exact absurd b hn
    · exact ⟨j, by omega, b, c⟩⟩⟩
theorem or_yes {N i R : Nat} {C : Nat → Prop} (h : orInv N C i R) (hi : i < 2 ^ N) (hn : C i) : orInv N C (i + 1) (R ||| i) := ⟨Nat.or_lt_two_pow h.1 hi, fun v => by
  rw [Nat.testBit_or, Bool.or_eq_true, h.2 v]
  constructor
  · rintro (⟨j, a, b, c⟩ | q)
    · exact ⟨j, by omega, b, c⟩
    · exact ⟨i, by omega, hn, q⟩
  · rintro ⟨j, a, b, c⟩
    by_cases he : j = i
    · subst he; exact Or.inr c
    · exact Or.inl ⟨j, by omega, b, c⟩⟩
/-- a mask's value as the code computes it -/
def vI (N : Nat) (P : Nat → Nat → Nat) (E : Nat → Nat) (a b j : Nat) : Int32 := nI (a * WJ N P E j) - nI (b * SJ N j)
theorem vI_b {N : Nat} {P : Nat → Nat → Nat} {E Md : Nat → Nat} {a b j : Nat} (hN : N ≤ 10) (hG : okG P E Md) (ha : a ≤ 20) (hb : b ≤ 2000) : a * WJ N P E j ≤ 22000 ∧ b * SJ N j ≤ 20000 :=
  ⟨Nat.mul_le_mul ha (wt_le hN hG _), Nat.mul_le_mul hb (Nat.le_trans (sz_le N _) hN)⟩
theorem vI_toInt {N : Nat} {P : Nat → Nat → Nat} {E Md : Nat → Nat} {a b j : Nat} (hN : N ≤ 10) (hG : okG P E Md) (ha : a ≤ 20) (hb : b ≤ 2000) : (vI N P E a b j).toInt = vl N P E a b (bt (nI j)) := by
  have h := vI_b (j := j) hN hG ha hb
  unfold vI
  rw [pk_sub_toInt (by omega) (by omega)]
  unfold vl WJ SJ
  rw [Int.natCast_mul, Int.natCast_mul]
def exInv (N : Nat) (P : Nat → Nat → Nat) (E Md : Nat → Nat) (a b i : Nat) (best : Int32) : Prop :=
  (best = (-1000000) ∧ ∀ j, j < i → ¬ AJ N Md j) ∨ (∃ j, j < i ∧ AJ N Md j ∧ best = vI N P E a b j ∧ ∀ k, k < i → AJ N Md k → vl N P E a b (bt (nI k)) ≤ vl N P E a b (bt (nI j)))
section EX
variable {N : Nat} {P : Nat → Nat → Nat} {E Md : Nat → Nat} {a b i : Nat} {best : Int32}
theorem ex_0 : exInv N P E Md a b 0 (-1000000) := Or.inl ⟨rfl, fun j h => by omega⟩
theorem ex_no (h : exInv N P E Md a b i best) (hn : ¬ AJ N Md i) : exInv N P E Md a b (i + 1) best := by
  rcases h with ⟨h1, h2⟩ | ⟨j, h1, h2, h3, h4⟩
  · refine Or.inl ⟨h1, fun j hj => ?_⟩
    by_cases he : j = i
    · subst he; exact hn
    · exact h2 j (by omega)
  · refine Or.inr ⟨j, by omega, h2, h3, fun k hk hk2 => ?_⟩
    by_cases he : k = i
    · subst he; exact absurd hk2 hn
    · exact h4 k (by omega) hk2
theorem ex_keep (hN : N ≤ 10) (hG : okG P E Md) (ha : a ≤ 20) (hb : b ≤ 2000) (h : exInv N P E Md a b i best) (hle : vI N P E a b i ≤ best) : exInv N P E Md a b (i + 1) best := by
  rw [Int32.le_iff_toInt_le, vI_toInt hN hG ha hb] at hle
  rcases h with ⟨h1, h2⟩ | ⟨j, h1, h2, h3, h4⟩
  · exfalso
    have k1 := vI_b (j := i) hN hG ha hb
    have k2 : (best.toInt) = -1000000 := by rw [h1]; decide
    rw [k2] at hle
    unfold vl at hle
    have e1 : (a : Int) * (wt N P E (bt (nI i)) : Int) = ((a * WJ N P E i : Nat) : Int) := by rw [Int.natCast_mul]; rfl
    have e2 : (b : Int) * (sz N (bt (nI i)) : Int) = ((b * SJ N i : Nat) : Int) := by rw [Int.natCast_mul]; rfl
    rw [e1, e2] at hle
    omega
  · refine Or.inr ⟨j, by omega, h2, h3, fun k hk hk2 => ?_⟩
    by_cases he : k = i
    · subst he; rw [h3, vI_toInt hN hG ha hb] at hle; exact hle
    · exact h4 k (by omega) hk2
theorem ex_take (hN : N ≤ 10) (hG : okG P E Md) (ha : a ≤ 20) (hb : b ≤ 2000) (h : exInv N P E Md a b i best) (hA : AJ N Md i) (hle : ¬ vI N P E a b i ≤ best) : exInv N P E Md a b (i + 1) (vI N P E a b i) := by
  rw [Int32.le_iff_toInt_le, vI_toInt hN hG ha hb] at hle
  refine Or.inr ⟨i, by omega, hA, rfl, fun k hk hk2 => ?_⟩
  by_cases he : k = i
  · subst he; exact Int.le_refl _
  · rcases h with ⟨h1, h2⟩ | ⟨j, h1, h2, h3, h4⟩
    · exact absurd hk2 (h2 k (by omega))
    · have k1 := h4 k (by omega) hk2
      rw [h3, vI_toInt hN hG ha hb] at hle
      omega
end EX
theorem nbp {x y : Int32} (h : ¬ bpP x y) : ∃ a b : Nat, 1 ≤ a ∧ a ≤ 20 ∧ b ≤ 2000 ∧ x = nI a ∧ y = nI b := by
  have h1 : ¬ x < nI 1 := fun q => h (Or.inl q)
  have h2 : ¬ nI 20 < x := fun q => h (Or.inr (Or.inl q))
  have h3 : ¬ y < 0 := fun q => h (Or.inr (Or.inr (Or.inl q)))
  have h4 : ¬ nI 2000 < y := fun q => h (Or.inr (Or.inr (Or.inr q)))
  have e1 : (nI 1).toInt = 1 := by decide
  have e2 : (nI 20).toInt = 20 := by decide
  have e3 : (nI 2000).toInt = 2000 := by decide
  rw [Int32.lt_iff_toInt_lt] at h1 h2 h3 h4
  rw [e1] at h1
  rw [e2] at h2
  rw [e3] at h4
  rw [Int32.toInt_zero] at h3
  refine ⟨x.toInt.toNat, y.toInt.toNat, by omega, by omega, by omega, ?_, ?_⟩
  · apply Int32.toInt_inj.mp; rw [nI_toInt (by omega)]; omega
  · apply Int32.toInt_inj.mp; rw [nI_toInt (by omega)]; omega
theorem bp_no {a b : Nat} (h1 : 1 ≤ a) (h2 : a ≤ 20) (h3 : b ≤ 2000) : ¬ bpP (nI a) (nI b) := by
  rintro (q | q | q | q)
  · exact nI_nlt h1 (by omega) q
  · exact nI_nlt h2 (by omega) q
  · exact nI_pos (by omega) q
  · exact nI_nlt h3 (by omega) q
/-! the greatest common divisor, by trying -/
theorem gcd_found {t b d : Nat} (hb : 1 ≤ b) (hb2 : b ≤ 10) (h1 : t % d = 0) (h2 : b % d = 0) (h : ∀ e, d < e → e ≤ 10 → ¬ (t % e = 0 ∧ b % e = 0)) : Nat.gcd t b = d := by
  have hg : Nat.gcd t b ≤ 10 := Nat.le_trans (Nat.le_of_dvd hb (Nat.gcd_dvd_right t b)) hb2
  have hd : d ∣ Nat.gcd t b := Nat.dvd_gcd (Nat.dvd_of_mod_eq_zero h1) (Nat.dvd_of_mod_eq_zero h2)
  have hpos : 0 < Nat.gcd t b := Nat.gcd_pos_of_pos_right t hb
  have hle := Nat.le_of_dvd hpos hd
  rcases Nat.lt_or_ge d (Nat.gcd t b) with q | q
  · exact absurd ⟨Nat.mod_eq_zero_of_dvd (Nat.gcd_dvd_left t b), Nat.mod_eq_zero_of_dvd (Nat.gcd_dvd_right t b)⟩ (h _ q hg)
  · omega
theorem div_gcd1 {t b : Nat} (h : Nat.gcd t b ≤ 1) (hb : 1 ≤ b) : t / Nat.gcd t b = t ∧ b / Nat.gcd t b = b := by
  have hpos : 0 < Nat.gcd t b := Nat.gcd_pos_of_pos_right t hb
  have : Nat.gcd t b = 1 := by omega
  rw [this]; simp
end
section
set_option maxHeartbeats 4000000 in
set_option maxRecDepth 100000 in
theorem lp_M_one {p : Program} {l : Launch} {e : Env} {s : State} {m : MethodId} {args : Array Value} {below : List Frame} {meth : Method} {c : Code} {H : Heap} {locs : List Loc} {Q : State → Prop} {g : GD} (X : CallFix p m c b_M_one 7 s args tb R_M) {N : Nat} (hN : N ≤ 10) {fw fm : Nat → Int32} {P : Nat → Nat → Nat} {E Md : Nat → Nat} (hG : okG P E Md) (hM : okM P E Md fw fm) (h : RM g (nI N, fw, fm) s H) (K0 : ∀ (ls : Array Slot) (B T K : Nat), oneInv N P E Md (2 ^ N) B T K → lv_has ls 7 [(0, .ref (g.2.1 0)), (1, .int (nI B))] → W p l e rm_M_one s m args below meth c H locs 0 0 Q (F0 m 75 ls [])) :
    ∀ (k i B T K : Nat) (ls : Array Slot), i + k = 2 ^ N → 1 ≤ i → oneInv N P E Md i B T K → lv_has ls 7 [(0, .ref (g.2.1 0)), (1, .int (nI B)), (2, .int (nI T)), (3, .int (nI K)), (4, .int (nI i))] → W p l e rm_M_one s m args below meth c H locs 0 0 Q (F0 m 9 ls []) := by
  obtain ⟨hx, hb, hml, hown, htl⟩ := id X
  have htw : ∀ n : Nat, n ≤ 100000 → n < 2 ^ 31 := fun n h => by omega
  have hp2 := pow10 N hN
  intro k
  induction k with
  | zero =>
    intro i B T K ls hk h1i hi hl
    refine lv_iload hx hb d_M_one_9 (lv_at hl 4 rfl) ?_
    refine lv_iconst (v := nI 1) hx hb d_M_one_11 (by decide) ?_
    refine lv_aload_n hx hb d_M_one_12 rfl (lv_at hl 0 rfl) ?_
    refine gM_n X h d_M_one_13 ?_
    refine lv_ishl hx hb d_M_one_16 ?_
    refine tp_i (y := nI (2 ^ N)) (shl1 N hN) ?_
    refine n_icmp_ge (tgt := 75) hx hb (by omega) (by omega) d_M_one_17 (by decide) (fun c17 => ?_) (fun c17 => ?_)
    · obtain rfl : i = 2 ^ N := by omega
      exact K0 _ _ _ _ hi (lv_sub hl [0, 1] rfl)
    · exact absurd c17 (by omega)
  | succ k ih =>
    intro i B T K ls hk h1i hi hl
    refine lv_iload hx hb d_M_one_9 (lv_at hl 4 rfl) ?_
    refine lv_iconst (v := nI 1) hx hb d_M_one_11 (by decide) ?_
    refine lv_aload_n hx hb d_M_one_12 rfl (lv_at hl 0 rfl) ?_
    refine gM_n X h d_M_one_13 ?_
    refine lv_ishl hx hb d_M_one_16 ?_
    refine tp_i (y := nI (2 ^ N)) (shl1 N hN) ?_
    refine n_icmp_ge (tgt := 75) hx hb (by omega) (by omega) d_M_one_17 (by decide) (fun c17 => ?_) (fun c17 => ?_)
    · exact absurd c17 (by omega)
    · refine lv_aload_n hx hb d_M_one_20 rfl (lv_at hl 0 rfl) ?_
      refine lv_iload hx hb d_M_one_21 (lv_at hl 4 rfl) ?_
      refine callRM (rest := []) X hl.1 (c_M_allowed l g hN (nI i)) e_ml_M_M_allowed e_im_M_allowed e_se_M_allowed e_co_M_allowed hd_M_allowed ⟨rfl, rfl⟩ ⟨Nat.le_of_ble_eq_true rfl, Nat.le_of_ble_eq_true rfl⟩ h rfl rfl (Nat.le_of_ble_eq_true rfl) ⟨Nat.zero_le _, Nat.zero_le _⟩ d_M_one_23 (fun r23 hr23 => ?_)
      rcases hr23 with ⟨ar23, rfl⟩ | ⟨ar23, rfl⟩
      · refine lv_if_eq (tgt := 69) hx hb d_M_one_26 (by decide) (fun c26 => ?_) (fun c26 => ?_)
        · exact absurd c26 (by decide)
        · refine lv_aload_n hx hb d_M_one_29 rfl (lv_at hl 0 rfl) ?_
          refine lv_iload hx hb d_M_one_30 (lv_at hl 4 rfl) ?_
          refine callRM (rest := []) X hl.1 (c_M_weight l g hN (nI i)) e_ml_M_M_weight e_im_M_weight e_se_M_weight e_co_M_weight hd_M_weight ⟨rfl, rfl⟩ ⟨Nat.le_of_ble_eq_true rfl, Nat.le_of_ble_eq_true rfl⟩ h rfl rfl (Nat.le_of_ble_eq_true rfl) ⟨Nat.zero_le _, Nat.zero_le _⟩ d_M_one_32 (fun r32 hr32 => ?_)
          obtain rfl : r32 = nI (WJ N P E i) := hr32.trans (weightM_eq hN hM _)
          refine lv_istore (lv' := [(5, .int (nI (WJ N P E i))), (0, .ref (g.2.1 0)), (1, .int (nI B)), (2, .int (nI T)), (3, .int (nI K)), (4, .int (nI i))]) hx hb d_M_one_35 hl (by decide) rfl (fun ls hl => ?_)
          refine lv_aload_n hx hb d_M_one_37 rfl (lv_at hl 1 rfl) ?_
          refine lv_iload hx hb d_M_one_38 (lv_at hl 5 rfl) ?_
          refine callRM (rest := []) X hl.1 (c_M_size l g hN (nI i)) e_ml_M_M_size e_im_M_size e_se_M_size e_co_M_size hd_M_size ⟨rfl, rfl⟩ ⟨Nat.le_of_ble_eq_true rfl, Nat.le_of_ble_eq_true rfl⟩ h rfl rfl (Nat.le_of_ble_eq_true rfl) ⟨Nat.zero_le _, Nat.zero_le _⟩ d_M_one_40 (fun r40 hr40 => ?_)
          obtain rfl : r40 = nI (SJ N i) := hr40.trans (membersI_eq hN _)
          refine lv_istore (lv' := [(6, .int (nI (SJ N i))), (5, .int (nI (WJ N P E i))), (0, .ref (g.2.1 0)), (1, .int (nI B)), (2, .int (nI T)), (3, .int (nI K)), (4, .int (nI i))]) hx hb d_M_one_43 hl (by decide) rfl (fun ls hl => ?_)
          have q1 := wt_le hN hG (bt (nI i))
          have q2 : SJ N i ≤ 10 := Nat.le_trans (sz_le N _) hN
          have q3 := one_le hN hG hi
          have q4 : WJ N P E i * K ≤ 1100 * 10 := Nat.mul_le_mul q1 q3.2
          have q5 : T * SJ N i ≤ 1100 * 10 := Nat.mul_le_mul q3.1 q2
          refine lv_iload_n hx hb d_M_one_45 rfl (lv_at hl 3 rfl) ?_
          refine lv_if_eq (tgt := 60) hx hb d_M_one_46 (by decide) (fun c46 => ?_) (fun c46 => ?_)
          · refine lv_iload hx hb d_M_one_60 (lv_at hl 6 rfl) ?_
            refine lv_istore_n (lv' := [(1, .int (nI i)), (6, .int (nI (SJ N i))), (5, .int (nI (WJ N P E i))), (0, .ref (g.2.1 0)), (2, .int (nI T)), (3, .int (nI K)), (4, .int (nI i))]) hx hb d_M_one_62 rfl hl (by decide) rfl (fun ls hl => ?_)
            refine lv_iload hx hb d_M_one_63 (lv_at hl 2 rfl) ?_
            refine lv_istore_n (lv' := [(2, .int (nI (WJ N P E i))), (1, .int (nI i)), (6, .int (nI (SJ N i))), (5, .int (nI (WJ N P E i))), (0, .ref (g.2.1 0)), (3, .int (nI K)), (4, .int (nI i))]) hx hb d_M_one_65 rfl hl (by decide) rfl (fun ls hl => ?_)
            refine lv_iload hx hb d_M_one_66 (lv_at hl 2 rfl) ?_
            refine lv_istore_n (lv' := [(3, .int (nI (SJ N i))), (2, .int (nI (WJ N P E i))), (1, .int (nI i)), (6, .int (nI (SJ N i))), (5, .int (nI (WJ N P E i))), (0, .ref (g.2.1 0)), (4, .int (nI i))]) hx hb d_M_one_68 rfl hl (by decide) rfl (fun ls hl => ?_)
            refine lv_iinc (v := nI (i + 1)) (lv' := [(4, .int (nI (i + 1))), (3, .int (nI (SJ N i))), (2, .int (nI (WJ N P E i))), (1, .int (nI i)), (6, .int (nI (SJ N i))), (5, .int (nI (WJ N P E i))), (0, .ref (g.2.1 0))]) hx hb d_M_one_69 hl (k := 6) rfl (inc1 i) (by decide) rfl (fun ls hl => ?_)
            refine lv_goto (tgt := 9) hx hb d_M_one_72 (by decide) ?_
            exact ih _ _ _ _ _ (by omega) (by omega) (one_take h1i (SJ_pos hN h1i (by omega)) hi ((alwI_iff hN hG.2.2.2.2 hM.2.2 _).mp ar23) (by first | (right; exact c57) | (left; exact Classical.byContradiction (fun q => nI_ne0 (Nat.pos_of_ne_zero q) (by have := one_lt hi h1i; omega) c46)))) (lv_sub hl [6, 3, 2, 1, 0] rfl)
          · refine lv_iload hx hb d_M_one_49 (lv_at hl 1 rfl) ?_
            refine lv_iload_n hx hb d_M_one_51 rfl (lv_at hl 5 rfl) ?_
            refine n_imul hx hb d_M_one_52 ?_
            refine lv_iload_n hx hb d_M_one_53 rfl (lv_at hl 4 rfl) ?_
            refine lv_iload hx hb d_M_one_54 (lv_at hl 0 rfl) ?_
            refine n_imul hx hb d_M_one_56 ?_
            refine n_icmp_le (tgt := 69) hx hb (by omega) (by omega) d_M_one_57 (by decide) (fun c57 => ?_) (fun c57 => ?_)
            · refine lv_iinc (v := nI (i + 1)) (lv' := [(4, .int (nI (i + 1))), (6, .int (nI (SJ N i))), (5, .int (nI (WJ N P E i))), (0, .ref (g.2.1 0)), (1, .int (nI B)), (2, .int (nI T)), (3, .int (nI K))]) hx hb d_M_one_69 hl (k := 6) rfl (inc1 i) (by decide) rfl (fun ls hl => ?_)
              refine lv_goto (tgt := 9) hx hb d_M_one_72 (by decide) ?_
              exact ih _ _ _ _ _ (by omega) (by omega) (one_keep hi (fun q => c46 (by rw [q]; rfl)) c57) (lv_sub hl [3, 4, 5, 6, 0] rfl)
            · refine lv_iload hx hb d_M_one_60 (lv_at hl 6 rfl) ?_
              refine lv_istore_n (lv' := [(1, .int (nI i)), (6, .int (nI (SJ N i))), (5, .int (nI (WJ N P E i))), (0, .ref (g.2.1 0)), (2, .int (nI T)), (3, .int (nI K)), (4, .int (nI i))]) hx hb d_M_one_62 rfl hl (by decide) rfl (fun ls hl => ?_)
              refine lv_iload hx hb d_M_one_63 (lv_at hl 2 rfl) ?_
              refine lv_istore_n (lv' := [(2, .int (nI (WJ N P E i))), (1, .int (nI i)), (6, .int (nI (SJ N i))), (5, .int (nI (WJ N P E i))), (0, .ref (g.2.1 0)), (3, .int (nI K)), (4, .int (nI i))]) hx hb d_M_one_65 rfl hl (by decide) rfl (fun ls hl => ?_)
              refine lv_iload hx hb d_M_one_66 (lv_at hl 2 rfl) ?_
              refine lv_istore_n (lv' := [(3, .int (nI (SJ N i))), (2, .int (nI (WJ N P E i))), (1, .int (nI i)), (6, .int (nI (SJ N i))), (5, .int (nI (WJ N P E i))), (0, .ref (g.2.1 0)), (4, .int (nI i))]) hx hb d_M_one_68 rfl hl (by decide) rfl (fun ls hl => ?_)
              refine lv_iinc (v := nI (i + 1)) (lv' := [(4, .int (nI (i + 1))), (3, .int (nI (SJ N i))), (2, .int (nI (WJ N P E i))), (1, .int (nI i)), (6, .int (nI (SJ N i))), (5, .int (nI (WJ N P E i))), (0, .ref (g.2.1 0))]) hx hb d_M_one_69 hl (k := 6) rfl (inc1 i) (by decide) rfl (fun ls hl => ?_)
              refine lv_goto (tgt := 9) hx hb d_M_one_72 (by decide) ?_
              exact ih _ _ _ _ _ (by omega) (by omega) (one_take h1i (SJ_pos hN h1i (by omega)) hi ((alwI_iff hN hG.2.2.2.2 hM.2.2 _).mp ar23) (by first | (right; exact c57) | (left; exact Classical.byContradiction (fun q => nI_ne0 (Nat.pos_of_ne_zero q) (by have := one_lt hi h1i; omega) c46)))) (lv_sub hl [6, 3, 2, 1, 0] rfl)
      · refine lv_if_eq (tgt := 69) hx hb d_M_one_26 (by decide) (fun c26 => ?_) (fun c26 => ?_)
        · refine lv_iinc (v := nI (i + 1)) (lv' := [(4, .int (nI (i + 1))), (0, .ref (g.2.1 0)), (1, .int (nI B)), (2, .int (nI T)), (3, .int (nI K))]) hx hb d_M_one_69 hl (k := 4) rfl (inc1 i) (by decide) rfl (fun ls hl => ?_)
          refine lv_goto (tgt := 9) hx hb d_M_one_72 (by decide) ?_
          exact ih _ _ _ _ _ (by omega) (by omega) (one_no hi (fun q => ar23 ((alwI_iff hN hG.2.2.2.2 hM.2.2 _).mpr q))) (lv_sub hl [1, 2, 3, 4, 0] rfl)
        · exact absurd c26 (by decide)

set_option maxHeartbeats 4000000 in
set_option maxRecDepth 100000 in
theorem c_M_one (l : Launch) (g : GD) {N : Nat} (hN : N ≤ 10) {fw fm : Nat → Int32} {P : Nat → Nat → Nat} {E Md : Nat → Nat} (hG : okG P E Md) (hM : okM P E Md fw fm) : CRM l y_M_one (.code y_M_one b_M_one 7 (some .int)) rm_M_one g (nI N, fw, fm) [] (fun r => ∃ B T K, oneInv N P E Md (2 ^ N) B T K ∧ r = nI B) := by
  refine mkRM (by decide) (Nat.le_of_ble_eq_true rfl) ?_
  intro p e s m below meth c ls X hr hlk h hl
  obtain ⟨hx, hb, hml, hown, htl⟩ := id X
  have hl : lv_has ls 7 [(0, .ref (g.2.1 0))] := hl
  have hp2 := pow10 N hN
  refine lv_iconst (v := nI 0) hx hb d_M_one_0 (by decide) ?_
  refine lv_istore_n (lv' := [(1, .int (nI 0)), (0, .ref (g.2.1 0))]) hx hb d_M_one_1 rfl hl (by decide) rfl (fun ls hl => ?_)
  refine lv_iconst (v := nI 0) hx hb d_M_one_2 (by decide) ?_
  refine lv_istore_n (lv' := [(2, .int (nI 0)), (1, .int (nI 0)), (0, .ref (g.2.1 0))]) hx hb d_M_one_3 rfl hl (by decide) rfl (fun ls hl => ?_)
  refine lv_iconst (v := nI 1) hx hb d_M_one_4 (by decide) ?_
  refine lv_istore_n (lv' := [(3, .int (nI 1)), (2, .int (nI 0)), (1, .int (nI 0)), (0, .ref (g.2.1 0))]) hx hb d_M_one_5 rfl hl (by decide) rfl (fun ls hl => ?_)
  refine lv_iconst (v := nI 1) hx hb d_M_one_6 (by decide) ?_
  refine lv_istore (lv' := [(4, .int (nI 1)), (3, .int (nI 1)), (2, .int (nI 0)), (1, .int (nI 0)), (0, .ref (g.2.1 0))]) hx hb d_M_one_7 hl (by decide) rfl (fun ls hl => ?_)
  refine lp_M_one X hN hG hM h (fun ls B T K hi hl => ?_) (2 ^ N - 1) 1 0 0 1 _ (by omega) (by omega) one_0 (lv_sub hl [4, 3, 2, 1, 0] rfl)
  refine lv_iload_n hx hb d_M_one_75 rfl (lv_at hl 1 rfl) ?_
  exact endRI X hr hlk ⟨B, T, K, hi, rfl⟩ d_M_one_76

set_option maxHeartbeats 4000000 in
set_option maxRecDepth 100000 in
theorem lp_M_common {p : Program} {l : Launch} {e : Env} {s : State} {m : MethodId} {args : Array Value} {below : List Frame} {meth : Method} {c : Code} {H : Heap} {locs : List Loc} {cells slots : Nat} {Q : State → Prop} {R : Room} (X : CallFix p m c b_M_common 5 s args tb R_M) {t b : Nat} (ht : t ≤ 1100) (hb1 : 1 ≤ b) (hb2 : b ≤ 10) (K1 : ∀ (ls : Array Slot), Nat.gcd t b = 1 → lv_has ls 5 [(2, .int (nI t)), (3, .int (nI b)), (4, .int (nI (0 + 1)))] → W p l e R s m args below meth c H locs cells slots Q (F0 m 45 ls [])) (K2 : ∀ (ls : Array Slot) (pc d : Nat), decode b_M_common pc = .ok (.ireturn, 1) → Nat.gcd t b = d → W p l e R s m args below meth c H locs cells slots Q (F0 m pc ls [.int (nI d)])) :
    ∀ (k : Nat) (ls : Array Slot), k < 10 → (∀ e, k + 1 < e → e ≤ 10 → ¬ (t % e = 0 ∧ b % e = 0)) → lv_has ls 5 [(2, .int (nI t)), (3, .int (nI b)), (4, .int (nI (k + 1)))] → W p l e R s m args below meth c H locs cells slots Q (F0 m 16 ls []) := by
  obtain ⟨hx, hb, hml, hown, htl⟩ := id X
  have htw : ∀ n : Nat, n ≤ 100000 → n < 2 ^ 31 := fun n h => by omega
  intro k
  induction k with
  | zero =>
    intro ls hk hi hl
    refine lv_iload hx hb d_M_common_16 (lv_at hl 2 rfl) ?_
    refine lv_iconst (v := nI 1) hx hb d_M_common_18 (by decide) ?_
    refine n_icmp_le (tgt := 45) hx hb (by omega) (by omega) d_M_common_19 (by decide) (fun c19 => ?_) (fun c19 => ?_)
    · exact K1 _ (gcd_found hb1 hb2 (Nat.mod_one _) (Nat.mod_one _) (fun e h1 h2 => hi e (by omega) h2)) hl
    · exact absurd c19 (by omega)
  | succ k ih =>
    intro ls hk hi hl
    refine lv_iload hx hb d_M_common_16 (lv_at hl 2 rfl) ?_
    refine lv_iconst (v := nI 1) hx hb d_M_common_18 (by decide) ?_
    refine n_icmp_le (tgt := 45) hx hb (by omega) (by omega) d_M_common_19 (by decide) (fun c19 => ?_) (fun c19 => ?_)
    · exact absurd c19 (by omega)
    · have z26 : nI (t % (k + 1 + 1)) = 0 → t % (k + 1 + 1) = 0 := fun q => (nI_eq (by have := Nat.mod_lt t (show 0 < k + 1 + 1 by omega); omega) (by omega)).mp q
      have z33 : nI (b % (k + 1 + 1)) = 0 → b % (k + 1 + 1) = 0 := fun q => (nI_eq (by have := Nat.mod_lt b (show 0 < k + 1 + 1 by omega); omega) (by omega)).mp q
      refine lv_iload_n hx hb d_M_common_22 rfl (lv_at hl 0 rfl) ?_
      refine lv_iload hx hb d_M_common_23 (lv_at hl 2 rfl) ?_
      refine lv_irem hx hb d_M_common_25 (nI_ne0 (by omega) (by omega)) ?_
      refine tp_i (y := nI (t % (k + 1 + 1))) (pk_rem (by omega) (by omega) (by omega)) ?_
      refine lv_if_ne (tgt := 39) hx hb d_M_common_26 (by decide) (fun c26 => ?_) (fun c26 => ?_)
      · refine lv_iinc (v := nI (k + 1)) (lv' := [(4, .int (nI (k + 1))), (2, .int (nI t)), (3, .int (nI b))]) hx hb d_M_common_39 hl (k := 2) rfl (dec1 (k + 1)) (by decide) rfl (fun ls hl => ?_)
        refine lv_goto (tgt := 16) hx hb d_M_common_42 (by decide) ?_
        refine ih _ (by omega) (fun e h1 h2 => ?_) (lv_sub hl [1, 2, 0] rfl)
        by_cases he : e = k + 1 + 1
        · subst he; exact fun q => by first | exact c26 (by rw [q.1]; rfl) | exact c33 (by rw [q.2]; rfl)
        · exact hi e (by omega) h2
      · refine lv_iload_n hx hb d_M_common_29 rfl (lv_at hl 1 rfl) ?_
        refine lv_iload hx hb d_M_common_30 (lv_at hl 2 rfl) ?_
        refine lv_irem hx hb d_M_common_32 (nI_ne0 (by omega) (by omega)) ?_
        refine tp_i (y := nI (b % (k + 1 + 1))) (pk_rem (by omega) (by omega) (by omega)) ?_
        refine lv_if_ne (tgt := 39) hx hb d_M_common_33 (by decide) (fun c33 => ?_) (fun c33 => ?_)
        · refine lv_iinc (v := nI (k + 1)) (lv' := [(4, .int (nI (k + 1))), (2, .int (nI t)), (3, .int (nI b))]) hx hb d_M_common_39 hl (k := 2) rfl (dec1 (k + 1)) (by decide) rfl (fun ls hl => ?_)
          refine lv_goto (tgt := 16) hx hb d_M_common_42 (by decide) ?_
          refine ih _ (by omega) (fun e h1 h2 => ?_) (lv_sub hl [1, 2, 0] rfl)
          by_cases he : e = k + 1 + 1
          · subst he; exact fun q => by first | exact c26 (by rw [q.1]; rfl) | exact c33 (by rw [q.2]; rfl)
          · exact hi e (by omega) h2
        · refine lv_iload hx hb d_M_common_36 (lv_at hl 2 rfl) ?_
          exact K2 _ _ _ d_M_common_38 (gcd_found hb1 hb2 (z26 c26) (z33 c33) (fun e h1 h2 => hi e (by omega) h2))

set_option maxHeartbeats 4000000 in
set_option maxRecDepth 100000 in
theorem c_M_common (l : Launch) (g : GD) {N : Nat} (hN : N ≤ 10) {fw fm : Nat → Int32} {P : Nat → Nat → Nat} {E Md : Nat → Nat} (hG : okG P E Md) (hM : okM P E Md fw fm) {j : Nat} (hj : 1 ≤ SJ N j) : CRM l y_M_common (.code y_M_common b_M_common 5 (some .int)) rm_M_common g (nI N, fw, fm) [.int (nI j)] (fun r => r = nI (Nat.gcd (WJ N P E j) (SJ N j))) := by
  refine mkRM (by decide) (Nat.le_of_ble_eq_true rfl) ?_
  intro p e s m below meth c ls X hr hlk h hl
  obtain ⟨hx, hb, hml, hown, htl⟩ := id X
  have hl : lv_has ls 5 [(0, .ref (g.2.1 0)), (1, .int (nI j))] := hl
  refine lv_aload_n hx hb d_M_common_0 rfl (lv_at hl 0 rfl) ?_
  refine lv_iload_n hx hb d_M_common_1 rfl (lv_at hl 1 rfl) ?_
  refine callRM (rest := []) X hl.1 (c_M_weight l g hN (nI j)) e_ml_M_M_weight e_im_M_weight e_se_M_weight e_co_M_weight hd_M_weight ⟨rfl, rfl⟩ ⟨Nat.le_of_ble_eq_true rfl, Nat.le_of_ble_eq_true rfl⟩ h rfl rfl (Nat.le_of_ble_eq_true rfl) ⟨Nat.zero_le _, Nat.zero_le _⟩ d_M_common_2 (fun r2 hr2 => ?_)
  obtain rfl : r2 = nI (WJ N P E j) := hr2.trans (weightM_eq hN hM _)
  refine lv_istore_n (lv' := [(2, .int (nI (WJ N P E j))), (0, .ref (g.2.1 0)), (1, .int (nI j))]) hx hb d_M_common_5 rfl hl (by decide) rfl (fun ls hl => ?_)
  refine lv_aload_n hx hb d_M_common_6 rfl (lv_at hl 1 rfl) ?_
  refine lv_iload_n hx hb d_M_common_7 rfl (lv_at hl 2 rfl) ?_
  refine callRM (rest := []) X hl.1 (c_M_size l g hN (nI j)) e_ml_M_M_size e_im_M_size e_se_M_size e_co_M_size hd_M_size ⟨rfl, rfl⟩ ⟨Nat.le_of_ble_eq_true rfl, Nat.le_of_ble_eq_true rfl⟩ h rfl rfl (Nat.le_of_ble_eq_true rfl) ⟨Nat.zero_le _, Nat.zero_le _⟩ d_M_common_8 (fun r8 hr8 => ?_)
  obtain rfl : r8 = nI (SJ N j) := hr8.trans (membersI_eq hN _)
  refine lv_istore_n (lv' := [(3, .int (nI (SJ N j))), (2, .int (nI (WJ N P E j))), (0, .ref (g.2.1 0)), (1, .int (nI j))]) hx hb d_M_common_11 rfl hl (by decide) rfl (fun ls hl => ?_)
  refine lv_bipush (v := nI 10) hx hb d_M_common_12 (by decide) ?_
  refine lv_istore (lv' := [(4, .int (nI 10)), (3, .int (nI (SJ N j))), (2, .int (nI (WJ N P E j))), (0, .ref (g.2.1 0)), (1, .int (nI j))]) hx hb d_M_common_14 hl (by decide) rfl (fun ls hl => ?_)
  refine lp_M_common X (wt_le hN hG _) hj (Nat.le_trans (sz_le N _) hN) (fun ls he hl => ?_) (fun ls pc d hd he => ?_) 9 _ (by omega) (fun e h1 h2 => by omega) (lv_sub hl [2, 1, 0] rfl)
  · refine lv_iconst (v := nI 1) hx hb d_M_common_45 (by decide) ?_
    exact endRI X hr hlk (congrArg nI he.symm) d_M_common_46
  · exact endRI X hr hlk (congrArg nI he.symm) hd

set_option maxHeartbeats 4000000 in
set_option maxRecDepth 100000 in
theorem c_M_dTop (l : Launch) (g : GD) {N : Nat} (hN : N ≤ 10) {fw fm : Nat → Int32} {P : Nat → Nat → Nat} {E Md : Nat → Nat} (hG : okG P E Md) (hM : okM P E Md fw fm) : CRM l y_M_dTop (.code y_M_dTop b_M_dTop 4 (some .int)) rm_M_dTop g (nI N, fw, fm) [] (fun r => ∃ B T K, oneInv N P E Md (2 ^ N) B T K ∧ ((B = 0 ∧ r = (-5)) ∨ (B ≠ 0 ∧ r = nI (WJ N P E B / Nat.gcd (WJ N P E B) (SJ N B))))) := by
  refine mkRM (by decide) (Nat.le_of_ble_eq_true rfl) ?_
  intro p e s m below meth c ls X hr hlk h hl
  obtain ⟨hx, hb, hml, hown, htl⟩ := id X
  have hl : lv_has ls 4 [(0, .ref (g.2.1 0))] := hl
  have hp2 := pow10 N hN
  refine lv_aload_n hx hb d_M_dTop_0 rfl (lv_at hl 0 rfl) ?_
  refine callRM (rest := []) X hl.1 (c_M_one l g hN hG hM) e_ml_M_M_one e_im_M_one e_se_M_one e_co_M_one hd_M_one ⟨rfl, rfl⟩ ⟨Nat.le_of_ble_eq_true rfl, Nat.le_of_ble_eq_true rfl⟩ h rfl rfl (Nat.le_of_ble_eq_true rfl) ⟨Nat.zero_le _, Nat.zero_le _⟩ d_M_dTop_1 (fun r1 hr1 => ?_)
  obtain ⟨B, T, K, hi, rfl⟩ := hr1
  refine lv_istore_n (lv' := [(1, .int (nI B)), (0, .ref (g.2.1 0))]) hx hb d_M_dTop_4 rfl hl (by decide) rfl (fun ls hl => ?_)
  refine lv_iload_n hx hb d_M_dTop_5 rfl (lv_at hl 0 rfl) ?_
  refine lv_if_ne (tgt := 12) hx hb d_M_dTop_6 (by decide) (fun c6 => ?_) (fun c6 => ?_)
  · have hB0 : B ≠ 0 := fun q => c6 (by rw [q]; rfl)
    have hBl := one_lt hi (by omega)
    have hj : 1 ≤ SJ N B := SJ_pos hN (by omega) hBl
    have q1 : WJ N P E B ≤ 1100 := wt_le hN hG _
    have q2 : SJ N B ≤ 10 := Nat.le_trans (sz_le N _) hN
    have q3 : Nat.gcd (WJ N P E B) (SJ N B) ≤ SJ N B := Nat.le_of_dvd hj (Nat.gcd_dvd_right _ _)
    refine lv_aload_n hx hb d_M_dTop_12 rfl (lv_at hl 1 rfl) ?_
    refine lv_iload_n hx hb d_M_dTop_13 rfl (lv_at hl 0 rfl) ?_
    refine callRM (rest := []) X hl.1 (c_M_weight l g hN (nI B)) e_ml_M_M_weight e_im_M_weight e_se_M_weight e_co_M_weight hd_M_weight ⟨rfl, rfl⟩ ⟨Nat.le_of_ble_eq_true rfl, Nat.le_of_ble_eq_true rfl⟩ h rfl rfl (Nat.le_of_ble_eq_true rfl) ⟨Nat.zero_le _, Nat.zero_le _⟩ d_M_dTop_14 (fun r14 hr14 => ?_)
    obtain rfl : r14 = nI (WJ N P E B) := hr14.trans (weightM_eq hN hM _)
    refine lv_istore_n (lv' := [(2, .int (nI (WJ N P E B))), (1, .int (nI B)), (0, .ref (g.2.1 0))]) hx hb d_M_dTop_17 rfl hl (by decide) rfl (fun ls hl => ?_)
    refine lv_aload_n hx hb d_M_dTop_18 rfl (lv_at hl 2 rfl) ?_
    refine lv_iload_n hx hb d_M_dTop_19 rfl (lv_at hl 1 rfl) ?_
    refine callRM (rest := []) X hl.1 (c_M_common l g hN hG hM hj) e_ml_M_M_common e_im_M_common e_se_M_common e_co_M_common hd_M_common ⟨rfl, rfl⟩ ⟨Nat.le_of_ble_eq_true rfl, Nat.le_of_ble_eq_true rfl⟩ h rfl rfl (Nat.le_of_ble_eq_true rfl) ⟨Nat.zero_le _, Nat.zero_le _⟩ d_M_dTop_20 (fun r20 hr20 => ?_)
    subst hr20
    refine lv_istore_n (lv' := [(3, .int (nI (Nat.gcd (WJ N P E B) (SJ N B)))), (2, .int (nI (WJ N P E B))), (1, .int (nI B)), (0, .ref (g.2.1 0))]) hx hb d_M_dTop_23 rfl hl (by decide) rfl (fun ls hl => ?_)
    refine lv_iload_n hx hb d_M_dTop_24 rfl (lv_at hl 0 rfl) ?_
    refine lv_iconst (v := nI 1) hx hb d_M_dTop_25 (by decide) ?_
    refine n_icmp_le (tgt := 35) hx hb (by omega) (by omega) d_M_dTop_26 (by decide) (fun c26 => ?_) (fun c26 => ?_)
    · refine lv_iload_n hx hb d_M_dTop_35 rfl (lv_at hl 1 rfl) ?_
      exact endRI X hr hlk (⟨B, T, K, hi, Or.inr ⟨hB0, by first | rfl | rw [(div_gcd1 c26 hj).1] | rw [(div_gcd1 c26 hj).2]⟩⟩) d_M_dTop_36
    · refine lv_iload_n hx hb d_M_dTop_29 rfl (lv_at hl 1 rfl) ?_
      refine lv_iload_n hx hb d_M_dTop_30 rfl (lv_at hl 0 rfl) ?_
      refine lv_idiv hx hb d_M_dTop_31 (nI_ne0 (by omega) (by omega)) ?_
      refine tp_i (y := nI (WJ N P E B / Nat.gcd (WJ N P E B) (SJ N B))) (pk_div (by omega) (by omega) (by omega)) ?_
      refine lv_goto (tgt := 36) hx hb d_M_dTop_32 (by decide) ?_
      exact endRI X hr hlk (⟨B, T, K, hi, Or.inr ⟨hB0, by first | rfl | rw [(div_gcd1 c26 hj).1] | rw [(div_gcd1 c26 hj).2]⟩⟩) d_M_dTop_36
  · refine lv_bipush (v := (-5)) hx hb d_M_dTop_9 (by decide) ?_
    exact endRI X hr hlk (⟨B, T, K, hi, Or.inl ⟨Classical.byContradiction (fun q => nI_ne0 (Nat.pos_of_ne_zero q) (by have := one_lt hi (by omega); omega) c6), rfl⟩⟩) d_M_dTop_11

set_option maxHeartbeats 4000000 in
set_option maxRecDepth 100000 in
theorem c_M_dBot (l : Launch) (g : GD) {N : Nat} (hN : N ≤ 10) {fw fm : Nat → Int32} {P : Nat → Nat → Nat} {E Md : Nat → Nat} (hG : okG P E Md) (hM : okM P E Md fw fm) : CRM l y_M_dBot (.code y_M_dBot b_M_dBot 4 (some .int)) rm_M_dBot g (nI N, fw, fm) [] (fun r => ∃ B T K, oneInv N P E Md (2 ^ N) B T K ∧ ((B = 0 ∧ r = (-5)) ∨ (B ≠ 0 ∧ r = nI (SJ N B / Nat.gcd (WJ N P E B) (SJ N B))))) := by
  refine mkRM (by decide) (Nat.le_of_ble_eq_true rfl) ?_
  intro p e s m below meth c ls X hr hlk h hl
  obtain ⟨hx, hb, hml, hown, htl⟩ := id X
  have hl : lv_has ls 4 [(0, .ref (g.2.1 0))] := hl
  have hp2 := pow10 N hN
  refine lv_aload_n hx hb d_M_dBot_0 rfl (lv_at hl 0 rfl) ?_
  refine callRM (rest := []) X hl.1 (c_M_one l g hN hG hM) e_ml_M_M_one e_im_M_one e_se_M_one e_co_M_one hd_M_one ⟨rfl, rfl⟩ ⟨Nat.le_of_ble_eq_true rfl, Nat.le_of_ble_eq_true rfl⟩ h rfl rfl (Nat.le_of_ble_eq_true rfl) ⟨Nat.zero_le _, Nat.zero_le _⟩ d_M_dBot_1 (fun r1 hr1 => ?_)
  obtain ⟨B, T, K, hi, rfl⟩ := hr1
  refine lv_istore_n (lv' := [(1, .int (nI B)), (0, .ref (g.2.1 0))]) hx hb d_M_dBot_4 rfl hl (by decide) rfl (fun ls hl => ?_)
  refine lv_iload_n hx hb d_M_dBot_5 rfl (lv_at hl 0 rfl) ?_
  refine lv_if_ne (tgt := 12) hx hb d_M_dBot_6 (by decide) (fun c6 => ?_) (fun c6 => ?_)
  · have hB0 : B ≠ 0 := fun q => c6 (by rw [q]; rfl)
    have hBl := one_lt hi (by omega)
    have hj : 1 ≤ SJ N B := SJ_pos hN (by omega) hBl
    have q1 : WJ N P E B ≤ 1100 := wt_le hN hG _
    have q2 : SJ N B ≤ 10 := Nat.le_trans (sz_le N _) hN
    have q3 : Nat.gcd (WJ N P E B) (SJ N B) ≤ SJ N B := Nat.le_of_dvd hj (Nat.gcd_dvd_right _ _)
    refine lv_aload_n hx hb d_M_dBot_12 rfl (lv_at hl 1 rfl) ?_
    refine lv_iload_n hx hb d_M_dBot_13 rfl (lv_at hl 0 rfl) ?_
    refine callRM (rest := []) X hl.1 (c_M_size l g hN (nI B)) e_ml_M_M_size e_im_M_size e_se_M_size e_co_M_size hd_M_size ⟨rfl, rfl⟩ ⟨Nat.le_of_ble_eq_true rfl, Nat.le_of_ble_eq_true rfl⟩ h rfl rfl (Nat.le_of_ble_eq_true rfl) ⟨Nat.zero_le _, Nat.zero_le _⟩ d_M_dBot_14 (fun r14 hr14 => ?_)
    obtain rfl : r14 = nI (SJ N B) := hr14.trans (membersI_eq hN _)
    refine lv_istore_n (lv' := [(2, .int (nI (SJ N B))), (1, .int (nI B)), (0, .ref (g.2.1 0))]) hx hb d_M_dBot_17 rfl hl (by decide) rfl (fun ls hl => ?_)
    refine lv_aload_n hx hb d_M_dBot_18 rfl (lv_at hl 2 rfl) ?_
    refine lv_iload_n hx hb d_M_dBot_19 rfl (lv_at hl 1 rfl) ?_
    refine callRM (rest := []) X hl.1 (c_M_common l g hN hG hM hj) e_ml_M_M_common e_im_M_common e_se_M_common e_co_M_common hd_M_common ⟨rfl, rfl⟩ ⟨Nat.le_of_ble_eq_true rfl, Nat.le_of_ble_eq_true rfl⟩ h rfl rfl (Nat.le_of_ble_eq_true rfl) ⟨Nat.zero_le _, Nat.zero_le _⟩ d_M_dBot_20 (fun r20 hr20 => ?_)
    subst hr20
    refine lv_istore_n (lv' := [(3, .int (nI (Nat.gcd (WJ N P E B) (SJ N B)))), (2, .int (nI (SJ N B))), (1, .int (nI B)), (0, .ref (g.2.1 0))]) hx hb d_M_dBot_23 rfl hl (by decide) rfl (fun ls hl => ?_)
    refine lv_iload_n hx hb d_M_dBot_24 rfl (lv_at hl 0 rfl) ?_
    refine lv_iconst (v := nI 1) hx hb d_M_dBot_25 (by decide) ?_
    refine n_icmp_le (tgt := 35) hx hb (by omega) (by omega) d_M_dBot_26 (by decide) (fun c26 => ?_) (fun c26 => ?_)
    · refine lv_iload_n hx hb d_M_dBot_35 rfl (lv_at hl 1 rfl) ?_
      exact endRI X hr hlk (⟨B, T, K, hi, Or.inr ⟨hB0, by first | rfl | rw [(div_gcd1 c26 hj).1] | rw [(div_gcd1 c26 hj).2]⟩⟩) d_M_dBot_36
    · refine lv_iload_n hx hb d_M_dBot_29 rfl (lv_at hl 1 rfl) ?_
      refine lv_iload_n hx hb d_M_dBot_30 rfl (lv_at hl 0 rfl) ?_
      refine lv_idiv hx hb d_M_dBot_31 (nI_ne0 (by omega) (by omega)) ?_
      refine tp_i (y := nI (SJ N B / Nat.gcd (WJ N P E B) (SJ N B))) (pk_div (by omega) (by omega) (by omega)) ?_
      refine lv_goto (tgt := 36) hx hb d_M_dBot_32 (by decide) ?_
      exact endRI X hr hlk (⟨B, T, K, hi, Or.inr ⟨hB0, by first | rfl | rw [(div_gcd1 c26 hj).1] | rw [(div_gcd1 c26 hj).2]⟩⟩) d_M_dBot_36
  · refine lv_bipush (v := (-5)) hx hb d_M_dBot_9 (by decide) ?_
    exact endRI X hr hlk (⟨B, T, K, hi, Or.inl ⟨Classical.byContradiction (fun q => nI_ne0 (Nat.pos_of_ne_zero q) (by have := one_lt hi (by omega); omega) c6), rfl⟩⟩) d_M_dBot_11

def denC (N : Nat) (P : Nat → Nat → Nat) (E Md : Nat → Nat) (B j : Nat) : Prop := 1 ≤ j ∧ AJ N Md j ∧ WJ N P E j * SJ N B = WJ N P E B * SJ N j
def exC (N : Nat) (P : Nat → Nat → Nat) (E Md : Nat → Nat) (a b : Nat) (best : Int32) (j : Nat) : Prop := AJ N Md j ∧ vI N P E a b j = best
set_option maxHeartbeats 4000000 in
set_option maxRecDepth 100000 in
theorem lp_M_densest {p : Program} {l : Launch} {e : Env} {s : State} {m : MethodId} {args : Array Value} {below : List Frame} {meth : Method} {c : Code} {H : Heap} {locs : List Loc} {Q : State → Prop} {g : GD} (X : CallFix p m c b_M_densest 8 s args tb R_M) {N : Nat} (hN : N ≤ 10) {fw fm : Nat → Int32} {P : Nat → Nat → Nat} {E Md : Nat → Nat} (hG : okG P E Md) (hM : okM P E Md fw fm) (h : RM g (nI N, fw, fm) s H) {B : Nat} (K0 : ∀ (ls : Array Slot) (R0 : Nat), orInv N (denC N P E Md B) (2 ^ N) R0 → lv_has ls 8 [(0, .ref (g.2.1 0)), (4, .int (nI R0))] → W p l e rm_M_densest s m args below meth c H locs 0 0 Q (F0 m 83 ls [])) :
    ∀ (k i R0 : Nat) (ls : Array Slot), i + k = 2 ^ N → 1 ≤ i → orInv N (denC N P E Md B) i R0 → lv_has ls 8 [(0, .ref (g.2.1 0)), (2, .int (nI (WJ N P E B))), (3, .int (nI (SJ N B))), (4, .int (nI R0)), (5, .int (nI i))] → W p l e rm_M_densest s m args below meth c H locs 0 0 Q (F0 m 23 ls []) := by
  obtain ⟨hx, hb, hml, hown, htl⟩ := id X
  have htw : ∀ n : Nat, n ≤ 100000 → n < 2 ^ 31 := fun n h => by omega
  have hp2 := pow10 N hN
  intro k
  induction k with
  | zero =>
    intro i R0 ls hk h1i hi hl
    refine lv_iload hx hb d_M_densest_23 (lv_at hl 4 rfl) ?_
    refine lv_iconst (v := nI 1) hx hb d_M_densest_25 (by decide) ?_
    refine lv_aload_n hx hb d_M_densest_26 rfl (lv_at hl 0 rfl) ?_
    refine gM_n X h d_M_densest_27 ?_
    refine lv_ishl hx hb d_M_densest_30 ?_
    refine tp_i (y := nI (2 ^ N)) (shl1 N hN) ?_
    refine n_icmp_ge (tgt := 83) hx hb (by omega) (by omega) d_M_densest_31 (by decide) (fun c31 => ?_) (fun c31 => ?_)
    · obtain rfl : i = 2 ^ N := by omega
      exact K0 _ _ hi (lv_sub hl [0, 3] rfl)
    · exact absurd c31 (by omega)
  | succ k ih =>
    intro i R0 ls hk h1i hi hl
    refine lv_iload hx hb d_M_densest_23 (lv_at hl 4 rfl) ?_
    refine lv_iconst (v := nI 1) hx hb d_M_densest_25 (by decide) ?_
    refine lv_aload_n hx hb d_M_densest_26 rfl (lv_at hl 0 rfl) ?_
    refine gM_n X h d_M_densest_27 ?_
    refine lv_ishl hx hb d_M_densest_30 ?_
    refine tp_i (y := nI (2 ^ N)) (shl1 N hN) ?_
    refine n_icmp_ge (tgt := 83) hx hb (by omega) (by omega) d_M_densest_31 (by decide) (fun c31 => ?_) (fun c31 => ?_)
    · exact absurd c31 (by omega)
    · refine lv_aload_n hx hb d_M_densest_34 rfl (lv_at hl 0 rfl) ?_
      refine lv_iload hx hb d_M_densest_35 (lv_at hl 4 rfl) ?_
      refine callRM (rest := []) X hl.1 (c_M_allowed l g hN (nI i)) e_ml_M_M_allowed e_im_M_allowed e_se_M_allowed e_co_M_allowed hd_M_allowed ⟨rfl, rfl⟩ ⟨Nat.le_of_ble_eq_true rfl, Nat.le_of_ble_eq_true rfl⟩ h rfl rfl (Nat.le_of_ble_eq_true rfl) ⟨Nat.zero_le _, Nat.zero_le _⟩ d_M_densest_37 (fun r37 hr37 => ?_)
      rcases hr37 with ⟨ar37, rfl⟩ | ⟨ar37, rfl⟩
      · refine lv_if_eq (tgt := 77) hx hb d_M_densest_40 (by decide) (fun c40 => ?_) (fun c40 => ?_)
        · exact absurd c40 (by decide)
        · refine lv_aload_n hx hb d_M_densest_43 rfl (lv_at hl 0 rfl) ?_
          refine lv_iload hx hb d_M_densest_44 (lv_at hl 4 rfl) ?_
          refine callRM (rest := []) X hl.1 (c_M_weight l g hN (nI i)) e_ml_M_M_weight e_im_M_weight e_se_M_weight e_co_M_weight hd_M_weight ⟨rfl, rfl⟩ ⟨Nat.le_of_ble_eq_true rfl, Nat.le_of_ble_eq_true rfl⟩ h rfl rfl (Nat.le_of_ble_eq_true rfl) ⟨Nat.zero_le _, Nat.zero_le _⟩ d_M_densest_46 (fun r46 hr46 => ?_)
          obtain rfl : r46 = nI (WJ N P E i) := hr46.trans (weightM_eq hN hM _)
          refine lv_istore (lv' := [(6, .int (nI (WJ N P E i))), (0, .ref (g.2.1 0)), (2, .int (nI (WJ N P E B))), (3, .int (nI (SJ N B))), (4, .int (nI R0)), (5, .int (nI i))]) hx hb d_M_densest_49 hl (by decide) rfl (fun ls hl => ?_)
          refine lv_aload_n hx hb d_M_densest_51 rfl (lv_at hl 1 rfl) ?_
          refine lv_iload hx hb d_M_densest_52 (lv_at hl 5 rfl) ?_
          refine callRM (rest := []) X hl.1 (c_M_size l g hN (nI i)) e_ml_M_M_size e_im_M_size e_se_M_size e_co_M_size hd_M_size ⟨rfl, rfl⟩ ⟨Nat.le_of_ble_eq_true rfl, Nat.le_of_ble_eq_true rfl⟩ h rfl rfl (Nat.le_of_ble_eq_true rfl) ⟨Nat.zero_le _, Nat.zero_le _⟩ d_M_densest_54 (fun r54 hr54 => ?_)
          obtain rfl : r54 = nI (SJ N i) := hr54.trans (membersI_eq hN _)
          refine lv_istore (lv' := [(7, .int (nI (SJ N i))), (6, .int (nI (WJ N P E i))), (0, .ref (g.2.1 0)), (2, .int (nI (WJ N P E B))), (3, .int (nI (SJ N B))), (4, .int (nI R0)), (5, .int (nI i))]) hx hb d_M_densest_57 hl (by decide) rfl (fun ls hl => ?_)
          have q1 := wt_le hN hG (bt (nI i))
          have q2 : SJ N i ≤ 10 := Nat.le_trans (sz_le N _) hN
          have q3 : WJ N P E B ≤ 1100 := wt_le hN hG _
          have q3b : SJ N B ≤ 10 := Nat.le_trans (sz_le N _) hN
          have q4 : WJ N P E i * SJ N B ≤ 1100 * 10 := Nat.mul_le_mul q1 q3b
          have q5 : WJ N P E B * SJ N i ≤ 1100 * 10 := Nat.mul_le_mul q3 q2
          refine lv_iload hx hb d_M_densest_59 (lv_at hl 1 rfl) ?_
          refine lv_iload_n hx hb d_M_densest_61 rfl (lv_at hl 4 rfl) ?_
          refine n_imul hx hb d_M_densest_62 ?_
          refine lv_iload_n hx hb d_M_densest_63 rfl (lv_at hl 3 rfl) ?_
          refine lv_iload hx hb d_M_densest_64 (lv_at hl 0 rfl) ?_
          refine n_imul hx hb d_M_densest_66 ?_
          refine n_icmp_ne (tgt := 77) hx hb (by omega) (by omega) d_M_densest_67 (by decide) (fun c67 => ?_) (fun c67 => ?_)
          · refine lv_iinc (v := nI (i + 1)) (lv' := [(5, .int (nI (i + 1))), (7, .int (nI (SJ N i))), (6, .int (nI (WJ N P E i))), (0, .ref (g.2.1 0)), (2, .int (nI (WJ N P E B))), (3, .int (nI (SJ N B))), (4, .int (nI R0))]) hx hb d_M_densest_77 hl (k := 6) rfl (inc1 i) (by decide) rfl (fun ls hl => ?_)
            refine lv_goto (tgt := 23) hx hb d_M_densest_80 (by decide) ?_
            exact ih _ _ _ (by omega) (by omega) (or_no hi (fun q => c67 q.2.2)) (lv_sub hl [3, 4, 5, 6, 0] rfl)
          · refine lv_iload hx hb d_M_densest_70 (lv_at hl 5 rfl) ?_
            refine lv_iload hx hb d_M_densest_72 (lv_at hl 6 rfl) ?_
            refine lv_ior hx hb d_M_densest_74 ?_
            refine tp_i (y := nI (R0 ||| i)) (nI_or R0 i) ?_
            refine lv_istore (lv' := [(4, .int (nI (R0 ||| i))), (7, .int (nI (SJ N i))), (6, .int (nI (WJ N P E i))), (0, .ref (g.2.1 0)), (2, .int (nI (WJ N P E B))), (3, .int (nI (SJ N B))), (5, .int (nI i))]) hx hb d_M_densest_75 hl (by decide) rfl (fun ls hl => ?_)
            refine lv_iinc (v := nI (i + 1)) (lv' := [(5, .int (nI (i + 1))), (4, .int (nI (R0 ||| i))), (7, .int (nI (SJ N i))), (6, .int (nI (WJ N P E i))), (0, .ref (g.2.1 0)), (2, .int (nI (WJ N P E B))), (3, .int (nI (SJ N B)))]) hx hb d_M_densest_77 hl (k := 6) rfl (inc1 i) (by decide) rfl (fun ls hl => ?_)
            refine lv_goto (tgt := 23) hx hb d_M_densest_80 (by decide) ?_
            exact ih _ _ _ (by omega) (by omega) (or_yes hi (by omega) ⟨h1i, (alwI_iff hN hG.2.2.2.2 hM.2.2 _).mp ar37, c67⟩) (lv_sub hl [4, 5, 6, 1, 0] rfl)
      · refine lv_if_eq (tgt := 77) hx hb d_M_densest_40 (by decide) (fun c40 => ?_) (fun c40 => ?_)
        · refine lv_iinc (v := nI (i + 1)) (lv' := [(5, .int (nI (i + 1))), (0, .ref (g.2.1 0)), (2, .int (nI (WJ N P E B))), (3, .int (nI (SJ N B))), (4, .int (nI R0))]) hx hb d_M_densest_77 hl (k := 4) rfl (inc1 i) (by decide) rfl (fun ls hl => ?_)
          refine lv_goto (tgt := 23) hx hb d_M_densest_80 (by decide) ?_
          exact ih _ _ _ (by omega) (by omega) (or_no hi (fun q => ar37 ((alwI_iff hN hG.2.2.2.2 hM.2.2 _).mpr q.2.1))) (lv_sub hl [1, 2, 3, 4, 0] rfl)
        · exact absurd c40 (by decide)

set_option maxHeartbeats 4000000 in
set_option maxRecDepth 100000 in
theorem c_M_densest (l : Launch) (g : GD) {N : Nat} (hN : N ≤ 10) {fw fm : Nat → Int32} {P : Nat → Nat → Nat} {E Md : Nat → Nat} (hG : okG P E Md) (hM : okM P E Md fw fm) : CRM l y_M_densest (.code y_M_densest b_M_densest 8 (some .int)) rm_M_densest g (nI N, fw, fm) [] (fun r => ∃ B T K R0, oneInv N P E Md (2 ^ N) B T K ∧ orInv N (denC N P E Md B) (2 ^ N) R0 ∧ r = nI R0) := by
  refine mkRM (by decide) (Nat.le_of_ble_eq_true rfl) ?_
  intro p e s m below meth c ls X hr hlk h hl
  obtain ⟨hx, hb, hml, hown, htl⟩ := id X
  have hl : lv_has ls 8 [(0, .ref (g.2.1 0))] := hl
  have hp2 := pow10 N hN
  refine lv_aload_n hx hb d_M_densest_0 rfl (lv_at hl 0 rfl) ?_
  refine callRM (rest := []) X hl.1 (c_M_one l g hN hG hM) e_ml_M_M_one e_im_M_one e_se_M_one e_co_M_one hd_M_one ⟨rfl, rfl⟩ ⟨Nat.le_of_ble_eq_true rfl, Nat.le_of_ble_eq_true rfl⟩ h rfl rfl (Nat.le_of_ble_eq_true rfl) ⟨Nat.zero_le _, Nat.zero_le _⟩ d_M_densest_1 (fun r1 hr1 => ?_)
  obtain ⟨B, T, K, hi, rfl⟩ := hr1
  refine lv_istore_n (lv' := [(1, .int (nI B)), (0, .ref (g.2.1 0))]) hx hb d_M_densest_4 rfl hl (by decide) rfl (fun ls hl => ?_)
  refine lv_aload_n hx hb d_M_densest_5 rfl (lv_at hl 1 rfl) ?_
  refine lv_iload_n hx hb d_M_densest_6 rfl (lv_at hl 0 rfl) ?_
  refine callRM (rest := []) X hl.1 (c_M_weight l g hN (nI B)) e_ml_M_M_weight e_im_M_weight e_se_M_weight e_co_M_weight hd_M_weight ⟨rfl, rfl⟩ ⟨Nat.le_of_ble_eq_true rfl, Nat.le_of_ble_eq_true rfl⟩ h rfl rfl (Nat.le_of_ble_eq_true rfl) ⟨Nat.zero_le _, Nat.zero_le _⟩ d_M_densest_7 (fun r7 hr7 => ?_)
  obtain rfl : r7 = nI (WJ N P E B) := hr7.trans (weightM_eq hN hM _)
  refine lv_istore_n (lv' := [(2, .int (nI (WJ N P E B))), (1, .int (nI B)), (0, .ref (g.2.1 0))]) hx hb d_M_densest_10 rfl hl (by decide) rfl (fun ls hl => ?_)
  refine lv_aload_n hx hb d_M_densest_11 rfl (lv_at hl 2 rfl) ?_
  refine lv_iload_n hx hb d_M_densest_12 rfl (lv_at hl 1 rfl) ?_
  refine callRM (rest := []) X hl.1 (c_M_size l g hN (nI B)) e_ml_M_M_size e_im_M_size e_se_M_size e_co_M_size hd_M_size ⟨rfl, rfl⟩ ⟨Nat.le_of_ble_eq_true rfl, Nat.le_of_ble_eq_true rfl⟩ h rfl rfl (Nat.le_of_ble_eq_true rfl) ⟨Nat.zero_le _, Nat.zero_le _⟩ d_M_densest_13 (fun r13 hr13 => ?_)
  obtain rfl : r13 = nI (SJ N B) := hr13.trans (membersI_eq hN _)
  refine lv_istore_n (lv' := [(3, .int (nI (SJ N B))), (2, .int (nI (WJ N P E B))), (1, .int (nI B)), (0, .ref (g.2.1 0))]) hx hb d_M_densest_16 rfl hl (by decide) rfl (fun ls hl => ?_)
  refine lv_iconst (v := nI 0) hx hb d_M_densest_17 (by decide) ?_
  refine lv_istore (lv' := [(4, .int (nI 0)), (3, .int (nI (SJ N B))), (2, .int (nI (WJ N P E B))), (1, .int (nI B)), (0, .ref (g.2.1 0))]) hx hb d_M_densest_18 hl (by decide) rfl (fun ls hl => ?_)
  refine lv_iconst (v := nI 1) hx hb d_M_densest_20 (by decide) ?_
  refine lv_istore (lv' := [(5, .int (nI 1)), (4, .int (nI 0)), (3, .int (nI (SJ N B))), (2, .int (nI (WJ N P E B))), (1, .int (nI B)), (0, .ref (g.2.1 0))]) hx hb d_M_densest_21 hl (by decide) rfl (fun ls hl => ?_)
  refine lp_M_densest X hN hG hM h (B := B) (fun ls R0 ho hl => ?_) (2 ^ N - 1) 1 0 _ (by omega) (by omega) (or_0 (fun j hj q => by have := q.1; omega)) (lv_sub hl [5, 3, 2, 1, 0] rfl)
  refine lv_iload hx hb d_M_densest_83 (lv_at hl 1 rfl) ?_
  exact endRI X hr hlk ⟨B, T, K, R0, hi, ho, rfl⟩ d_M_densest_85

set_option maxHeartbeats 4000000 in
set_option maxRecDepth 100000 in
theorem lp_M_excess {p : Program} {l : Launch} {e : Env} {s : State} {m : MethodId} {args : Array Value} {below : List Frame} {meth : Method} {c : Code} {H : Heap} {locs : List Loc} {Q : State → Prop} {g : GD} (X : CallFix p m c b_M_excess 6 s args tb R_M) {N : Nat} (hN : N ≤ 10) {fw fm : Nat → Int32} {P : Nat → Nat → Nat} {E Md : Nat → Nat} (hG : okG P E Md) (hM : okM P E Md fw fm) (h : RM g (nI N, fw, fm) s H) {a b : Nat} (ha : a ≤ 20) (hb2 : b ≤ 2000) (K0 : ∀ (ls : Array Slot) (best : Int32), exInv N P E Md a b (2 ^ N) best → lv_has ls 6 [(0, .ref (g.2.1 0)), (3, .int best)] → W p l e rm_M_excess s m args below meth c H locs 0 0 Q (F0 m 72 ls [])) :
    ∀ (k i : Nat) (best : Int32) (ls : Array Slot), i + k = 2 ^ N → exInv N P E Md a b i best → lv_has ls 6 [(0, .ref (g.2.1 0)), (1, .int (nI a)), (2, .int (nI b)), (3, .int best), (4, .int (nI i))] → W p l e rm_M_excess s m args below meth c H locs 0 0 Q (F0 m 18 ls []) := by
  obtain ⟨hx, hb, hml, hown, htl⟩ := id X
  have htw : ∀ n : Nat, n ≤ 100000 → n < 2 ^ 31 := fun n h => by omega
  have hp2 := pow10 N hN
  intro k
  induction k with
  | zero =>
    intro i best ls hk hi hl
    refine lv_iload hx hb d_M_excess_18 (lv_at hl 4 rfl) ?_
    refine lv_iconst (v := nI 1) hx hb d_M_excess_20 (by decide) ?_
    refine lv_aload_n hx hb d_M_excess_21 rfl (lv_at hl 0 rfl) ?_
    refine gM_n X h d_M_excess_22 ?_
    refine lv_ishl hx hb d_M_excess_25 ?_
    refine tp_i (y := nI (2 ^ N)) (shl1 N hN) ?_
    refine n_icmp_ge (tgt := 72) hx hb (by omega) (by omega) d_M_excess_26 (by decide) (fun c26 => ?_) (fun c26 => ?_)
    · obtain rfl : i = 2 ^ N := by omega
      exact K0 _ _ hi (lv_sub hl [0, 3] rfl)
    · exact absurd c26 (by omega)
  | succ k ih =>
    intro i best ls hk hi hl
    refine lv_iload hx hb d_M_excess_18 (lv_at hl 4 rfl) ?_
    refine lv_iconst (v := nI 1) hx hb d_M_excess_20 (by decide) ?_
    refine lv_aload_n hx hb d_M_excess_21 rfl (lv_at hl 0 rfl) ?_
    refine gM_n X h d_M_excess_22 ?_
    refine lv_ishl hx hb d_M_excess_25 ?_
    refine tp_i (y := nI (2 ^ N)) (shl1 N hN) ?_
    refine n_icmp_ge (tgt := 72) hx hb (by omega) (by omega) d_M_excess_26 (by decide) (fun c26 => ?_) (fun c26 => ?_)
    · exact absurd c26 (by omega)
    · refine lv_aload_n hx hb d_M_excess_29 rfl (lv_at hl 0 rfl) ?_
      refine lv_iload hx hb d_M_excess_30 (lv_at hl 4 rfl) ?_
      refine callRM (rest := []) X hl.1 (c_M_allowed l g hN (nI i)) e_ml_M_M_allowed e_im_M_allowed e_se_M_allowed e_co_M_allowed hd_M_allowed ⟨rfl, rfl⟩ ⟨Nat.le_of_ble_eq_true rfl, Nat.le_of_ble_eq_true rfl⟩ h rfl rfl (Nat.le_of_ble_eq_true rfl) ⟨Nat.zero_le _, Nat.zero_le _⟩ d_M_excess_32 (fun r32 hr32 => ?_)
      rcases hr32 with ⟨ar32, rfl⟩ | ⟨ar32, rfl⟩
      · refine lv_if_eq (tgt := 66) hx hb d_M_excess_35 (by decide) (fun c35 => ?_) (fun c35 => ?_)
        · exact absurd c35 (by decide)
        · refine lv_iload_n hx hb d_M_excess_38 rfl (lv_at hl 1 rfl) ?_
          refine lv_aload_n hx hb d_M_excess_39 rfl (lv_at hl 0 rfl) ?_
          refine lv_iload hx hb d_M_excess_40 (lv_at hl 4 rfl) ?_
          refine callRM (rest := [.int (nI a)]) X hl.1 (c_M_weight l g hN (nI i)) e_ml_M_M_weight e_im_M_weight e_se_M_weight e_co_M_weight hd_M_weight ⟨rfl, rfl⟩ ⟨Nat.le_of_ble_eq_true rfl, Nat.le_of_ble_eq_true rfl⟩ h rfl rfl (Nat.le_of_ble_eq_true rfl) ⟨Nat.zero_le _, Nat.zero_le _⟩ d_M_excess_42 (fun r42 hr42 => ?_)
          obtain rfl : r42 = nI (WJ N P E i) := hr42.trans (weightM_eq hN hM _)
          refine n_imul hx hb d_M_excess_45 ?_
          refine lv_iload_n hx hb d_M_excess_46 rfl (lv_at hl 2 rfl) ?_
          refine lv_aload_n hx hb d_M_excess_47 rfl (lv_at hl 0 rfl) ?_
          refine lv_iload hx hb d_M_excess_48 (lv_at hl 4 rfl) ?_
          refine callRM (rest := [.int (nI b), .int (nI (a * (WJ N P E i)))]) X hl.1 (c_M_size l g hN (nI i)) e_ml_M_M_size e_im_M_size e_se_M_size e_co_M_size hd_M_size ⟨rfl, rfl⟩ ⟨Nat.le_of_ble_eq_true rfl, Nat.le_of_ble_eq_true rfl⟩ h rfl rfl (Nat.le_of_ble_eq_true rfl) ⟨Nat.zero_le _, Nat.zero_le _⟩ d_M_excess_50 (fun r50 hr50 => ?_)
          obtain rfl : r50 = nI (SJ N i) := hr50.trans (membersI_eq hN _)
          refine n_imul hx hb d_M_excess_53 ?_
          refine lv_isub hx hb d_M_excess_54 ?_
          refine tp_i (y := vI N P E a b i) (rfl) ?_
          refine lv_istore (lv' := [(5, .int (vI N P E a b i)), (0, .ref (g.2.1 0)), (1, .int (nI a)), (2, .int (nI b)), (3, .int best), (4, .int (nI i))]) hx hb d_M_excess_55 hl (by decide) rfl (fun ls hl => ?_)
          refine lv_iload hx hb d_M_excess_57 (lv_at hl 0 rfl) ?_
          refine lv_iload_n hx hb d_M_excess_59 rfl (lv_at hl 4 rfl) ?_
          refine lv_icmp_le (tgt := 66) hx hb d_M_excess_60 (by decide) (fun c60 => ?_) (fun c60 => ?_)
          · refine lv_iinc (v := nI (i + 1)) (lv' := [(4, .int (nI (i + 1))), (5, .int (vI N P E a b i)), (0, .ref (g.2.1 0)), (1, .int (nI a)), (2, .int (nI b)), (3, .int best)]) hx hb d_M_excess_66 hl (k := 5) rfl (inc1 i) (by decide) rfl (fun ls hl => ?_)
            refine lv_goto (tgt := 18) hx hb d_M_excess_69 (by decide) ?_
            exact ih _ _ _ (by omega) (ex_keep hN hG ha hb2 hi c60) (lv_sub hl [2, 3, 4, 5, 0] rfl)
          · refine lv_iload hx hb d_M_excess_63 (lv_at hl 0 rfl) ?_
            refine lv_istore_n (lv' := [(3, .int (vI N P E a b i)), (5, .int (vI N P E a b i)), (0, .ref (g.2.1 0)), (1, .int (nI a)), (2, .int (nI b)), (4, .int (nI i))]) hx hb d_M_excess_65 rfl hl (by decide) rfl (fun ls hl => ?_)
            refine lv_iinc (v := nI (i + 1)) (lv' := [(4, .int (nI (i + 1))), (3, .int (vI N P E a b i)), (5, .int (vI N P E a b i)), (0, .ref (g.2.1 0)), (1, .int (nI a)), (2, .int (nI b))]) hx hb d_M_excess_66 hl (k := 5) rfl (inc1 i) (by decide) rfl (fun ls hl => ?_)
            refine lv_goto (tgt := 18) hx hb d_M_excess_69 (by decide) ?_
            exact ih _ _ _ (by omega) (ex_take hN hG ha hb2 hi ((alwI_iff hN hG.2.2.2.2 hM.2.2 _).mp ar32) c60) (lv_sub hl [3, 4, 5, 1, 0] rfl)
      · refine lv_if_eq (tgt := 66) hx hb d_M_excess_35 (by decide) (fun c35 => ?_) (fun c35 => ?_)
        · refine lv_iinc (v := nI (i + 1)) (lv' := [(4, .int (nI (i + 1))), (0, .ref (g.2.1 0)), (1, .int (nI a)), (2, .int (nI b)), (3, .int best)]) hx hb d_M_excess_66 hl (k := 4) rfl (inc1 i) (by decide) rfl (fun ls hl => ?_)
          refine lv_goto (tgt := 18) hx hb d_M_excess_69 (by decide) ?_
          exact ih _ _ _ (by omega) (ex_no hi (fun q => ar32 ((alwI_iff hN hG.2.2.2.2 hM.2.2 _).mpr q))) (lv_sub hl [1, 2, 3, 4, 0] rfl)
        · exact absurd c35 (by decide)

set_option maxHeartbeats 4000000 in
set_option maxRecDepth 100000 in
theorem c_M_excess (l : Launch) (g : GD) {N : Nat} (hN : N ≤ 10) {fw fm : Nat → Int32} {P : Nat → Nat → Nat} {E Md : Nat → Nat} (hG : okG P E Md) (hM : okM P E Md fw fm) (x y : Int32) : CRM l y_M_excess (.code y_M_excess b_M_excess 6 (some .int)) rm_M_excess g (nI N, fw, fm) [.int x, .int y] (fun r => (bpP x y ∧ r = (-4)) ∨ (∃ a b : Nat, 1 ≤ a ∧ a ≤ 20 ∧ b ≤ 2000 ∧ x = nI a ∧ y = nI b ∧ exInv N P E Md a b (2 ^ N) r)) := by
  refine mkRM (by decide) (Nat.le_of_ble_eq_true rfl) ?_
  intro p e s m below meth c ls X hr hlk h hl
  obtain ⟨hx, hb, hml, hown, htl⟩ := id X
  have hl : lv_has ls 6 [(0, .ref (g.2.1 0)), (1, .int x), (2, .int y)] := hl
  have hp2 := pow10 N hN
  refine lv_aload_n hx hb d_M_excess_0 rfl (lv_at hl 0 rfl) ?_
  refine lv_iload_n hx hb d_M_excess_1 rfl (lv_at hl 1 rfl) ?_
  refine lv_iload_n hx hb d_M_excess_2 rfl (lv_at hl 2 rfl) ?_
  refine callRM (rest := []) X hl.1 (c_M_badPrice l g (x) (y)) e_ml_M_M_badPrice e_im_M_badPrice e_se_M_badPrice e_co_M_badPrice hd_M_badPrice ⟨rfl, rfl⟩ ⟨Nat.le_of_ble_eq_true rfl, Nat.le_of_ble_eq_true rfl⟩ h rfl rfl (Nat.le_of_ble_eq_true rfl) ⟨Nat.zero_le _, Nat.zero_le _⟩ d_M_excess_3 (fun r3 hr3 => ?_)
  rcases hr3 with ⟨br3, rfl⟩ | ⟨br3, rfl⟩
  · refine lv_if_eq (tgt := 12) hx hb d_M_excess_6 (by decide) (fun c6 => ?_) (fun c6 => ?_)
    · exact absurd c6 (by decide)
    · refine lv_bipush (v := (-4)) hx hb d_M_excess_9 (by decide) ?_
      exact endRI X hr hlk (Or.inl ⟨br3, rfl⟩) d_M_excess_11
  · refine lv_if_eq (tgt := 12) hx hb d_M_excess_6 (by decide) (fun c6 => ?_) (fun c6 => ?_)
    · obtain ⟨a, b, ha1, ha, hb2, rfl, rfl⟩ := nbp br3
      refine lv_ldc (v := (-1000000)) hx hb hown (htl _ e_k_M_45) d_M_excess_12 ?_
      refine lv_istore_n (lv' := [(3, .int ((-1000000))), (0, .ref (g.2.1 0)), (1, .int (nI a)), (2, .int (nI b))]) hx hb d_M_excess_14 rfl hl (by decide) rfl (fun ls hl => ?_)
      refine lv_iconst (v := nI 0) hx hb d_M_excess_15 (by decide) ?_
      refine lv_istore (lv' := [(4, .int (nI 0)), (3, .int ((-1000000))), (0, .ref (g.2.1 0)), (1, .int (nI a)), (2, .int (nI b))]) hx hb d_M_excess_16 hl (by decide) rfl (fun ls hl => ?_)
      refine lp_M_excess X hN hG hM h ha hb2 (fun ls best ho hl => ?_) (2 ^ N) 0 _ _ (by omega) ex_0 (lv_sub hl [2, 3, 4, 1, 0] rfl)
      refine lv_iload_n hx hb d_M_excess_72 rfl (lv_at hl 1 rfl) ?_
      exact endRI X hr hlk (Or.inr ⟨a, b, ha1, ha, hb2, rfl, rfl, ho⟩) d_M_excess_73
    · exact absurd c6 (by decide)

set_option maxHeartbeats 4000000 in
set_option maxRecDepth 100000 in
theorem lp_M_exSet {p : Program} {l : Launch} {e : Env} {s : State} {m : MethodId} {args : Array Value} {below : List Frame} {meth : Method} {c : Code} {H : Heap} {locs : List Loc} {Q : State → Prop} {g : GD} (X : CallFix p m c b_M_exSet 7 s args tb R_M) {N : Nat} (hN : N ≤ 10) {fw fm : Nat → Int32} {P : Nat → Nat → Nat} {E Md : Nat → Nat} (hG : okG P E Md) (hM : okM P E Md fw fm) (h : RM g (nI N, fw, fm) s H) {a b : Nat} {best : Int32} (K0 : ∀ (ls : Array Slot) (R0 : Nat), orInv N (exC N P E Md a b best) (2 ^ N) R0 → lv_has ls 7 [(0, .ref (g.2.1 0)), (4, .int (nI R0))] → W p l e rm_M_exSet s m args below meth c H locs 0 0 Q (F0 m 82 ls [])) :
    ∀ (k i R0 : Nat) (ls : Array Slot), i + k = 2 ^ N → orInv N (exC N P E Md a b best) i R0 → lv_has ls 7 [(0, .ref (g.2.1 0)), (1, .int (nI a)), (2, .int (nI b)), (3, .int best), (4, .int (nI R0)), (5, .int (nI i))] → W p l e rm_M_exSet s m args below meth c H locs 0 0 Q (F0 m 24 ls []) := by
  obtain ⟨hx, hb, hml, hown, htl⟩ := id X
  have htw : ∀ n : Nat, n ≤ 100000 → n < 2 ^ 31 := fun n h => by omega
  have hp2 := pow10 N hN
  intro k
  induction k with
  | zero =>
    intro i R0 ls hk hi hl
    refine lv_iload hx hb d_M_exSet_24 (lv_at hl 5 rfl) ?_
    refine lv_iconst (v := nI 1) hx hb d_M_exSet_26 (by decide) ?_
    refine lv_aload_n hx hb d_M_exSet_27 rfl (lv_at hl 0 rfl) ?_
    refine gM_n X h d_M_exSet_28 ?_
    refine lv_ishl hx hb d_M_exSet_31 ?_
    refine tp_i (y := nI (2 ^ N)) (shl1 N hN) ?_
    refine n_icmp_ge (tgt := 82) hx hb (by omega) (by omega) d_M_exSet_32 (by decide) (fun c32 => ?_) (fun c32 => ?_)
    · obtain rfl : i = 2 ^ N := by omega
      exact K0 _ _ hi (lv_sub hl [0, 4] rfl)
    · exact absurd c32 (by omega)
  | succ k ih =>
    intro i R0 ls hk hi hl
    refine lv_iload hx hb d_M_exSet_24 (lv_at hl 5 rfl) ?_
    refine lv_iconst (v := nI 1) hx hb d_M_exSet_26 (by decide) ?_
    refine lv_aload_n hx hb d_M_exSet_27 rfl (lv_at hl 0 rfl) ?_
    refine gM_n X h d_M_exSet_28 ?_
    refine lv_ishl hx hb d_M_exSet_31 ?_
    refine tp_i (y := nI (2 ^ N)) (shl1 N hN) ?_
    refine n_icmp_ge (tgt := 82) hx hb (by omega) (by omega) d_M_exSet_32 (by decide) (fun c32 => ?_) (fun c32 => ?_)
    · exact absurd c32 (by omega)
    · refine lv_aload_n hx hb d_M_exSet_35 rfl (lv_at hl 0 rfl) ?_
      refine lv_iload hx hb d_M_exSet_36 (lv_at hl 5 rfl) ?_
      refine callRM (rest := []) X hl.1 (c_M_allowed l g hN (nI i)) e_ml_M_M_allowed e_im_M_allowed e_se_M_allowed e_co_M_allowed hd_M_allowed ⟨rfl, rfl⟩ ⟨Nat.le_of_ble_eq_true rfl, Nat.le_of_ble_eq_true rfl⟩ h rfl rfl (Nat.le_of_ble_eq_true rfl) ⟨Nat.zero_le _, Nat.zero_le _⟩ d_M_exSet_38 (fun r38 hr38 => ?_)
      rcases hr38 with ⟨ar38, rfl⟩ | ⟨ar38, rfl⟩
      · refine lv_if_eq (tgt := 76) hx hb d_M_exSet_41 (by decide) (fun c41 => ?_) (fun c41 => ?_)
        · exact absurd c41 (by decide)
        · refine lv_iload_n hx hb d_M_exSet_44 rfl (lv_at hl 1 rfl) ?_
          refine lv_aload_n hx hb d_M_exSet_45 rfl (lv_at hl 0 rfl) ?_
          refine lv_iload hx hb d_M_exSet_46 (lv_at hl 5 rfl) ?_
          refine callRM (rest := [.int (nI a)]) X hl.1 (c_M_weight l g hN (nI i)) e_ml_M_M_weight e_im_M_weight e_se_M_weight e_co_M_weight hd_M_weight ⟨rfl, rfl⟩ ⟨Nat.le_of_ble_eq_true rfl, Nat.le_of_ble_eq_true rfl⟩ h rfl rfl (Nat.le_of_ble_eq_true rfl) ⟨Nat.zero_le _, Nat.zero_le _⟩ d_M_exSet_48 (fun r48 hr48 => ?_)
          obtain rfl : r48 = nI (WJ N P E i) := hr48.trans (weightM_eq hN hM _)
          refine n_imul hx hb d_M_exSet_51 ?_
          refine lv_iload_n hx hb d_M_exSet_52 rfl (lv_at hl 2 rfl) ?_
          refine lv_aload_n hx hb d_M_exSet_53 rfl (lv_at hl 0 rfl) ?_
          refine lv_iload hx hb d_M_exSet_54 (lv_at hl 5 rfl) ?_
          refine callRM (rest := [.int (nI b), .int (nI (a * (WJ N P E i)))]) X hl.1 (c_M_size l g hN (nI i)) e_ml_M_M_size e_im_M_size e_se_M_size e_co_M_size hd_M_size ⟨rfl, rfl⟩ ⟨Nat.le_of_ble_eq_true rfl, Nat.le_of_ble_eq_true rfl⟩ h rfl rfl (Nat.le_of_ble_eq_true rfl) ⟨Nat.zero_le _, Nat.zero_le _⟩ d_M_exSet_56 (fun r56 hr56 => ?_)
          obtain rfl : r56 = nI (SJ N i) := hr56.trans (membersI_eq hN _)
          refine n_imul hx hb d_M_exSet_59 ?_
          refine lv_isub hx hb d_M_exSet_60 ?_
          refine tp_i (y := vI N P E a b i) (rfl) ?_
          refine lv_istore (lv' := [(6, .int (vI N P E a b i)), (0, .ref (g.2.1 0)), (1, .int (nI a)), (2, .int (nI b)), (3, .int best), (4, .int (nI R0)), (5, .int (nI i))]) hx hb d_M_exSet_61 hl (by decide) rfl (fun ls hl => ?_)
          refine lv_iload hx hb d_M_exSet_63 (lv_at hl 0 rfl) ?_
          refine lv_iload_n hx hb d_M_exSet_65 rfl (lv_at hl 4 rfl) ?_
          refine lv_icmp_ne (tgt := 76) hx hb d_M_exSet_66 (by decide) (fun c66 => ?_) (fun c66 => ?_)
          · refine lv_iinc (v := nI (i + 1)) (lv' := [(5, .int (nI (i + 1))), (6, .int (vI N P E a b i)), (0, .ref (g.2.1 0)), (1, .int (nI a)), (2, .int (nI b)), (3, .int best), (4, .int (nI R0))]) hx hb d_M_exSet_76 hl (k := 6) rfl (inc1 i) (by decide) rfl (fun ls hl => ?_)
            refine lv_goto (tgt := 24) hx hb d_M_exSet_79 (by decide) ?_
            exact ih _ _ _ (by omega) (or_no hi (fun q => c66 q.2)) (lv_sub hl [2, 3, 4, 5, 6, 0] rfl)
          · refine lv_iload hx hb d_M_exSet_69 (lv_at hl 5 rfl) ?_
            refine lv_iload hx hb d_M_exSet_71 (lv_at hl 6 rfl) ?_
            refine lv_ior hx hb d_M_exSet_73 ?_
            refine tp_i (y := nI (R0 ||| i)) (nI_or R0 i) ?_
            refine lv_istore (lv' := [(4, .int (nI (R0 ||| i))), (6, .int (vI N P E a b i)), (0, .ref (g.2.1 0)), (1, .int (nI a)), (2, .int (nI b)), (3, .int best), (5, .int (nI i))]) hx hb d_M_exSet_74 hl (by decide) rfl (fun ls hl => ?_)
            refine lv_iinc (v := nI (i + 1)) (lv' := [(5, .int (nI (i + 1))), (4, .int (nI (R0 ||| i))), (6, .int (vI N P E a b i)), (0, .ref (g.2.1 0)), (1, .int (nI a)), (2, .int (nI b)), (3, .int best)]) hx hb d_M_exSet_76 hl (k := 6) rfl (inc1 i) (by decide) rfl (fun ls hl => ?_)
            refine lv_goto (tgt := 24) hx hb d_M_exSet_79 (by decide) ?_
            exact ih _ _ _ (by omega) (or_yes hi (by omega) ⟨(alwI_iff hN hG.2.2.2.2 hM.2.2 _).mp ar38, c66⟩) (lv_sub hl [3, 4, 5, 6, 1, 0] rfl)
      · refine lv_if_eq (tgt := 76) hx hb d_M_exSet_41 (by decide) (fun c41 => ?_) (fun c41 => ?_)
        · refine lv_iinc (v := nI (i + 1)) (lv' := [(5, .int (nI (i + 1))), (0, .ref (g.2.1 0)), (1, .int (nI a)), (2, .int (nI b)), (3, .int best), (4, .int (nI R0))]) hx hb d_M_exSet_76 hl (k := 5) rfl (inc1 i) (by decide) rfl (fun ls hl => ?_)
          refine lv_goto (tgt := 24) hx hb d_M_exSet_79 (by decide) ?_
          exact ih _ _ _ (by omega) (or_no hi (fun q => ar38 ((alwI_iff hN hG.2.2.2.2 hM.2.2 _).mpr q.1))) (lv_sub hl [1, 2, 3, 4, 5, 0] rfl)
        · exact absurd c41 (by decide)

set_option maxHeartbeats 4000000 in
set_option maxRecDepth 100000 in
theorem c_M_exSet (l : Launch) (g : GD) {N : Nat} (hN : N ≤ 10) {fw fm : Nat → Int32} {P : Nat → Nat → Nat} {E Md : Nat → Nat} (hG : okG P E Md) (hM : okM P E Md fw fm) (x y : Int32) : CRM l y_M_exSet (.code y_M_exSet b_M_exSet 7 (some .int)) rm_M_exSet g (nI N, fw, fm) [.int x, .int y] (fun r => (bpP x y ∧ r = nI 0) ∨ (∃ (a b : Nat) (best : Int32) (R0 : Nat), 1 ≤ a ∧ a ≤ 20 ∧ b ≤ 2000 ∧ x = nI a ∧ y = nI b ∧ exInv N P E Md a b (2 ^ N) best ∧ orInv N (exC N P E Md a b best) (2 ^ N) R0 ∧ r = nI R0)) := by
  refine mkRM (by decide) (Nat.le_of_ble_eq_true rfl) ?_
  intro p e s m below meth c ls X hr hlk h hl
  obtain ⟨hx, hb, hml, hown, htl⟩ := id X
  have hl : lv_has ls 7 [(0, .ref (g.2.1 0)), (1, .int x), (2, .int y)] := hl
  have hp2 := pow10 N hN
  refine lv_aload_n hx hb d_M_exSet_0 rfl (lv_at hl 0 rfl) ?_
  refine lv_iload_n hx hb d_M_exSet_1 rfl (lv_at hl 1 rfl) ?_
  refine lv_iload_n hx hb d_M_exSet_2 rfl (lv_at hl 2 rfl) ?_
  refine callRM (rest := []) X hl.1 (c_M_badPrice l g (x) (y)) e_ml_M_M_badPrice e_im_M_badPrice e_se_M_badPrice e_co_M_badPrice hd_M_badPrice ⟨rfl, rfl⟩ ⟨Nat.le_of_ble_eq_true rfl, Nat.le_of_ble_eq_true rfl⟩ h rfl rfl (Nat.le_of_ble_eq_true rfl) ⟨Nat.zero_le _, Nat.zero_le _⟩ d_M_exSet_3 (fun r3 hr3 => ?_)
  rcases hr3 with ⟨br3, rfl⟩ | ⟨br3, rfl⟩
  · refine lv_if_eq (tgt := 11) hx hb d_M_exSet_6 (by decide) (fun c6 => ?_) (fun c6 => ?_)
    · exact absurd c6 (by decide)
    · refine lv_iconst (v := nI 0) hx hb d_M_exSet_9 (by decide) ?_
      exact endRI X hr hlk (Or.inl ⟨br3, rfl⟩) d_M_exSet_10
  · refine lv_if_eq (tgt := 11) hx hb d_M_exSet_6 (by decide) (fun c6 => ?_) (fun c6 => ?_)
    · refine lv_aload_n hx hb d_M_exSet_11 rfl (lv_at hl 0 rfl) ?_
      refine lv_iload_n hx hb d_M_exSet_12 rfl (lv_at hl 1 rfl) ?_
      refine lv_iload_n hx hb d_M_exSet_13 rfl (lv_at hl 2 rfl) ?_
      refine callRM (rest := []) X hl.1 (c_M_excess l g hN hG hM (x) (y)) e_ml_M_M_excess e_im_M_excess e_se_M_excess e_co_M_excess hd_M_excess ⟨rfl, rfl⟩ ⟨Nat.le_of_ble_eq_true rfl, Nat.le_of_ble_eq_true rfl⟩ h rfl rfl (Nat.le_of_ble_eq_true rfl) ⟨Nat.zero_le _, Nat.zero_le _⟩ d_M_exSet_14 (fun r14 hr14 => ?_)
      rcases hr14 with ⟨bq, -⟩ | ⟨a, b, ha1, ha, hb2, rfl, rfl, hex⟩
      · exact absurd bq br3
      refine lv_istore_n (lv' := [(3, .int r14), (0, .ref (g.2.1 0)), (1, .int (nI a)), (2, .int (nI b))]) hx hb d_M_exSet_17 rfl hl (by decide) rfl (fun ls hl => ?_)
      refine lv_iconst (v := nI 0) hx hb d_M_exSet_18 (by decide) ?_
      refine lv_istore (lv' := [(4, .int (nI 0)), (3, .int r14), (0, .ref (g.2.1 0)), (1, .int (nI a)), (2, .int (nI b))]) hx hb d_M_exSet_19 hl (by decide) rfl (fun ls hl => ?_)
      refine lv_iconst (v := nI 0) hx hb d_M_exSet_21 (by decide) ?_
      refine lv_istore (lv' := [(5, .int (nI 0)), (4, .int (nI 0)), (3, .int r14), (0, .ref (g.2.1 0)), (1, .int (nI a)), (2, .int (nI b))]) hx hb d_M_exSet_22 hl (by decide) rfl (fun ls hl => ?_)
      refine lp_M_exSet X hN hG hM h (fun ls R0 ho hl => ?_) (2 ^ N) 0 0 _ (by omega) (or_0 (fun j hj => by omega)) (lv_sub hl [3, 4, 5, 2, 1, 0] rfl)
      refine lv_iload hx hb d_M_exSet_82 (lv_at hl 1 rfl) ?_
      exact endRI X hr hlk (Or.inr ⟨a, b, _, R0, ha1, ha, hb2, rfl, rfl, hex, ho, rfl⟩) d_M_exSet_84
    · exact absurd c6 (by decide)
end
section
/-! a search, level by level, in a graph of twelve nodes -/
theorem up_ne {α : Type} {f : Nat → α} {k j : Nat} {v : α} (h : j ≠ k) : va_up f k v j = f j := if_neg h
theorem up_self {α : Type} {f : Nat → α} {k : Nat} {v : α} : va_up f k v k = v := if_pos rfl
theorem sN_pt {n y d : Nat} {f g : Nat → Nat} (h : ∀ i, i < n → i ≠ y → f i = g i) (hy : y < n) (hd : f y + d = g y) : sN n f + d = sN n g := by
  induction n with
  | zero => omega
  | succ n ih =>
    show sN n f + f n + d = sN n g + g n
    by_cases he : y = n
    · subst he
      rw [sN_congr (f := f) (g := g) (fun i hi => h i (by omega) (by omega))]; omega
    · have := ih (fun i hi hn => h i (by omega) hn) (by omega)
      rw [h n (by omega) (fun q => he q.symm)]; omega
def cntV (vis : Nat → Bool) : Nat := sN 12 (fun a => if vis a = true then 1 else 0)
theorem cntV_le (vis : Nat → Bool) : cntV vis ≤ 12 := by
  have h : cntV vis ≤ sN 12 (fun _ => 1) := sN_le (fun v _ => by by_cases hc : vis v = true <;> simp [hc])
  rw [sN_const] at h; omega
theorem cntV_up {vis : Nat → Bool} {y : Nat} (hy : y < 12) (hv : vis y = false) : cntV vis + 1 = cntV (va_up vis y true) :=
  sN_pt (fun i _ hn => by rw [up_ne hn]) hy (by rw [up_self, hv]; rfl)
/-- after the places below i of the queue have been looked through -/
def bfsI (Ed : Nat → Nat → Prop) (s0 : Nat) (vis : Nat → Bool) (qn lev pr : Nat → Nat) (i en : Nat) : Prop :=
  en = cntV vis ∧ (∀ j, j < en → qn j < 12 ∧ vis (qn j) = true) ∧ (∀ a, a < 12 → vis a = true → ∃ j, j < en ∧ qn j = a) ∧ (s0 < 12 ∧ vis s0 = true ∧ lev s0 = 0) ∧
  (∀ a, a < 12 → vis a = true → a ≠ s0 → pr a < 12 ∧ vis (pr a) = true ∧ Ed (pr a) a ∧ lev a = lev (pr a) + 1) ∧
  (∀ j k, j ≤ k → k < en → lev (qn j) ≤ lev (qn k)) ∧ (i < en → ∀ k, k < en → lev (qn k) ≤ lev (qn i) + 1) ∧
  (∀ j, j < i → j < en → ∀ z, z < 12 → Ed (qn j) z → vis z = true ∧ lev z ≤ lev (qn j) + 1) ∧ (∀ k, k < en → lev (qn k) ≤ k) ∧ i ≤ en
/-- and of the place i the nodes below y -/
def bfsJ (Ed : Nat → Nat → Prop) (s0 : Nat) (vis : Nat → Bool) (qn lev pr : Nat → Nat) (i en y : Nat) : Prop :=
  bfsI Ed s0 vis qn lev pr i en ∧ i < en ∧ ∀ z, z < y → Ed (qn i) z → vis z = true ∧ lev z ≤ lev (qn i) + 1
section BFS
variable {Ed : Nat → Nat → Prop} {s0 : Nat} {vis : Nat → Bool} {qn lev pr : Nat → Nat} {i en y : Nat}
theorem bfs_0 (h0 : s0 < 12) (hv : ∀ a, a < 12 → (vis a = true ↔ a = s0)) (hq : qn 0 = s0) (hl : lev s0 = 0) : bfsI Ed s0 vis qn lev pr 0 1 := by
  have hc : 1 = cntV vis := by
    have h := sN_pt (n := 12) (y := s0) (d := 1) (f := fun _ => 0) (g := fun a => if vis a = true then 1 else 0) (fun i hi hn => by
      rw [if_neg (fun q => hn ((hv i hi).mp q))]) h0 (by rw [if_pos ((hv s0 h0).mpr rfl)])
    rw [sN_zero] at h
    exact h
  refine ⟨hc, fun j hj => ?_, fun a ha q => ⟨0, by omega, by rw [hq]; exact ((hv a ha).mp q).symm⟩, ⟨h0, (hv s0 h0).mpr rfl, hl⟩, fun a ha q hn => absurd ((hv a ha).mp q) hn, fun j k h1 h2 => ?_, fun _ k hk => ?_, fun j hj => by omega, fun k hk => ?_, by omega⟩
  · rw [show j = 0 from by omega, hq]; exact ⟨h0, (hv s0 h0).mpr rfl⟩
  · rw [show j = 0 from by omega, show k = 0 from by omega]; exact Nat.le_refl _
  · rw [show k = 0 from by omega]; omega
  · rw [show k = 0 from by omega, hq, hl]; omega
theorem bfs_in (h : bfsI Ed s0 vis qn lev pr i en) (hi : i < en) : bfsJ Ed s0 vis qn lev pr i en 0 := ⟨h, hi, fun z hz => by omega⟩
theorem bfs_next (h : bfsJ Ed s0 vis qn lev pr i en 12) : bfsI Ed s0 vis qn lev pr (i + 1) en := by
  obtain ⟨⟨a1, a2, a3, a4, a5, a6, a7, a8, a9, a10⟩, hi, hz⟩ := h
  refine ⟨a1, a2, a3, a4, a5, a6, fun h1 k hk => ?_, fun j hj hj2 z hz1 hz2 => ?_, a9, by omega⟩
  · have := a7 hi k hk
    have := a6 i (i + 1) (by omega) h1
    omega
  · by_cases he : j = i
    · subst he; exact hz z hz1 hz2
    · exact a8 j (by omega) hj2 z hz1 hz2
theorem bfs_en (h : bfsI Ed s0 vis qn lev pr i en) : en ≤ 12 := by rw [h.1]; exact cntV_le vis
theorem bfs_skip (h : bfsJ Ed s0 vis qn lev pr i en y) (hy : y < 12) (hs : ¬ Ed (qn i) y ∨ vis y = true) : bfsJ Ed s0 vis qn lev pr i en (y + 1) := by
  refine ⟨h.1, h.2.1, fun z hz1 hz2 => ?_⟩
  by_cases he : z = y
  · subst he
    rcases hs with q | q
    · exact absurd hz2 q
    · obtain ⟨j, j1, j2⟩ := h.1.2.2.1 z hy q
      refine ⟨q, ?_⟩
      rw [← j2]
      exact h.1.2.2.2.2.2.2.1 h.2.1 j j1
  · exact h.2.2 z (by omega) hz2
theorem bfs_room (h : bfsI Ed s0 vis qn lev pr i en) (hy : y < 12) (hv : vis y = false) : en < 12 := by
  have h1 := cntV_up hy hv
  have h2 := cntV_le (va_up vis y true)
  have h3 := h.1
  omega
theorem bfs_push (h : bfsJ Ed s0 vis qn lev pr i en y) (hy : y < 12) (hv : vis y = false) (he : Ed (qn i) y) : bfsJ Ed s0 (va_up vis y true) (va_up qn en y) (va_up lev y (lev (qn i) + 1)) (va_up pr y (qn i)) i (en + 1) (y + 1) := by
  obtain ⟨⟨a1, a2, a3, a4, a5, a6, a7, a8, a9, a10⟩, hi, hz⟩ := h
  have nv : ∀ a, vis a = true → a ≠ y := fun a ha q => by rw [q, hv] at ha; cases ha
  have uq : ∀ j, j < en → va_up qn en y j = qn j := fun j hj => up_ne (by omega)
  have uv : ∀ a, vis a = true → va_up vis y true a = true := fun a ha => by rw [up_ne (nv a ha)]; exact ha
  have ul : ∀ a, vis a = true → va_up lev y (lev (qn i) + 1) a = lev a := fun a ha => up_ne (nv a ha)
  have vi := (a2 i hi).2
  have uqi : va_up qn en y i = qn i := uq i hi
  refine ⟨⟨?_, fun j hj => ?_, fun a ha hva => ?_, ⟨a4.1, uv _ a4.2.1, by rw [ul _ a4.2.1]; exact a4.2.2⟩, fun a ha hva hn => ?_, fun j k h1 h2 => ?_, fun _ k hk => ?_, fun j hj hj2 z hz1 hz2 => ?_, fun k hk => ?_, by omega⟩, by omega, fun z hz1 hz2 => ?_⟩
  · rw [a1]; exact cntV_up hy hv
  · by_cases hj2 : j = en
    · subst hj2; rw [up_self, up_self]; exact ⟨hy, rfl⟩
    · rw [uq j (by omega)]; exact ⟨(a2 j (by omega)).1, uv _ (a2 j (by omega)).2⟩
  · by_cases hay : a = y
    · exact ⟨en, by omega, by rw [up_self, hay]⟩
    · rw [up_ne hay] at hva
      obtain ⟨j, j1, j2⟩ := a3 a ha hva
      exact ⟨j, by omega, by rw [uq j j1]; exact j2⟩
  · by_cases hay : a = y
    · subst hay
      rw [up_self, up_self, ul _ vi]
      exact ⟨(a2 i hi).1, uv _ vi, he, rfl⟩
    · rw [up_ne hay] at hva
      obtain ⟨b1, b2, b3, b4⟩ := a5 a ha hva hn
      rw [up_ne hay, up_ne hay, ul _ b2]
      exact ⟨b1, uv _ b2, b3, b4⟩
  · by_cases hk : k = en
    · subst hk
      rw [up_self, up_self]
      by_cases hj : j = k
      · subst hj; rw [up_self, up_self]; exact Nat.le_refl _
      · rw [uq j (by omega), ul _ (a2 j (by omega)).2]
        exact a7 hi j (by omega)
    · rw [uq j (by omega), uq k (by omega), ul _ (a2 j (by omega)).2, ul _ (a2 k (by omega)).2]
      exact a6 j k h1 (by omega)
  · rw [uqi, ul _ vi]
    by_cases hk2 : k = en
    · subst hk2; rw [up_self, up_self]; exact Nat.le_refl _
    · rw [uq k (by omega), ul _ (a2 k (by omega)).2]
      exact a7 hi k (by omega)
  · have hje : j < en := by omega
    rw [uq j hje] at hz2 ⊢
    obtain ⟨c1, c2⟩ := a8 j hj hje z hz1 hz2
    rw [ul _ c1, ul _ (a2 j hje).2]
    exact ⟨uv _ c1, c2⟩
  · by_cases hk2 : k = en
    · subst hk2; rw [up_self, up_self]
      have := a9 i hi
      omega
    · rw [uq k (by omega), ul _ (a2 k (by omega)).2]
      exact a9 k (by omega)
  · rw [uqi] at hz2 ⊢
    rw [ul _ vi]
    by_cases hzy : z = y
    · subst hzy; rw [up_self, up_self]; exact ⟨rfl, Nat.le_refl _⟩
    · obtain ⟨c1, c2⟩ := hz z (by omega) hz2
      rw [ul _ c1]
      exact ⟨uv _ c1, c2⟩
/-- what a finished search says -/
def bfsE (Ed : Nat → Nat → Prop) (s0 : Nat) (vis : Nat → Bool) (lev pr : Nat → Nat) : Prop :=
  (s0 < 12 ∧ vis s0 = true ∧ lev s0 = 0) ∧ (∀ a, a < 12 → vis a = true → a ≠ s0 → pr a < 12 ∧ vis (pr a) = true ∧ Ed (pr a) a ∧ lev a = lev (pr a) + 1) ∧
  (∀ a, a < 12 → vis a = true → lev a ≤ 11) ∧ (∀ a, a < 12 → vis a = true → ∀ z, z < 12 → Ed a z → vis z = true ∧ lev z ≤ lev a + 1)
theorem bfs_done (h : bfsI Ed s0 vis qn lev pr i en) (hi : en ≤ i) : bfsE Ed s0 vis lev pr := by
  have he := bfs_en h
  obtain ⟨a1, a2, a3, a4, a5, a6, a7, a8, a9, a10⟩ := h
  refine ⟨a4, a5, fun a ha hv => ?_, fun a ha hv z hz1 hz2 => ?_⟩
  · obtain ⟨j, j1, j2⟩ := a3 a ha hv
    have := a9 j j1
    rw [j2] at this
    omega
  · obtain ⟨j, j1, j2⟩ := a3 a ha hv
    have := a8 j (by omega) j1 z hz1
    rw [j2] at this
    exact this hz2
/-- a set that no edge leaves and that doesn't hold the start holds nothing of what was found ('edges' of the search run against it) -/
theorem bfs_apart {C : Nat → Prop} (h : bfsE Ed s0 vis lev pr) (h0 : ¬ C s0) (hC : ∀ a b, a < 12 → b < 12 → Ed a b → C b → C a) : ∀ n a, a < 12 → vis a = true → lev a ≤ n → ¬ C a := by
  intro n
  induction n with
  | zero =>
    intro a ha hv hl hc
    by_cases hn : a = s0
    · subst hn; exact h0 hc
    · have := (h.2.1 a ha hv hn).2.2.2; omega
  | succ n ih =>
    intro a ha hv hl hc
    by_cases hn : a = s0
    · subst hn; exact h0 hc
    · obtain ⟨b1, b2, b3, b4⟩ := h.2.1 a ha hv hn
      exact ih (pr a) b1 b2 (by omega) (hC _ _ b1 ha b3 hc)
end BFS
end
section
/-- an edge with room from x to y, as the search sees it -/
def edF (N : Nat) (fr : Nat → Int32) (x y : Nat) : Prop := (y < N ∨ 10 ≤ y) ∧ ¬ fr (x * 12 + y) ≤ 0
/-- cameFrom by what was visited and each node's forerunner -/
def lkC (fc : Nat → Int32) (vis : Nat → Bool) (pr : Nat → Nat) : Prop := ∀ a, a < 12 → (vis a = true → fc a = nI (pr a) ∧ pr a < 12) ∧ (vis a = false → fc a < 0)
def lkQ (fq : Nat → Int32) (qn : Nat → Nat) (en : Nat) : Prop := ∀ j, j < en → fq j = nI (qn j)
theorem lkC_vis {fc : Nat → Int32} {vis : Nat → Bool} {pr : Nat → Nat} {y : Nat} (h : lkC fc vis pr) (hy : y < 12) (q : 0 ≤ fc y) : vis y = true := by
  cases hv : vis y with
  | true => rfl
  | false => exact absurd ((h y hy).2 hv) (Int32.not_lt.mpr q)
theorem lkC_nvis {fc : Nat → Int32} {vis : Nat → Bool} {pr : Nat → Nat} {y : Nat} (h : lkC fc vis pr) (hy : y < 12) (q : ¬ 0 ≤ fc y) : vis y = false := by
  cases hv : vis y with
  | false => rfl
  | true =>
    obtain ⟨a, b⟩ := (h y hy).1 hv
    rw [a] at q
    exact absurd (nI_pos' (by omega)) q
theorem lkC_push {fc : Nat → Int32} {vis : Nat → Bool} {pr : Nat → Nat} {x y : Nat} (h : lkC fc vis pr) (hx : x < 12) : lkC (upd fc y (nI x)) (va_up vis y true) (va_up pr y x) := by
  intro a ha
  by_cases he : a = y
  · subst he; rw [up_self, up_self]; exact ⟨fun _ => ⟨pk_us, hx⟩, fun q => by cases q⟩
  · rw [up_ne he, up_ne he, pk_un he]; exact h a ha
theorem lkQ_push {fq : Nat → Int32} {qn : Nat → Nat} {en y : Nat} (h : lkQ fq qn en) : lkQ (upd fq en (nI y)) (va_up qn en y) (en + 1) := by
  intro j hj
  by_cases he : j = en
  · subst he; rw [up_self]; exact pk_us
  · rw [up_ne he, pk_un he]; exact h j (by omega)
def fwP (N : Nat) (fr fc : Nat → Int32) (r : Int32) : Prop := ∃ (vis : Nat → Bool) (lev pr : Nat → Nat), bfsE (edF N fr) 10 vis lev pr ∧ lkC fc vis pr ∧ ((vis 11 = true ∧ r = nI 1) ∨ (vis 11 = false ∧ r = nI 0))
set_option maxHeartbeats 4000000 in
set_option maxRecDepth 100000 in
theorem lp_fw0 {p : Program} {l : Launch} {e : Env} {s : State} {m : MethodId} {args : Array Value} {below : List Frame} {meth : Method} {c : Code} {Q : State → Prop} {g : GD} {A : Nat → Prop} {H0 : Heap} (X : CallFix p m c b_D_findWay 5 s args tb R_D) {N : Nat} {cs bt bb bs : Int32} {fp fe fm fr fb : Nat → Int32} {fq : Nat → Int32} (K0 : ∀ (fc : Nat → Int32) (H : Heap) (locs : List Loc) (ls : Array Slot), WD g A H0 (nI N, fp, fe, fm, fr, fc, fq, fb, cs, bt, bb, bs) s H locs → (∀ a, a < 12 → fc a = (-1)) → lv_has ls 5 [(0, .ref (g.2.1 0))] → W p l e rm_D_findWay s m args below meth c H locs 0 0 Q (F0 m 21 ls [])) :
    ∀ (k i : Nat) (fc : Nat → Int32) (H : Heap) (locs : List Loc) (ls : Array Slot), i + k = 12 → WD g A H0 (nI N, fp, fe, fm, fr, fc, fq, fb, cs, bt, bb, bs) s H locs → (∀ a, a < i → fc a = (-1)) → lv_has ls 5 [(0, .ref (g.2.1 0)), (1, .int (nI i))] → W p l e rm_D_findWay s m args below meth c H locs 0 0 Q (F0 m 2 ls []) := by
  obtain ⟨hx, hb, hml, hown, htl⟩ := id X
  have htw : ∀ n : Nat, n ≤ 100000 → n < 2 ^ 31 := fun n h => by omega
  intro k
  induction k with
  | zero =>
    intro i fc H locs ls hk h hi hl
    refine lv_iload_n hx hb d_D_findWay_2 rfl (lv_at hl 1 rfl) ?_
    refine lv_bipush (v := nI 12) hx hb d_D_findWay_3 (by decide) ?_
    refine n_icmp_ge (tgt := 21) hx hb (by omega) (by omega) d_D_findWay_5 (by decide) (fun c5 => ?_) (fun c5 => ?_)
    · exact K0 _ _ _ _ h (fun a ha => hi a (by omega)) (lv_sub hl [0] rfl)
    · exact absurd c5 (by omega)
  | succ k ih =>
    intro i fc H locs ls hk h hi hl
    refine lv_iload_n hx hb d_D_findWay_2 rfl (lv_at hl 1 rfl) ?_
    refine lv_bipush (v := nI 12) hx hb d_D_findWay_3 (by decide) ?_
    refine n_icmp_ge (tgt := 21) hx hb (by omega) (by omega) d_D_findWay_5 (by decide) (fun c5 => ?_) (fun c5 => ?_)
    · exact absurd c5 (by omega)
    · refine lv_aload_n hx hb d_D_findWay_8 rfl (lv_at hl 0 rfl) ?_
      refine gD_cameFrom X h.1 d_D_findWay_9 ?_
      refine lv_iload_n hx hb d_D_findWay_12 rfl (lv_at hl 1 rfl) ?_
      refine lv_iconst (v := (-1)) hx hb d_D_findWay_13 (by decide) ?_
      refine st_fc (i := i) X h (by omega) d_D_findWay_14 (fun H locs h => ?_)
      refine lv_iinc (v := nI (i + 1)) (lv' := [(1, .int (nI (i + 1))), (0, .ref (g.2.1 0))]) hx hb d_D_findWay_15 hl (k := 1) rfl (inc1 i) (by decide) rfl (fun ls hl => ?_)
      refine lv_goto (tgt := 2) hx hb d_D_findWay_18 (by decide) ?_
      exact ih _ _ _ _ _ (by omega) h (fun a ha => by
        by_cases he : a = i
        · rw [he]; exact pk_us
        · rw [pk_un he]; exact hi a (by omega))
        (lv_sub hl [1, 0] rfl)

set_option maxHeartbeats 4000000 in
set_option maxRecDepth 100000 in
theorem lp_fw_in {p : Program} {l : Launch} {e : Env} {s : State} {m : MethodId} {args : Array Value} {below : List Frame} {meth : Method} {c : Code} {Q : State → Prop} {g : GD} {A : Nat → Prop} {H0 : Heap} (X : CallFix p m c b_D_findWay 5 s args tb R_D) {N : Nat} (hN : N ≤ 10) {cs bt bb bs : Int32} {fp fe fm fr fb : Nat → Int32} {i x : Nat} (hx12 : x < 12) (K0 : ∀ (vis : Nat → Bool) (qn lev pr : Nat → Nat) (en : Nat) (fc fq : Nat → Int32) (H : Heap) (locs : List Loc) (ls : Array Slot), bfsJ (edF N fr) 10 vis qn lev pr i en 12 → lkC fc vis pr → lkQ fq qn en → WD g A H0 (nI N, fp, fe, fm, fr, fc, fq, fb, cs, bt, bb, bs) s H locs → lv_has ls 5 [(0, .ref (g.2.1 0)), (1, .int (nI en)), (2, .int (nI i))] → W p l e rm_D_findWay s m args below meth c H locs 0 0 Q (F0 m 129 ls [])) :
    ∀ (k y : Nat) (vis : Nat → Bool) (qn lev pr : Nat → Nat) (en : Nat) (fc fq : Nat → Int32) (H : Heap) (locs : List Loc) (ls : Array Slot), y + k = 12 → qn i = x → bfsJ (edF N fr) 10 vis qn lev pr i en y → lkC fc vis pr → lkQ fq qn en → WD g A H0 (nI N, fp, fe, fm, fr, fc, fq, fb, cs, bt, bb, bs) s H locs → lv_has ls 5 [(0, .ref (g.2.1 0)), (1, .int (nI en)), (2, .int (nI i)), (3, .int (nI x)), (4, .int (nI y))] → W p l e rm_D_findWay s m args below meth c H locs 0 0 Q (F0 m 63 ls []) := by
  obtain ⟨hx, hb, hml, hown, htl⟩ := id X
  have htw : ∀ n : Nat, n ≤ 100000 → n < 2 ^ 31 := fun n h => by omega
  intro k
  induction k with
  | zero =>
    intro y vis qn lev pr en fc fq H locs ls hk hxq hJ hC hQ h hl
    have hen12 := bfs_en hJ.1
    have hie := hJ.2.1
    refine lv_iload hx hb d_D_findWay_63 (lv_at hl 4 rfl) ?_
    refine lv_bipush (v := nI 12) hx hb d_D_findWay_65 (by decide) ?_
    refine n_icmp_ge (tgt := 129) hx hb (by omega) (by omega) d_D_findWay_67 (by decide) (fun c67 => ?_) (fun c67 => ?_)
    · obtain rfl : y = 12 := by omega
      exact K0 _ _ _ _ _ _ _ _ _ _ hJ hC hQ h (lv_sub hl [0, 1, 2] rfl)
    · exact absurd c67 (by omega)
  | succ k ih =>
    intro y vis qn lev pr en fc fq H locs ls hk hxq hJ hC hQ h hl
    have hen12 := bfs_en hJ.1
    have hie := hJ.2.1
    refine lv_iload hx hb d_D_findWay_63 (lv_at hl 4 rfl) ?_
    refine lv_bipush (v := nI 12) hx hb d_D_findWay_65 (by decide) ?_
    refine n_icmp_ge (tgt := 129) hx hb (by omega) (by omega) d_D_findWay_67 (by decide) (fun c67 => ?_) (fun c67 => ?_)
    · exact absurd c67 (by omega)
    · refine lv_aload_n hx hb d_D_findWay_70 rfl (lv_at hl 0 rfl) ?_
      refine lv_iload hx hb d_D_findWay_71 (lv_at hl 4 rfl) ?_
      refine callRD (rest := []) X hl.1 (c_D_isNode l g hN (y := y) (by omega)) e_ml_D_D_isNode e_im_D_isNode e_se_D_isNode e_co_D_isNode hd_D_isNode ⟨rfl, rfl⟩ ⟨Nat.le_of_ble_eq_true rfl, Nat.le_of_ble_eq_true rfl⟩ h.1 rfl rfl (Nat.le_of_ble_eq_true rfl) ⟨Nat.zero_le _, Nat.zero_le _⟩ d_D_findWay_73 (fun r73 hr73 => ?_)
      rcases hr73 with ⟨nd, rfl⟩ | ⟨nd, rfl⟩
      · refine lv_if_eq (tgt := 123) hx hb d_D_findWay_76 (by decide) (fun c76 => ?_) (fun c76 => ?_)
        · exact absurd c76 (by decide)
        · refine lv_aload_n hx hb d_D_findWay_79 rfl (lv_at hl 0 rfl) ?_
          refine gD_cameFrom X h.1 d_D_findWay_80 ?_
          refine lv_iload hx hb d_D_findWay_83 (lv_at hl 4 rfl) ?_
          refine ld_fc (i := y) X h.1 (by omega) d_D_findWay_85 ?_
          refine lv_if_ge (tgt := 123) hx hb d_D_findWay_86 (by decide) (fun c86 => ?_) (fun c86 => ?_)
          · refine lv_iinc (v := nI (y + 1)) (lv' := [(4, .int (nI (y + 1))), (0, .ref (g.2.1 0)), (1, .int (nI en)), (2, .int (nI i)), (3, .int (nI x))]) hx hb d_D_findWay_123 hl (k := 4) rfl (inc1 y) (by decide) rfl (fun ls hl => ?_)
            refine lv_goto (tgt := 63) hx hb d_D_findWay_126 (by decide) ?_
            exact ih _ _ _ _ _ _ _ _ _ _ _ (by omega) hxq (bfs_skip hJ (by omega) (by first | exact Or.inl (fun q => nd q.1) | exact Or.inl (fun q => q.2 (by rw [hxq]; exact c101)) | exact Or.inr (lkC_vis hC (by omega) c86))) hC hQ h (lv_sub hl [1, 2, 3, 4, 0] rfl)
          · refine lv_aload_n hx hb d_D_findWay_89 rfl (lv_at hl 0 rfl) ?_
            refine gD_residual X h.1 d_D_findWay_90 ?_
            refine lv_iload_n hx hb d_D_findWay_93 rfl (lv_at hl 3 rfl) ?_
            refine lv_bipush (v := nI 12) hx hb d_D_findWay_94 (by decide) ?_
            refine n_imul hx hb d_D_findWay_96 ?_
            refine lv_iload hx hb d_D_findWay_97 (lv_at hl 4 rfl) ?_
            refine n_iadd hx hb d_D_findWay_99 ?_
            refine ld_fr (i := x * 12 + y) X h.1 (by omega) d_D_findWay_100 ?_
            refine lv_if_le (tgt := 123) hx hb d_D_findWay_101 (by decide) (fun c101 => ?_) (fun c101 => ?_)
            · refine lv_iinc (v := nI (y + 1)) (lv' := [(4, .int (nI (y + 1))), (0, .ref (g.2.1 0)), (1, .int (nI en)), (2, .int (nI i)), (3, .int (nI x))]) hx hb d_D_findWay_123 hl (k := 4) rfl (inc1 y) (by decide) rfl (fun ls hl => ?_)
              refine lv_goto (tgt := 63) hx hb d_D_findWay_126 (by decide) ?_
              exact ih _ _ _ _ _ _ _ _ _ _ _ (by omega) hxq (bfs_skip hJ (by omega) (by first | exact Or.inl (fun q => nd q.1) | exact Or.inl (fun q => q.2 (by rw [hxq]; exact c101)) | exact Or.inr (lkC_vis hC (by omega) c86))) hC hQ h (lv_sub hl [1, 2, 3, 4, 0] rfl)
            · have hvf : vis y = false := lkC_nvis hC (by omega) c86
              have hen := bfs_room hJ.1 (show y < 12 by omega) hvf
              refine lv_aload_n hx hb d_D_findWay_104 rfl (lv_at hl 0 rfl) ?_
              refine gD_cameFrom X h.1 d_D_findWay_105 ?_
              refine lv_iload hx hb d_D_findWay_108 (lv_at hl 4 rfl) ?_
              refine lv_iload_n hx hb d_D_findWay_110 rfl (lv_at hl 3 rfl) ?_
              refine st_fc (i := y) X h (by omega) d_D_findWay_111 (fun H locs h => ?_)
              refine lv_aload_n hx hb d_D_findWay_112 rfl (lv_at hl 0 rfl) ?_
              refine gD_queue X h.1 d_D_findWay_113 ?_
              refine lv_iload_n hx hb d_D_findWay_116 rfl (lv_at hl 1 rfl) ?_
              refine lv_iload hx hb d_D_findWay_117 (lv_at hl 4 rfl) ?_
              refine st_fq (i := en) X h (by omega) d_D_findWay_119 (fun H locs h => ?_)
              refine lv_iinc (v := nI (en + 1)) (lv' := [(1, .int (nI (en + 1))), (0, .ref (g.2.1 0)), (2, .int (nI i)), (3, .int (nI x)), (4, .int (nI y))]) hx hb d_D_findWay_120 hl (k := 1) rfl (inc1 en) (by decide) rfl (fun ls hl => ?_)
              refine lv_iinc (v := nI (y + 1)) (lv' := [(4, .int (nI (y + 1))), (1, .int (nI (en + 1))), (0, .ref (g.2.1 0)), (2, .int (nI i)), (3, .int (nI x))]) hx hb d_D_findWay_123 hl (k := 4) rfl (inc1 y) (by decide) rfl (fun ls hl => ?_)
              refine lv_goto (tgt := 63) hx hb d_D_findWay_126 (by decide) ?_
              exact ih _ _ _ _ _ _ _ _ _ _ _ (by omega) (by rw [up_ne (by have := hJ.2.1; omega)]; exact hxq) (by have q := bfs_push hJ (by omega) hvf ⟨nd, by rw [hxq]; exact c101⟩; rw [hxq] at q; exact q) (lkC_push hC hx12) (lkQ_push hQ) h (lv_sub hl [2, 1, 3, 4, 0] rfl)
      · refine lv_if_eq (tgt := 123) hx hb d_D_findWay_76 (by decide) (fun c76 => ?_) (fun c76 => ?_)
        · refine lv_iinc (v := nI (y + 1)) (lv' := [(4, .int (nI (y + 1))), (0, .ref (g.2.1 0)), (1, .int (nI en)), (2, .int (nI i)), (3, .int (nI x))]) hx hb d_D_findWay_123 hl (k := 4) rfl (inc1 y) (by decide) rfl (fun ls hl => ?_)
          refine lv_goto (tgt := 63) hx hb d_D_findWay_126 (by decide) ?_
          exact ih _ _ _ _ _ _ _ _ _ _ _ (by omega) hxq (bfs_skip hJ (by omega) (by first | exact Or.inl (fun q => nd q.1) | exact Or.inl (fun q => q.2 (by rw [hxq]; exact c101)) | exact Or.inr (lkC_vis hC (by omega) c86))) hC hQ h (lv_sub hl [1, 2, 3, 4, 0] rfl)
        · exact absurd c76 (by decide)

set_option maxHeartbeats 4000000 in
set_option maxRecDepth 100000 in
theorem lp_fw {p : Program} {l : Launch} {e : Env} {s : State} {m : MethodId} {args : Array Value} {below : List Frame} {meth : Method} {c : Code} {Q : State → Prop} {g : GD} {A : Nat → Prop} {H0 : Heap} (X : CallFix p m c b_D_findWay 5 s args tb R_D) {N : Nat} (hN : N ≤ 10) {cs bt bb bs : Int32} {fp fe fm fr fb : Nat → Int32} (K0 : ∀ (vis : Nat → Bool) (lev pr : Nat → Nat) (fc fq : Nat → Int32) (H : Heap) (locs : List Loc) (ls : Array Slot), bfsE (edF N fr) 10 vis lev pr → lkC fc vis pr → WD g A H0 (nI N, fp, fe, fm, fr, fc, fq, fb, cs, bt, bb, bs) s H locs → lv_has ls 5 [(0, .ref (g.2.1 0))] → W p l e rm_D_findWay s m args below meth c H locs 0 0 Q (F0 m 135 ls [])) :
    ∀ (k i : Nat) (vis : Nat → Bool) (qn lev pr : Nat → Nat) (en : Nat) (fc fq : Nat → Int32) (H : Heap) (locs : List Loc) (ls : Array Slot), 12 ≤ i + k → bfsI (edF N fr) 10 vis qn lev pr i en → lkC fc vis pr → lkQ fq qn en → WD g A H0 (nI N, fp, fe, fm, fr, fc, fq, fb, cs, bt, bb, bs) s H locs → lv_has ls 5 [(0, .ref (g.2.1 0)), (1, .int (nI en)), (2, .int (nI i))] → W p l e rm_D_findWay s m args below meth c H locs 0 0 Q (F0 m 42 ls []) := by
  obtain ⟨hx, hb, hml, hown, htl⟩ := id X
  have htw : ∀ n : Nat, n ≤ 100000 → n < 2 ^ 31 := fun n h => by omega
  intro k
  induction k with
  | zero =>
    intro i vis qn lev pr en fc fq H locs ls hk hI hC hQ h hl
    have hen12 := bfs_en hI
    have hie := hI.2.2.2.2.2.2.2.2.2
    refine lv_iload_n hx hb d_D_findWay_42 rfl (lv_at hl 2 rfl) ?_
    refine lv_iload_n hx hb d_D_findWay_43 rfl (lv_at hl 1 rfl) ?_
    refine n_icmp_ge (tgt := 135) hx hb (by omega) (by omega) d_D_findWay_44 (by decide) (fun c44 => ?_) (fun c44 => ?_)
    · exact K0 _ _ _ _ _ _ _ _ (bfs_done hI (by omega)) hC h (lv_sub hl [0] rfl)
    · exact absurd c44 (by omega)
  | succ k ih =>
    intro i vis qn lev pr en fc fq H locs ls hk hI hC hQ h hl
    have hen12 := bfs_en hI
    have hie := hI.2.2.2.2.2.2.2.2.2
    refine lv_iload_n hx hb d_D_findWay_42 rfl (lv_at hl 2 rfl) ?_
    refine lv_iload_n hx hb d_D_findWay_43 rfl (lv_at hl 1 rfl) ?_
    refine n_icmp_ge (tgt := 135) hx hb (by omega) (by omega) d_D_findWay_44 (by decide) (fun c44 => ?_) (fun c44 => ?_)
    · exact K0 _ _ _ _ _ _ _ _ (bfs_done hI (by omega)) hC h (lv_sub hl [0] rfl)
    · refine lv_iload_n hx hb d_D_findWay_47 rfl (lv_at hl 2 rfl) ?_
      refine lv_bipush (v := nI 12) hx hb d_D_findWay_48 (by decide) ?_
      refine n_icmp_ge (tgt := 135) hx hb (by omega) (by omega) d_D_findWay_50 (by decide) (fun c50 => ?_) (fun c50 => ?_)
      · exact K0 _ _ _ _ _ _ _ _ (bfs_done hI (by omega)) hC h (lv_sub hl [0] rfl)
      · refine lv_aload_n hx hb d_D_findWay_53 rfl (lv_at hl 0 rfl) ?_
        refine gD_queue X h.1 d_D_findWay_54 ?_
        refine lv_iload_n hx hb d_D_findWay_57 rfl (lv_at hl 2 rfl) ?_
        refine ld_fq (i := i) X h.1 (by omega) d_D_findWay_58 ?_
        refine tp_i (y := nI (qn i)) (hQ i (by omega)) ?_
        refine lv_istore_n (lv' := [(3, .int (nI (qn i))), (0, .ref (g.2.1 0)), (1, .int (nI en)), (2, .int (nI i))]) hx hb d_D_findWay_59 rfl hl (by decide) rfl (fun ls hl => ?_)
        refine lv_iconst (v := nI 0) hx hb d_D_findWay_60 (by decide) ?_
        refine lv_istore (lv' := [(4, .int (nI 0)), (3, .int (nI (qn i))), (0, .ref (g.2.1 0)), (1, .int (nI en)), (2, .int (nI i))]) hx hb d_D_findWay_61 hl (by decide) rfl (fun ls hl => ?_)
        refine lp_fw_in X hN (i := i) (x := qn i) (hI.2.1 i (by omega)).1 (fun vis qn lev pr en fc fq H locs ls hJ hC hQ h hl => ?_) 12 0 _ _ _ _ _ _ _ _ _ _ (by omega) rfl (bfs_in hI (by omega)) hC hQ h (lv_sub hl [2, 3, 4, 1, 0] rfl)
        refine lv_iinc (v := nI (i + 1)) (lv' := [(2, .int (nI (i + 1))), (0, .ref (g.2.1 0)), (1, .int (nI en))]) hx hb d_D_findWay_129 hl (k := 2) rfl (inc1 i) (by decide) rfl (fun ls hl => ?_)
        refine lv_goto (tgt := 42) hx hb d_D_findWay_132 (by decide) ?_
        exact ih _ _ _ _ _ _ _ _ _ _ _ (by omega) (bfs_next hJ) hC hQ h (lv_sub hl [1, 2, 0] rfl)

set_option maxHeartbeats 4000000 in
set_option maxRecDepth 100000 in
theorem c_D_findWay (l : Launch) (g : GD) {N : Nat} (hN : N ≤ 10) {cs bt bb bs : Int32} {fp fe fm fr fc fq fb : Nat → Int32} : CWD l y_D_findWay (.code y_D_findWay b_D_findWay 5 (some .boolean)) rm_D_findWay g (nI N, fp, fe, fm, fr, fc, fq, fb, cs, bt, bb, bs) [] (fun r u2 => ∃ fc2 fq2, fwP N fr fc2 r ∧ u2 = (nI N, fp, fe, fm, fr, fc2, fq2, fb, cs, bt, bb, bs)) := by
  refine mkWD (by decide) (Nat.le_of_ble_eq_true rfl) ?_
  intro p e s m below meth c ls X hr hlk h hl
  obtain ⟨hx, hb, hml, hown, htl⟩ := id X
  have hl : lv_has ls 5 [(0, .ref (g.2.1 0))] := hl
  refine lv_iconst (v := nI 0) hx hb d_D_findWay_0 (by decide) ?_
  refine lv_istore_n (lv' := [(1, .int (nI 0)), (0, .ref (g.2.1 0))]) hx hb d_D_findWay_1 rfl hl (by decide) rfl (fun ls hl => ?_)
  refine lp_fw0 X (fun fc H locs ls h hm1 hl => ?_) 12 0 _ _ _ _ (by omega) h lt_0 (lv_sub hl [1, 0] rfl)
  refine lv_aload_n hx hb d_D_findWay_21 rfl (lv_at hl 0 rfl) ?_
  refine gD_cameFrom X h.1 d_D_findWay_22 ?_
  refine lv_bipush (v := nI 10) hx hb d_D_findWay_25 (by decide) ?_
  refine lv_bipush (v := nI 10) hx hb d_D_findWay_27 (by decide) ?_
  refine st_fc (i := 10) X h (by omega) d_D_findWay_29 (fun H locs h => ?_)
  refine lv_aload_n hx hb d_D_findWay_30 rfl (lv_at hl 0 rfl) ?_
  refine gD_queue X h.1 d_D_findWay_31 ?_
  refine lv_iconst (v := nI 0) hx hb d_D_findWay_34 (by decide) ?_
  refine lv_bipush (v := nI 10) hx hb d_D_findWay_35 (by decide) ?_
  refine st_fq (i := 0) X h (by omega) d_D_findWay_37 (fun H locs h => ?_)
  refine lv_iconst (v := nI 1) hx hb d_D_findWay_38 (by decide) ?_
  refine lv_istore_n (lv' := [(1, .int (nI 1)), (0, .ref (g.2.1 0))]) hx hb d_D_findWay_39 rfl hl (by decide) rfl (fun ls hl => ?_)
  refine lv_iconst (v := nI 0) hx hb d_D_findWay_40 (by decide) ?_
  refine lv_istore_n (lv' := [(2, .int (nI 0)), (1, .int (nI 1)), (0, .ref (g.2.1 0))]) hx hb d_D_findWay_41 rfl hl (by decide) rfl (fun ls hl => ?_)
  refine lp_fw X hN (fun vis lev pr fc fq H locs ls hE hC h hl => ?_) 12 0 (fun a => decide (a = 10)) (fun _ => 10) (fun _ => 0) (fun _ => 10) 1 _ _ _ _ _ (by omega) (bfs_0 (by omega) (fun a _ => by simp) rfl rfl) (fun a ha => ?_) (fun j hj => ?_) h (lv_sub hl [2, 1, 0] rfl)
  · refine lv_aload_n hx hb d_D_findWay_135 rfl (lv_at hl 0 rfl) ?_
    refine gD_cameFrom X h.1 d_D_findWay_136 ?_
    refine lv_bipush (v := nI 11) hx hb d_D_findWay_139 (by decide) ?_
    refine ld_fc (i := 11) X h.1 (by omega) d_D_findWay_141 ?_
    refine lv_if_lt (tgt := 149) hx hb d_D_findWay_142 (by decide) (fun c142 => ?_) (fun c142 => ?_)
    · refine lv_iconst (v := nI 0) hx hb d_D_findWay_149 (by decide) ?_
      exact endWDZ X hr hlk nz0 h ⟨_, _, ⟨vis, lev, pr, hE, hC, Or.inr ⟨lkC_nvis hC (by omega) (fun q => absurd c142 (Int32.not_lt.mpr q)), rfl⟩⟩, rfl⟩ d_D_findWay_150
    · refine lv_iconst (v := nI 1) hx hb d_D_findWay_145 (by decide) ?_
      refine lv_goto (tgt := 150) hx hb d_D_findWay_146 (by decide) ?_
      exact endWDZ X hr hlk nz1 h ⟨_, _, ⟨vis, lev, pr, hE, hC, Or.inl ⟨lkC_vis hC (by omega) (Int32.not_lt.mp c142), rfl⟩⟩, rfl⟩ d_D_findWay_150
  · by_cases he : a = 10
    · subst he; exact ⟨fun _ => ⟨pk_us, by omega⟩, fun q => by simp at q⟩
    · exact ⟨fun q => absurd (by simpa using q) he, fun _ => by rw [pk_un he, hm1 a ha]; decide⟩
  · rw [show j = 0 from by omega]; exact pk_us
end
section
/-- the narrowest room on the way pt, and what is sent along it -/
def mnR (fr : Nat → Int32) (pt : Nat → Nat) : Nat → Int32
  | 0 => 2000000
  | i + 1 => if mnR fr pt i ≤ fr (pt (i + 1) * 12 + pt i) then mnR fr pt i else fr (pt (i + 1) * 12 + pt i)
def puS (f : Nat → Int32) (d : Int32) (x y : Nat) : Nat → Int32 := upd (upd f (x * 12 + y) (f (x * 12 + y) - d)) (y * 12 + x) ((upd f (x * 12 + y) (f (x * 12 + y) - d)) (y * 12 + x) + d)
def puR (fr : Nat → Int32) (d : Int32) (pt : Nat → Nat) : Nat → (Nat → Int32)
  | 0 => fr
  | i + 1 => puS (puR fr d pt i) d (pt (i + 1)) (pt i)
/-- pt: the way from the sink back to the source, of L edges -/
def ptP (fc : Nat → Int32) (pt : Nat → Nat) (L : Nat) : Prop := L ≤ 11 ∧ pt 0 = 11 ∧ pt L = 10 ∧ (∀ i, i < L → pt i ≠ 10 ∧ fc (pt i) = nI (pt (i + 1))) ∧ ∀ i, i ≤ L → pt i < 12
set_option maxHeartbeats 4000000 in
set_option maxRecDepth 100000 in
theorem lp_send1 {p : Program} {l : Launch} {e : Env} {s : State} {m : MethodId} {args : Array Value} {below : List Frame} {meth : Method} {c : Code} {Q : State → Prop} {g : GD} {H : Heap} {locs : List Loc} (X : CallFix p m c b_D_send 5 s args tb R_D) {N : Nat} {cs bt bb bs : Int32} {fp fe fm fr fc fq fb : Nat → Int32} (h : RD g (nI N, fp, fe, fm, fr, fc, fq, fb, cs, bt, bb, bs) s H) {pt : Nat → Nat} {L : Nat} (hP : ptP fc pt L) (K0 : ∀ (room : Int32) (ls : Array Slot), room = mnR fr pt L → lv_has ls 5 [(0, .ref (g.2.1 0)), (1, .int room)] → W p l e rm_D_send s m args below meth c H locs 0 0 Q (F0 m 66 ls [])) :
    ∀ (k i : Nat) (room : Int32) (ls : Array Slot), i + k = L → room = mnR fr pt i → lv_has ls 5 [(0, .ref (g.2.1 0)), (1, .int room), (2, .int (nI (pt i))), (3, .int (nI i))] → W p l e rm_D_send s m args below meth c H locs 0 0 Q (F0 m 8 ls []) := by
  obtain ⟨hx, hb, hml, hown, htl⟩ := id X
  have htw : ∀ n : Nat, n ≤ 100000 → n < 2 ^ 31 := fun n h => by omega
  intro k
  induction k with
  | zero =>
    intro i room ls hk hroom hl
    have hb0 := hP.2.2.2.2 i (by omega)
    have hL11 := hP.1
    refine lv_iload_n hx hb d_D_send_8 rfl (lv_at hl 3 rfl) ?_
    refine lv_bipush (v := nI 12) hx hb d_D_send_9 (by decide) ?_
    refine n_icmp_ge (tgt := 66) hx hb (by omega) (by omega) d_D_send_11 (by decide) (fun c11 => ?_) (fun c11 => ?_)
    · exact absurd c11 (by have := hP.1; omega)
    · refine lv_iload_n hx hb d_D_send_14 rfl (lv_at hl 2 rfl) ?_
      refine lv_bipush (v := nI 10) hx hb d_D_send_15 (by decide) ?_
      refine n_icmp_eq (tgt := 66) hx hb (by omega) (by omega) d_D_send_17 (by decide) (fun c17 => ?_) (fun c17 => ?_)
      · obtain rfl : i = L := by omega
        exact K0 _ _ hroom (lv_sub hl [0, 1] rfl)
      · exact absurd (by rw [show i = L from by omega]; exact hP.2.2.1) c17
  | succ k ih =>
    intro i room ls hk hroom hl
    have hb0 := hP.2.2.2.2 i (by omega)
    have hb1 := hP.2.2.2.2 (i + 1) (by omega)
    have hL11 := hP.1
    refine lv_iload_n hx hb d_D_send_8 rfl (lv_at hl 3 rfl) ?_
    refine lv_bipush (v := nI 12) hx hb d_D_send_9 (by decide) ?_
    refine n_icmp_ge (tgt := 66) hx hb (by omega) (by omega) d_D_send_11 (by decide) (fun c11 => ?_) (fun c11 => ?_)
    · exact absurd c11 (by omega)
    · refine lv_iload_n hx hb d_D_send_14 rfl (lv_at hl 2 rfl) ?_
      refine lv_bipush (v := nI 10) hx hb d_D_send_15 (by decide) ?_
      refine n_icmp_eq (tgt := 66) hx hb (by omega) (by omega) d_D_send_17 (by decide) (fun c17 => ?_) (fun c17 => ?_)
      · exact absurd c17 (hP.2.2.2.1 i (by omega)).1
      · refine lv_aload_n hx hb d_D_send_20 rfl (lv_at hl 0 rfl) ?_
        refine gD_cameFrom X h d_D_send_21 ?_
        refine lv_iload_n hx hb d_D_send_24 rfl (lv_at hl 2 rfl) ?_
        refine ld_fc (i := pt i) X h (by omega) d_D_send_25 ?_
        refine tp_i (y := nI (pt (i + 1))) ((hP.2.2.2.1 i (by omega)).2) ?_
        refine lv_istore (lv' := [(4, .int (nI (pt (i + 1)))), (0, .ref (g.2.1 0)), (1, .int room), (2, .int (nI (pt i))), (3, .int (nI i))]) hx hb d_D_send_26 hl (by decide) rfl (fun ls hl => ?_)
        refine lv_aload_n hx hb d_D_send_28 rfl (lv_at hl 1 rfl) ?_
        refine gD_residual X h d_D_send_29 ?_
        refine lv_iload hx hb d_D_send_32 (lv_at hl 0 rfl) ?_
        refine lv_bipush (v := nI 12) hx hb d_D_send_34 (by decide) ?_
        refine n_imul hx hb d_D_send_36 ?_
        refine lv_iload_n hx hb d_D_send_37 rfl (lv_at hl 3 rfl) ?_
        refine n_iadd hx hb d_D_send_38 ?_
        refine ld_fr (i := (pt (i + 1)) * 12 + (pt i)) X h (by omega) d_D_send_39 ?_
        refine lv_iload_n hx hb d_D_send_40 rfl (lv_at hl 2 rfl) ?_
        refine lv_icmp_ge (tgt := 57) hx hb d_D_send_41 (by decide) (fun c41 => ?_) (fun c41 => ?_)
        · refine lv_iload hx hb d_D_send_57 (lv_at hl 0 rfl) ?_
          refine lv_istore_n (lv' := [(2, .int (nI (pt (i + 1)))), (4, .int (nI (pt (i + 1)))), (0, .ref (g.2.1 0)), (1, .int room), (3, .int (nI i))]) hx hb d_D_send_59 rfl hl (by decide) rfl (fun ls hl => ?_)
          refine lv_iinc (v := nI (i + 1)) (lv' := [(3, .int (nI (i + 1))), (2, .int (nI (pt (i + 1)))), (4, .int (nI (pt (i + 1)))), (0, .ref (g.2.1 0)), (1, .int room)]) hx hb d_D_send_60 hl (k := 4) rfl (inc1 i) (by decide) rfl (fun ls hl => ?_)
          refine lv_goto (tgt := 8) hx hb d_D_send_63 (by decide) ?_
          exact ih _ _ _ (by omega) (by rw [mnR, ← hroom]; first | rw [if_pos c41] | rw [if_neg c41]) (lv_sub hl [3, 4, 1, 0] rfl)
        · refine lv_aload_n hx hb d_D_send_44 rfl (lv_at hl 1 rfl) ?_
          refine gD_residual X h d_D_send_45 ?_
          refine lv_iload hx hb d_D_send_48 (lv_at hl 0 rfl) ?_
          refine lv_bipush (v := nI 12) hx hb d_D_send_50 (by decide) ?_
          refine n_imul hx hb d_D_send_52 ?_
          refine lv_iload_n hx hb d_D_send_53 rfl (lv_at hl 3 rfl) ?_
          refine n_iadd hx hb d_D_send_54 ?_
          refine ld_fr (i := (pt (i + 1)) * 12 + (pt i)) X h (by omega) d_D_send_55 ?_
          refine lv_istore_n (lv' := [(1, .int (fr ((pt (i + 1)) * 12 + (pt i)))), (4, .int (nI (pt (i + 1)))), (0, .ref (g.2.1 0)), (2, .int (nI (pt i))), (3, .int (nI i))]) hx hb d_D_send_56 rfl hl (by decide) rfl (fun ls hl => ?_)
          refine lv_iload hx hb d_D_send_57 (lv_at hl 1 rfl) ?_
          refine lv_istore_n (lv' := [(2, .int (nI (pt (i + 1)))), (1, .int (fr ((pt (i + 1)) * 12 + (pt i)))), (4, .int (nI (pt (i + 1)))), (0, .ref (g.2.1 0)), (3, .int (nI i))]) hx hb d_D_send_59 rfl hl (by decide) rfl (fun ls hl => ?_)
          refine lv_iinc (v := nI (i + 1)) (lv' := [(3, .int (nI (i + 1))), (2, .int (nI (pt (i + 1)))), (1, .int (fr ((pt (i + 1)) * 12 + (pt i)))), (4, .int (nI (pt (i + 1)))), (0, .ref (g.2.1 0))]) hx hb d_D_send_60 hl (k := 4) rfl (inc1 i) (by decide) rfl (fun ls hl => ?_)
          refine lv_goto (tgt := 8) hx hb d_D_send_63 (by decide) ?_
          exact ih _ _ _ (by omega) (by rw [mnR, ← hroom]; first | rw [if_pos c41] | rw [if_neg c41]) (lv_sub hl [4, 2, 1, 0] rfl)

set_option maxHeartbeats 4000000 in
set_option maxRecDepth 100000 in
theorem lp_send2 {p : Program} {l : Launch} {e : Env} {s : State} {m : MethodId} {args : Array Value} {below : List Frame} {meth : Method} {c : Code} {Q : State → Prop} {g : GD} {A : Nat → Prop} {H0 : Heap} (X : CallFix p m c b_D_send 5 s args tb R_D) {N : Nat} {cs bt bb bs : Int32} {fp fe fm fr fc fq fb : Nat → Int32} {d : Int32} {pt : Nat → Nat} {L : Nat} (hP : ptP fc pt L) (K0 : ∀ (fz : Nat → Int32) (H : Heap) (locs : List Loc) (ls : Array Slot), fz = puR fr d pt L → WD g A H0 (nI N, fp, fe, fm, fz, fc, fq, fb, cs, bt, bb, bs) s H locs → W p l e rm_D_send s m args below meth c H locs 0 0 Q (F0 m 132 ls [])) :
    ∀ (k i : Nat) (fz : Nat → Int32) (H : Heap) (locs : List Loc) (ls : Array Slot), i + k = L → fz = puR fr d pt i → WD g A H0 (nI N, fp, fe, fm, fz, fc, fq, fb, cs, bt, bb, bs) s H locs → lv_has ls 5 [(0, .ref (g.2.1 0)), (1, .int d), (2, .int (nI (pt i))), (3, .int (nI i))] → W p l e rm_D_send s m args below meth c H locs 0 0 Q (F0 m 71 ls []) := by
  obtain ⟨hx, hb, hml, hown, htl⟩ := id X
  have htw : ∀ n : Nat, n ≤ 100000 → n < 2 ^ 31 := fun n h => by omega
  intro k
  induction k with
  | zero =>
    intro i fz H locs ls hk hz h hl
    have hb0 := hP.2.2.2.2 i (by omega)
    have hL11 := hP.1
    refine lv_iload_n hx hb d_D_send_71 rfl (lv_at hl 3 rfl) ?_
    refine lv_bipush (v := nI 12) hx hb d_D_send_72 (by decide) ?_
    refine n_icmp_ge (tgt := 132) hx hb (by omega) (by omega) d_D_send_74 (by decide) (fun c74 => ?_) (fun c74 => ?_)
    · exact absurd c74 (by have := hP.1; omega)
    · refine lv_iload_n hx hb d_D_send_77 rfl (lv_at hl 2 rfl) ?_
      refine lv_bipush (v := nI 10) hx hb d_D_send_78 (by decide) ?_
      refine n_icmp_eq (tgt := 132) hx hb (by omega) (by omega) d_D_send_80 (by decide) (fun c80 => ?_) (fun c80 => ?_)
      · obtain rfl : i = L := by omega
        exact K0 _ _ _ _ hz h
      · exact absurd (by rw [show i = L from by omega]; exact hP.2.2.1) c80
  | succ k ih =>
    intro i fz H locs ls hk hz h hl
    have hb0 := hP.2.2.2.2 i (by omega)
    have hb1 := hP.2.2.2.2 (i + 1) (by omega)
    have hL11 := hP.1
    refine lv_iload_n hx hb d_D_send_71 rfl (lv_at hl 3 rfl) ?_
    refine lv_bipush (v := nI 12) hx hb d_D_send_72 (by decide) ?_
    refine n_icmp_ge (tgt := 132) hx hb (by omega) (by omega) d_D_send_74 (by decide) (fun c74 => ?_) (fun c74 => ?_)
    · exact absurd c74 (by omega)
    · refine lv_iload_n hx hb d_D_send_77 rfl (lv_at hl 2 rfl) ?_
      refine lv_bipush (v := nI 10) hx hb d_D_send_78 (by decide) ?_
      refine n_icmp_eq (tgt := 132) hx hb (by omega) (by omega) d_D_send_80 (by decide) (fun c80 => ?_) (fun c80 => ?_)
      · exact absurd c80 (hP.2.2.2.1 i (by omega)).1
      · refine lv_aload_n hx hb d_D_send_83 rfl (lv_at hl 0 rfl) ?_
        refine gD_cameFrom X h.1 d_D_send_84 ?_
        refine lv_iload_n hx hb d_D_send_87 rfl (lv_at hl 2 rfl) ?_
        refine ld_fc (i := pt i) X h.1 (by omega) d_D_send_88 ?_
        refine tp_i (y := nI (pt (i + 1))) ((hP.2.2.2.1 i (by omega)).2) ?_
        refine lv_istore (lv' := [(4, .int (nI (pt (i + 1)))), (0, .ref (g.2.1 0)), (1, .int d), (2, .int (nI (pt i))), (3, .int (nI i))]) hx hb d_D_send_89 hl (by decide) rfl (fun ls hl => ?_)
        refine lv_aload_n hx hb d_D_send_91 rfl (lv_at hl 1 rfl) ?_
        refine gD_residual X h.1 d_D_send_92 ?_
        refine lv_iload hx hb d_D_send_95 (lv_at hl 0 rfl) ?_
        refine lv_bipush (v := nI 12) hx hb d_D_send_97 (by decide) ?_
        refine n_imul hx hb d_D_send_99 ?_
        refine lv_iload_n hx hb d_D_send_100 rfl (lv_at hl 3 rfl) ?_
        refine n_iadd hx hb d_D_send_101 ?_
        refine lv_dup2_11 hx hb d_D_send_102 rfl rfl ?_
        refine ld_fr (i := (pt (i + 1)) * 12 + (pt i)) X h.1 (by omega) d_D_send_103 ?_
        refine lv_iload_n hx hb d_D_send_104 rfl (lv_at hl 2 rfl) ?_
        refine lv_isub hx hb d_D_send_105 ?_
        refine st_fr (i := (pt (i + 1)) * 12 + (pt i)) X h (by omega) d_D_send_106 (fun H locs h => ?_)
        refine lv_aload_n hx hb d_D_send_107 rfl (lv_at hl 1 rfl) ?_
        refine gD_residual X h.1 d_D_send_108 ?_
        refine lv_iload_n hx hb d_D_send_111 rfl (lv_at hl 3 rfl) ?_
        refine lv_bipush (v := nI 12) hx hb d_D_send_112 (by decide) ?_
        refine n_imul hx hb d_D_send_114 ?_
        refine lv_iload hx hb d_D_send_115 (lv_at hl 0 rfl) ?_
        refine n_iadd hx hb d_D_send_117 ?_
        refine lv_dup2_11 hx hb d_D_send_118 rfl rfl ?_
        refine ld_fr (i := (pt i) * 12 + (pt (i + 1))) X h.1 (by omega) d_D_send_119 ?_
        refine lv_iload_n hx hb d_D_send_120 rfl (lv_at hl 2 rfl) ?_
        refine lv_iadd hx hb d_D_send_121 ?_
        refine st_fr (i := (pt i) * 12 + (pt (i + 1))) X h (by omega) d_D_send_122 (fun H locs h => ?_)
        refine lv_iload hx hb d_D_send_123 (lv_at hl 0 rfl) ?_
        refine lv_istore_n (lv' := [(2, .int (nI (pt (i + 1)))), (4, .int (nI (pt (i + 1)))), (0, .ref (g.2.1 0)), (1, .int d), (3, .int (nI i))]) hx hb d_D_send_125 rfl hl (by decide) rfl (fun ls hl => ?_)
        refine lv_iinc (v := nI (i + 1)) (lv' := [(3, .int (nI (i + 1))), (2, .int (nI (pt (i + 1)))), (4, .int (nI (pt (i + 1)))), (0, .ref (g.2.1 0)), (1, .int d)]) hx hb d_D_send_126 hl (k := 4) rfl (inc1 i) (by decide) rfl (fun ls hl => ?_)
        refine lv_goto (tgt := 71) hx hb d_D_send_129 (by decide) ?_
        exact ih _ _ _ _ _ (by omega) (by rw [hz]; rfl) h (lv_sub hl [3, 4, 1, 0] rfl)

set_option maxHeartbeats 4000000 in
set_option maxRecDepth 100000 in
theorem c_D_send (l : Launch) (g : GD) {N : Nat} {cs bt bb bs : Int32} {fp fe fm fr fc fq fb : Nat → Int32} {pt : Nat → Nat} {L : Nat} (hP : ptP fc pt L) : CVD l y_D_send (.code y_D_send b_D_send 5 none) rm_D_send g (nI N, fp, fe, fm, fr, fc, fq, fb, cs, bt, bb, bs) [] (fun u2 => u2 = (nI N, fp, fe, fm, puR fr (mnR fr pt L) pt L, fc, fq, fb, cs, bt, bb, bs)) := by
  refine mkVD (by decide) (Nat.le_of_ble_eq_true rfl) ?_
  intro p e s m below meth c ls X hr hlk h hl
  obtain ⟨hx, hb, hml, hown, htl⟩ := id X
  have hl : lv_has ls 5 [(0, .ref (g.2.1 0))] := hl
  refine lv_ldc (v := (2000000)) hx hb hown (htl _ e_k_D_44) d_D_send_0 ?_
  refine lv_istore_n (lv' := [(1, .int ((2000000))), (0, .ref (g.2.1 0))]) hx hb d_D_send_2 rfl hl (by decide) rfl (fun ls hl => ?_)
  refine lv_bipush (v := nI 11) hx hb d_D_send_3 (by decide) ?_
  refine lv_istore_n (lv' := [(2, .int (nI 11)), (1, .int ((2000000))), (0, .ref (g.2.1 0))]) hx hb d_D_send_5 rfl hl (by decide) rfl (fun ls hl => ?_)
  refine lv_iconst (v := nI 0) hx hb d_D_send_6 (by decide) ?_
  refine lv_istore_n (lv' := [(3, .int (nI 0)), (2, .int (nI 11)), (1, .int ((2000000))), (0, .ref (g.2.1 0))]) hx hb d_D_send_7 rfl hl (by decide) rfl (fun ls hl => ?_)
  refine lp_send1 X h.1 hP (fun room ls hroom hl => ?_) L 0 _ _ (by omega) rfl (by rw [hP.2.1]; exact (lv_sub hl [3, 2, 1, 0] rfl))
  refine lv_bipush (v := nI 11) hx hb d_D_send_66 (by decide) ?_
  refine lv_istore_n (lv' := [(2, .int (nI 11)), (0, .ref (g.2.1 0)), (1, .int room)]) hx hb d_D_send_68 rfl hl (by decide) rfl (fun ls hl => ?_)
  refine lv_iconst (v := nI 0) hx hb d_D_send_69 (by decide) ?_
  refine lv_istore_n (lv' := [(3, .int (nI 0)), (2, .int (nI 11)), (0, .ref (g.2.1 0)), (1, .int room)]) hx hb d_D_send_70 rfl hl (by decide) rfl (fun ls hl => ?_)
  refine lp_send2 X hP (fun fz H locs ls hz h => ?_) L 0 _ _ _ _ (by omega) rfl h (by rw [hP.2.1]; exact (lv_sub hl [2, 3, 1, 0] rfl))
  subst hz
  exact endVD X hr hlk h (by rw [hroom]) d_D_send_132
end
section
/-! the network that buildNetwork lays out, place by place -/
def amF (fp : Nat → Int32) (a u v : Nat) (acc : Int32) : Int32 := acc + (nI a) * (fp (u * 10 + v))
def amtI (fp fe : Nat → Int32) (N a b u : Nat) : Int32 := fS (amF fp a u) N 0 ((nI (2 * a)) * (fe u) - nI (2 * b))
def srcI (fp fe fm : Nat → Int32) (N a b u : Nat) : Int32 := if fm u = nI 1 then 1000000 else if amtI fp fe N a b u ≤ 0 then 0 else amtI fp fe N a b u
def snkI (fp fe fm : Nat → Int32) (N a b u : Nat) : Int32 := if fm u = nI 2 then 1000000 else if amtI fp fe N a b u ≤ 0 then - amtI fp fe N a b u else 0
def capI (fp fe fm : Nat → Int32) (N a b x y : Nat) : Int32 := if x < N ∧ y < N then nI a * fp (x * 10 + y) else if x = 10 ∧ y < N then srcI fp fe fm N a b y else if x < N ∧ y = 11 then snkI fp fe fm N a b x else 0
def netO (fp fe fm : Nat → Int32) (N a b u : Nat) (fr : Nat → Int32) : Prop := ∀ x y, x < 12 → y < 12 → ((x < u ∨ (x = 10 ∧ y < u)) → fr (x * 12 + y) = capI fp fe fm N a b x y) ∧ (¬ (x < u ∨ (x = 10 ∧ y < u)) → fr (x * 12 + y) = 0)
def netN (fp fe fm : Nat → Int32) (N a b u v : Nat) (fr : Nat → Int32) : Prop := ∀ x y, x < 12 → y < 12 → ((x < u ∨ (x = 10 ∧ y < u) ∨ (x = u ∧ y < v)) → fr (x * 12 + y) = capI fp fe fm N a b x y) ∧ (¬ (x < u ∨ (x = 10 ∧ y < u) ∨ (x = u ∧ y < v)) → fr (x * 12 + y) = 0)
section NET
variable {fp fe fm fr : Nat → Int32} {N a b u v : Nat}
theorem net_0 (h : ∀ k, k < 144 → fr k = 0) : netO fp fe fm N a b 0 fr := fun x y hx hy => ⟨fun q => by omega, fun _ => h _ (by omega)⟩
theorem net_in (h : netO fp fe fm N a b u fr) : netN fp fe fm N a b u 0 fr := fun x y hx hy => ⟨fun q => (h x y hx hy).1 (by omega), fun q => (h x y hx hy).2 (by omega)⟩
theorem net_v (hN : N ≤ 10) (hu : u < N) (hv : v < N) (h : netN fp fe fm N a b u v fr) : netN fp fe fm N a b u (v + 1) (upd fr (u * 12 + v) (nI a * fp (u * 10 + v))) := fun x y hx hy => by
  by_cases he : x = u ∧ y = v
  · obtain ⟨rfl, rfl⟩ := he
    exact ⟨fun _ => by rw [pk_us]; unfold capI; rw [if_pos ⟨hu, hv⟩], fun q => absurd (Or.inr (Or.inr ⟨rfl, by omega⟩)) q⟩
  · rw [pk_un (by omega)]
    exact ⟨fun q => (h x y hx hy).1 (by omega), fun q => (h x y hx hy).2 (by omega)⟩
theorem net_u {fr2 : Nat → Int32} (hN : N ≤ 10) (hu : u < N) (h : netN fp fe fm N a b u N fr) (h1 : fr2 (120 + u) = srcI fp fe fm N a b u) (h2 : fr2 (u * 12 + 11) = snkI fp fe fm N a b u) (h3 : ∀ k, k ≠ 120 + u → k ≠ u * 12 + 11 → fr2 k = fr k) : netO fp fe fm N a b (u + 1) fr2 := fun x y hx hy => by
  by_cases he : x = 10 ∧ y = u
  · obtain ⟨rfl, rfl⟩ := he
    refine ⟨fun _ => ?_, fun q => absurd (Or.inr ⟨rfl, by omega⟩) q⟩
    rw [show 10 * 12 + y = 120 + y from by omega, h1]
    unfold capI
    rw [if_neg (by omega), if_pos ⟨rfl, hu⟩]
  · by_cases he2 : x = u ∧ y = 11
    · obtain ⟨rfl, rfl⟩ := he2
      refine ⟨fun _ => ?_, fun q => absurd (Or.inl (by omega)) q⟩
      rw [h2]
      unfold capI
      rw [if_neg (by omega), if_neg (by omega), if_pos ⟨hu, rfl⟩]
    · rw [h3 _ (by omega) (by omega)]
      by_cases hxu : x = u
      · subst hxu
        by_cases hyN : y < N
        · exact ⟨fun _ => (h x y hx hy).1 (by omega), fun q => absurd (Or.inl (by omega)) q⟩
        · refine ⟨fun _ => ?_, fun q => absurd (Or.inl (by omega)) q⟩
          rw [(h x y hx hy).2 (by omega)]
          unfold capI
          rw [if_neg (by omega), if_neg (by omega), if_neg (by omega)]
      · exact ⟨fun q => (h x y hx hy).1 (by omega), fun q => (h x y hx hy).2 (by omega)⟩
end NET
set_option maxHeartbeats 4000000 in
set_option maxRecDepth 100000 in
theorem lp_bn0 {p : Program} {l : Launch} {e : Env} {s : State} {m : MethodId} {args : Array Value} {below : List Frame} {meth : Method} {c : Code} {Q : State → Prop} {g : GD} {A : Nat → Prop} {H0 : Heap} (X : CallFix p m c b_D_build 6 s args tb R_D) {N : Nat} (hN : N ≤ 10) {cs bt bb bs : Int32} {fp fe fm fc fq fb : Nat → Int32} {a b : Nat} (ha : a ≤ 20) (hb2 : b ≤ 2000) (K0 : ∀ (fr : Nat → Int32) (H : Heap) (locs : List Loc) (ls : Array Slot), WD g A H0 (nI N, fp, fe, fm, fr, fc, fq, fb, cs, bt, bb, bs) s H locs → (∀ k, k < 144 → fr k = 0) → lv_has ls 6 [(0, .ref (g.2.1 0)), (1, .int (nI a)), (2, .int (nI b))] → W p l e rm_D_build s m args below meth c H locs 0 0 Q (F0 m 22 ls [])) :
    ∀ (k i : Nat) (fr : Nat → Int32) (H : Heap) (locs : List Loc) (ls : Array Slot), i + k = 144 → WD g A H0 (nI N, fp, fe, fm, fr, fc, fq, fb, cs, bt, bb, bs) s H locs → (∀ k, k < i → fr k = 0) → lv_has ls 6 [(0, .ref (g.2.1 0)), (1, .int (nI a)), (2, .int (nI b)), (3, .int (nI i))] → W p l e rm_D_build s m args below meth c H locs 0 0 Q (F0 m 2 ls []) := by
  obtain ⟨hx, hb, hml, hown, htl⟩ := id X
  have htw : ∀ n : Nat, n ≤ 100000 → n < 2 ^ 31 := fun n h => by omega
  intro k
  induction k with
  | zero =>
    intro i fr H locs ls hk h hi hl
    refine lv_iload_n hx hb d_D_build_2 rfl (lv_at hl 3 rfl) ?_
    refine lv_sipush (v := nI 144) hx hb d_D_build_3 (by decide) ?_
    refine n_icmp_ge (tgt := 22) hx hb (by omega) (by omega) d_D_build_6 (by decide) (fun c6 => ?_) (fun c6 => ?_)
    · exact K0 _ _ _ _ h (fun k hk2 => hi k (by omega)) (lv_sub hl [0, 1, 2] rfl)
    · exact absurd c6 (by omega)
  | succ k ih =>
    intro i fr H locs ls hk h hi hl
    refine lv_iload_n hx hb d_D_build_2 rfl (lv_at hl 3 rfl) ?_
    refine lv_sipush (v := nI 144) hx hb d_D_build_3 (by decide) ?_
    refine n_icmp_ge (tgt := 22) hx hb (by omega) (by omega) d_D_build_6 (by decide) (fun c6 => ?_) (fun c6 => ?_)
    · exact absurd c6 (by omega)
    · refine lv_aload_n hx hb d_D_build_9 rfl (lv_at hl 0 rfl) ?_
      refine gD_residual X h.1 d_D_build_10 ?_
      refine lv_iload_n hx hb d_D_build_13 rfl (lv_at hl 3 rfl) ?_
      refine lv_iconst (v := nI 0) hx hb d_D_build_14 (by decide) ?_
      refine st_fr (i := i) X h (by omega) d_D_build_15 (fun H locs h => ?_)
      refine lv_iinc (v := nI (i + 1)) (lv' := [(3, .int (nI (i + 1))), (0, .ref (g.2.1 0)), (1, .int (nI a)), (2, .int (nI b))]) hx hb d_D_build_16 hl (k := 3) rfl (inc1 i) (by decide) rfl (fun ls hl => ?_)
      refine lv_goto (tgt := 2) hx hb d_D_build_19 (by decide) ?_
      exact ih _ _ _ _ _ (by omega) h (fun k hk2 => by
        by_cases he : k = i
        · rw [he]; exact pk_us
        · rw [pk_un he]; exact hi k (by omega))
        (lv_sub hl [1, 2, 3, 0] rfl)

set_option maxHeartbeats 4000000 in
set_option maxRecDepth 100000 in
theorem lp_bn_in {p : Program} {l : Launch} {e : Env} {s : State} {m : MethodId} {args : Array Value} {below : List Frame} {meth : Method} {c : Code} {Q : State → Prop} {g : GD} {A : Nat → Prop} {H0 : Heap} (X : CallFix p m c b_D_build 6 s args tb R_D) {N : Nat} (hN : N ≤ 10) {cs bt bb bs : Int32} {fp fe fm fc fq fb : Nat → Int32} {a b : Nat} (ha : a ≤ 20) (hb2 : b ≤ 2000) {u : Nat} (hu : u < N) :
    ∀ (k v : Nat) (am : Int32) (fr : Nat → Int32) (H : Heap) (locs : List Loc) (ls : Array Slot), v + k = N → netN fp fe fm N a b u v fr → WD g A H0 (nI N, fp, fe, fm, fr, fc, fq, fb, cs, bt, bb, bs) s H locs → lv_has ls 6 [(0, .ref (g.2.1 0)), (1, .int (nI a)), (2, .int (nI b)), (3, .int (nI u)), (4, .int am), (5, .int (nI v))] → (∀ (am2 : Int32) (fr : Nat → Int32) (H : Heap) (locs : List Loc) (ls : Array Slot), am2 = fS (amF fp a u) k v am → netN fp fe fm N a b u N fr → WD g A H0 (nI N, fp, fe, fm, fr, fc, fq, fb, cs, bt, bb, bs) s H locs → lv_has ls 6 [(0, .ref (g.2.1 0)), (1, .int (nI a)), (2, .int (nI b)), (3, .int (nI u)), (4, .int am2)] → W p l e rm_D_build s m args below meth c H locs 0 0 Q (F0 m 111 ls [])) → W p l e rm_D_build s m args below meth c H locs 0 0 Q (F0 m 51 ls []) := by
  obtain ⟨hx, hb, hml, hown, htl⟩ := id X
  have htw : ∀ n : Nat, n ≤ 100000 → n < 2 ^ 31 := fun n h => by omega
  intro k
  induction k with
  | zero =>
    intro v am fr H locs ls hk hn h hl K0
    refine lv_iload hx hb d_D_build_51 (lv_at hl 5 rfl) ?_
    refine lv_aload_n hx hb d_D_build_53 rfl (lv_at hl 0 rfl) ?_
    refine gD_n X h.1 d_D_build_54 ?_
    refine n_icmp_ge (tgt := 111) hx hb (by omega) (by omega) d_D_build_57 (by decide) (fun c57 => ?_) (fun c57 => ?_)
    · obtain rfl : v = N := by omega
      exact K0 _ _ _ _ _ rfl hn h (lv_sub hl [0, 1, 2, 3, 4] rfl)
    · exact absurd c57 (by omega)
  | succ k ih =>
    intro v am fr H locs ls hk hn h hl K0
    refine lv_iload hx hb d_D_build_51 (lv_at hl 5 rfl) ?_
    refine lv_aload_n hx hb d_D_build_53 rfl (lv_at hl 0 rfl) ?_
    refine gD_n X h.1 d_D_build_54 ?_
    refine n_icmp_ge (tgt := 111) hx hb (by omega) (by omega) d_D_build_57 (by decide) (fun c57 => ?_) (fun c57 => ?_)
    · exact absurd c57 (by omega)
    · refine lv_iload hx hb d_D_build_60 (lv_at hl 4 rfl) ?_
      refine lv_iload_n hx hb d_D_build_62 rfl (lv_at hl 1 rfl) ?_
      refine lv_aload_n hx hb d_D_build_63 rfl (lv_at hl 0 rfl) ?_
      refine gD_pair X h.1 d_D_build_64 ?_
      refine lv_iload_n hx hb d_D_build_67 rfl (lv_at hl 3 rfl) ?_
      refine lv_bipush (v := nI 10) hx hb d_D_build_68 (by decide) ?_
      refine n_imul hx hb d_D_build_70 ?_
      refine lv_iload hx hb d_D_build_71 (lv_at hl 5 rfl) ?_
      refine n_iadd hx hb d_D_build_73 ?_
      refine ld_fp (i := u * 10 + v) X h.1 (by omega) d_D_build_74 ?_
      refine lv_imul hx hb d_D_build_75 ?_
      refine lv_iadd hx hb d_D_build_76 ?_
      refine lv_istore (lv' := [(4, .int (am + ((nI a) * (fp (u * 10 + v))))), (0, .ref (g.2.1 0)), (1, .int (nI a)), (2, .int (nI b)), (3, .int (nI u)), (5, .int (nI v))]) hx hb d_D_build_77 hl (by decide) rfl (fun ls hl => ?_)
      refine lv_aload_n hx hb d_D_build_79 rfl (lv_at hl 1 rfl) ?_
      refine gD_residual X h.1 d_D_build_80 ?_
      refine lv_iload_n hx hb d_D_build_83 rfl (lv_at hl 4 rfl) ?_
      refine lv_bipush (v := nI 12) hx hb d_D_build_84 (by decide) ?_
      refine n_imul hx hb d_D_build_86 ?_
      refine lv_iload hx hb d_D_build_87 (lv_at hl 5 rfl) ?_
      refine n_iadd hx hb d_D_build_89 ?_
      refine lv_iload_n hx hb d_D_build_90 rfl (lv_at hl 2 rfl) ?_
      refine lv_aload_n hx hb d_D_build_91 rfl (lv_at hl 1 rfl) ?_
      refine gD_pair X h.1 d_D_build_92 ?_
      refine lv_iload_n hx hb d_D_build_95 rfl (lv_at hl 4 rfl) ?_
      refine lv_bipush (v := nI 10) hx hb d_D_build_96 (by decide) ?_
      refine n_imul hx hb d_D_build_98 ?_
      refine lv_iload hx hb d_D_build_99 (lv_at hl 5 rfl) ?_
      refine n_iadd hx hb d_D_build_101 ?_
      refine ld_fp (i := u * 10 + v) X h.1 (by omega) d_D_build_102 ?_
      refine lv_imul hx hb d_D_build_103 ?_
      refine st_fr (i := u * 12 + v) X h (by omega) d_D_build_104 (fun H locs h => ?_)
      refine lv_iinc (v := nI (v + 1)) (lv' := [(5, .int (nI (v + 1))), (4, .int (am + ((nI a) * (fp (u * 10 + v))))), (0, .ref (g.2.1 0)), (1, .int (nI a)), (2, .int (nI b)), (3, .int (nI u))]) hx hb d_D_build_105 hl (k := 5) rfl (inc1 v) (by decide) rfl (fun ls hl => ?_)
      refine lv_goto (tgt := 51) hx hb d_D_build_108 (by decide) ?_
      exact ih _ _ _ _ _ _ (by omega) (net_v hN hu (by omega) hn) h (lv_sub hl [2, 3, 4, 5, 1, 0] rfl) (fun am2 fr H locs ls he hn h hl => K0 am2 _ _ _ _ (fS_s rfl he) hn h hl)

set_option maxHeartbeats 4000000 in
set_option maxRecDepth 100000 in
theorem lp_bn {p : Program} {l : Launch} {e : Env} {s : State} {m : MethodId} {args : Array Value} {below : List Frame} {meth : Method} {c : Code} {Q : State → Prop} {g : GD} {A : Nat → Prop} {H0 : Heap} (X : CallFix p m c b_D_build 6 s args tb R_D) {N : Nat} (hN : N ≤ 10) {cs bt bb bs : Int32} {fp fe fm fc fq fb : Nat → Int32} {a b : Nat} (ha : a ≤ 20) (hb2 : b ≤ 2000) (K0 : ∀ (fr : Nat → Int32) (H : Heap) (locs : List Loc) (ls : Array Slot), netO fp fe fm N a b N fr → WD g A H0 (nI N, fp, fe, fm, fr, fc, fq, fb, cs, bt, bb, bs) s H locs → W p l e rm_D_build s m args below meth c H locs 0 0 Q (F0 m 196 ls [])) :
    ∀ (k u : Nat) (fr : Nat → Int32) (H : Heap) (locs : List Loc) (ls : Array Slot), u + k = N → netO fp fe fm N a b u fr → WD g A H0 (nI N, fp, fe, fm, fr, fc, fq, fb, cs, bt, bb, bs) s H locs → lv_has ls 6 [(0, .ref (g.2.1 0)), (1, .int (nI a)), (2, .int (nI b)), (3, .int (nI u))] → W p l e rm_D_build s m args below meth c H locs 0 0 Q (F0 m 24 ls []) := by
  obtain ⟨hx, hb, hml, hown, htl⟩ := id X
  have htw : ∀ n : Nat, n ≤ 100000 → n < 2 ^ 31 := fun n h => by omega
  intro k
  induction k with
  | zero =>
    intro u fr H locs ls hk hn h hl
    refine lv_iload_n hx hb d_D_build_24 rfl (lv_at hl 3 rfl) ?_
    refine lv_aload_n hx hb d_D_build_25 rfl (lv_at hl 0 rfl) ?_
    refine gD_n X h.1 d_D_build_26 ?_
    refine n_icmp_ge (tgt := 196) hx hb (by omega) (by omega) d_D_build_29 (by decide) (fun c29 => ?_) (fun c29 => ?_)
    · obtain rfl : u = N := by omega
      exact K0 _ _ _ _ hn h
    · exact absurd c29 (by omega)
  | succ k ih =>
    intro u fr H locs ls hk hn h hl
    refine lv_iload_n hx hb d_D_build_24 rfl (lv_at hl 3 rfl) ?_
    refine lv_aload_n hx hb d_D_build_25 rfl (lv_at hl 0 rfl) ?_
    refine gD_n X h.1 d_D_build_26 ?_
    refine n_icmp_ge (tgt := 196) hx hb (by omega) (by omega) d_D_build_29 (by decide) (fun c29 => ?_) (fun c29 => ?_)
    · exact absurd c29 (by omega)
    · refine lv_iconst (v := nI 2) hx hb d_D_build_32 (by decide) ?_
      refine lv_iload_n hx hb d_D_build_33 rfl (lv_at hl 1 rfl) ?_
      refine n_imul hx hb d_D_build_34 ?_
      refine lv_aload_n hx hb d_D_build_35 rfl (lv_at hl 0 rfl) ?_
      refine gD_extra X h.1 d_D_build_36 ?_
      refine lv_iload_n hx hb d_D_build_39 rfl (lv_at hl 3 rfl) ?_
      refine ld_fe (i := u) X h.1 (by omega) d_D_build_40 ?_
      refine lv_imul hx hb d_D_build_41 ?_
      refine lv_iconst (v := nI 2) hx hb d_D_build_42 (by decide) ?_
      refine lv_iload_n hx hb d_D_build_43 rfl (lv_at hl 2 rfl) ?_
      refine n_imul hx hb d_D_build_44 ?_
      refine lv_isub hx hb d_D_build_45 ?_
      refine lv_istore (lv' := [(4, .int (((nI (2 * a)) * (fe u)) - (nI (2 * b)))), (0, .ref (g.2.1 0)), (1, .int (nI a)), (2, .int (nI b)), (3, .int (nI u))]) hx hb d_D_build_46 hl (by decide) rfl (fun ls hl => ?_)
      refine lv_iconst (v := nI 0) hx hb d_D_build_48 (by decide) ?_
      refine lv_istore (lv' := [(5, .int (nI 0)), (4, .int (((nI (2 * a)) * (fe u)) - (nI (2 * b)))), (0, .ref (g.2.1 0)), (1, .int (nI a)), (2, .int (nI b)), (3, .int (nI u))]) hx hb d_D_build_49 hl (by decide) rfl (fun ls hl => ?_)
      refine lp_bn_in X hN ha hb2 (u := u) (by omega) N 0 _ _ _ _ _ (by omega) (net_in hn) h (lv_sub hl [2, 3, 4, 5, 1, 0] rfl) (fun am fr H locs ls ham hn h hl => ?_)
      have ham : am = amtI fp fe N a b u := ham
      refine lv_iload hx hb d_D_build_111 (lv_at hl 4 rfl) ?_
      refine lv_if_le (tgt := 130) hx hb d_D_build_113 (by decide) (fun c113 => ?_) (fun c113 => ?_)
      · refine lv_aload_n hx hb d_D_build_130 rfl (lv_at hl 0 rfl) ?_
        refine gD_residual X h.1 d_D_build_131 ?_
        refine lv_iload_n hx hb d_D_build_134 rfl (lv_at hl 3 rfl) ?_
        refine lv_bipush (v := nI 12) hx hb d_D_build_135 (by decide) ?_
        refine n_imul hx hb d_D_build_137 ?_
        refine lv_bipush (v := nI 11) hx hb d_D_build_138 (by decide) ?_
        refine n_iadd hx hb d_D_build_140 ?_
        refine lv_iload hx hb d_D_build_141 (lv_at hl 4 rfl) ?_
        refine lv_ineg hx hb d_D_build_143 ?_
        refine st_fr (i := u * 12 + 11) X h (by omega) d_D_build_144 (fun H locs h => ?_)
        refine lv_aload_n hx hb d_D_build_145 rfl (lv_at hl 0 rfl) ?_
        refine gD_modes X h.1 d_D_build_146 ?_
        refine lv_iload_n hx hb d_D_build_149 rfl (lv_at hl 3 rfl) ?_
        refine ld_fm (i := u) X h.1 (by omega) d_D_build_150 ?_
        refine lv_iconst (v := nI 1) hx hb d_D_build_151 (by decide) ?_
        refine lv_icmp_ne (tgt := 166) hx hb d_D_build_152 (by decide) (fun c152 => ?_) (fun c152 => ?_)
        · refine lv_aload_n hx hb d_D_build_166 rfl (lv_at hl 0 rfl) ?_
          refine gD_modes X h.1 d_D_build_167 ?_
          refine lv_iload_n hx hb d_D_build_170 rfl (lv_at hl 3 rfl) ?_
          refine ld_fm (i := u) X h.1 (by omega) d_D_build_171 ?_
          refine lv_iconst (v := nI 2) hx hb d_D_build_172 (by decide) ?_
          refine lv_icmp_ne (tgt := 190) hx hb d_D_build_173 (by decide) (fun c173 => ?_) (fun c173 => ?_)
          · refine lv_iinc (v := nI (u + 1)) (lv' := [(3, .int (nI (u + 1))), (0, .ref (g.2.1 0)), (1, .int (nI a)), (2, .int (nI b)), (4, .int am)]) hx hb d_D_build_190 hl (k := 3) rfl (inc1 u) (by decide) rfl (fun ls hl => ?_)
            refine lv_goto (tgt := 24) hx hb d_D_build_193 (by decide) ?_
            exact ih _ _ _ _ _ (by omega) (net_u hN (by omega) hn (by rw [pk_un (by omega), show 120 + u = 10 * 12 + u from by omega, (hn 10 u (by omega) (by omega)).2 (by omega)]; unfold srcI; rw [if_neg c152, ← ham, if_pos c113]) (by rw [pk_us]; unfold snkI; rw [if_neg c173, ← ham, if_pos c113]) (fun k q1 q2 => by rw [pk_un q2])) h (lv_sub hl [1, 2, 3, 0] rfl)
          · refine lv_aload_n hx hb d_D_build_176 rfl (lv_at hl 0 rfl) ?_
            refine gD_residual X h.1 d_D_build_177 ?_
            refine lv_iload_n hx hb d_D_build_180 rfl (lv_at hl 3 rfl) ?_
            refine lv_bipush (v := nI 12) hx hb d_D_build_181 (by decide) ?_
            refine n_imul hx hb d_D_build_183 ?_
            refine lv_bipush (v := nI 11) hx hb d_D_build_184 (by decide) ?_
            refine n_iadd hx hb d_D_build_186 ?_
            refine lv_ldc (v := (1000000)) hx hb hown (htl _ e_k_D_40) d_D_build_187 ?_
            refine st_fr (i := u * 12 + 11) X h (by omega) d_D_build_189 (fun H locs h => ?_)
            refine lv_iinc (v := nI (u + 1)) (lv' := [(3, .int (nI (u + 1))), (0, .ref (g.2.1 0)), (1, .int (nI a)), (2, .int (nI b)), (4, .int am)]) hx hb d_D_build_190 hl (k := 3) rfl (inc1 u) (by decide) rfl (fun ls hl => ?_)
            refine lv_goto (tgt := 24) hx hb d_D_build_193 (by decide) ?_
            exact ih _ _ _ _ _ (by omega) (net_u hN (by omega) hn (by rw [pk_un (by omega), pk_un (by omega), show 120 + u = 10 * 12 + u from by omega, (hn 10 u (by omega) (by omega)).2 (by omega)]; unfold srcI; rw [if_neg c152, ← ham, if_pos c113]) (by rw [pk_us]; unfold snkI; rw [if_pos c173]) (fun k q1 q2 => by rw [pk_un q2, pk_un q2])) h (lv_sub hl [1, 2, 3, 0] rfl)
        · refine lv_aload_n hx hb d_D_build_155 rfl (lv_at hl 0 rfl) ?_
          refine gD_residual X h.1 d_D_build_156 ?_
          refine lv_bipush (v := nI 120) hx hb d_D_build_159 (by decide) ?_
          refine lv_iload_n hx hb d_D_build_161 rfl (lv_at hl 3 rfl) ?_
          refine n_iadd hx hb d_D_build_162 ?_
          refine lv_ldc (v := (1000000)) hx hb hown (htl _ e_k_D_40) d_D_build_163 ?_
          refine st_fr (i := 120 + u) X h (by omega) d_D_build_165 (fun H locs h => ?_)
          refine lv_aload_n hx hb d_D_build_166 rfl (lv_at hl 0 rfl) ?_
          refine gD_modes X h.1 d_D_build_167 ?_
          refine lv_iload_n hx hb d_D_build_170 rfl (lv_at hl 3 rfl) ?_
          refine ld_fm (i := u) X h.1 (by omega) d_D_build_171 ?_
          refine lv_iconst (v := nI 2) hx hb d_D_build_172 (by decide) ?_
          refine lv_icmp_ne (tgt := 190) hx hb d_D_build_173 (by decide) (fun c173 => ?_) (fun c173 => ?_)
          · refine lv_iinc (v := nI (u + 1)) (lv' := [(3, .int (nI (u + 1))), (0, .ref (g.2.1 0)), (1, .int (nI a)), (2, .int (nI b)), (4, .int am)]) hx hb d_D_build_190 hl (k := 3) rfl (inc1 u) (by decide) rfl (fun ls hl => ?_)
            refine lv_goto (tgt := 24) hx hb d_D_build_193 (by decide) ?_
            exact ih _ _ _ _ _ (by omega) (net_u hN (by omega) hn (by rw [pk_us]; unfold srcI; rw [if_pos c152]) (by rw [pk_un (by omega), pk_us]; unfold snkI; rw [if_neg c173, ← ham, if_pos c113]) (fun k q1 q2 => by rw [pk_un q1, pk_un q2])) h (lv_sub hl [1, 2, 3, 0] rfl)
          · refine lv_aload_n hx hb d_D_build_176 rfl (lv_at hl 0 rfl) ?_
            refine gD_residual X h.1 d_D_build_177 ?_
            refine lv_iload_n hx hb d_D_build_180 rfl (lv_at hl 3 rfl) ?_
            refine lv_bipush (v := nI 12) hx hb d_D_build_181 (by decide) ?_
            refine n_imul hx hb d_D_build_183 ?_
            refine lv_bipush (v := nI 11) hx hb d_D_build_184 (by decide) ?_
            refine n_iadd hx hb d_D_build_186 ?_
            refine lv_ldc (v := (1000000)) hx hb hown (htl _ e_k_D_40) d_D_build_187 ?_
            refine st_fr (i := u * 12 + 11) X h (by omega) d_D_build_189 (fun H locs h => ?_)
            refine lv_iinc (v := nI (u + 1)) (lv' := [(3, .int (nI (u + 1))), (0, .ref (g.2.1 0)), (1, .int (nI a)), (2, .int (nI b)), (4, .int am)]) hx hb d_D_build_190 hl (k := 3) rfl (inc1 u) (by decide) rfl (fun ls hl => ?_)
            refine lv_goto (tgt := 24) hx hb d_D_build_193 (by decide) ?_
            exact ih _ _ _ _ _ (by omega) (net_u hN (by omega) hn (by rw [pk_un (by omega), pk_us]; unfold srcI; rw [if_pos c152]) (by rw [pk_us]; unfold snkI; rw [if_pos c173]) (fun k q1 q2 => by rw [pk_un q2, pk_un q1, pk_un q2])) h (lv_sub hl [1, 2, 3, 0] rfl)
      · refine lv_aload_n hx hb d_D_build_116 rfl (lv_at hl 0 rfl) ?_
        refine gD_residual X h.1 d_D_build_117 ?_
        refine lv_bipush (v := nI 120) hx hb d_D_build_120 (by decide) ?_
        refine lv_iload_n hx hb d_D_build_122 rfl (lv_at hl 3 rfl) ?_
        refine n_iadd hx hb d_D_build_123 ?_
        refine lv_iload hx hb d_D_build_124 (lv_at hl 4 rfl) ?_
        refine st_fr (i := 120 + u) X h (by omega) d_D_build_126 (fun H locs h => ?_)
        refine lv_goto (tgt := 145) hx hb d_D_build_127 (by decide) ?_
        refine lv_aload_n hx hb d_D_build_145 rfl (lv_at hl 0 rfl) ?_
        refine gD_modes X h.1 d_D_build_146 ?_
        refine lv_iload_n hx hb d_D_build_149 rfl (lv_at hl 3 rfl) ?_
        refine ld_fm (i := u) X h.1 (by omega) d_D_build_150 ?_
        refine lv_iconst (v := nI 1) hx hb d_D_build_151 (by decide) ?_
        refine lv_icmp_ne (tgt := 166) hx hb d_D_build_152 (by decide) (fun c152 => ?_) (fun c152 => ?_)
        · refine lv_aload_n hx hb d_D_build_166 rfl (lv_at hl 0 rfl) ?_
          refine gD_modes X h.1 d_D_build_167 ?_
          refine lv_iload_n hx hb d_D_build_170 rfl (lv_at hl 3 rfl) ?_
          refine ld_fm (i := u) X h.1 (by omega) d_D_build_171 ?_
          refine lv_iconst (v := nI 2) hx hb d_D_build_172 (by decide) ?_
          refine lv_icmp_ne (tgt := 190) hx hb d_D_build_173 (by decide) (fun c173 => ?_) (fun c173 => ?_)
          · refine lv_iinc (v := nI (u + 1)) (lv' := [(3, .int (nI (u + 1))), (0, .ref (g.2.1 0)), (1, .int (nI a)), (2, .int (nI b)), (4, .int am)]) hx hb d_D_build_190 hl (k := 3) rfl (inc1 u) (by decide) rfl (fun ls hl => ?_)
            refine lv_goto (tgt := 24) hx hb d_D_build_193 (by decide) ?_
            exact ih _ _ _ _ _ (by omega) (net_u hN (by omega) hn (by rw [pk_us]; unfold srcI; rw [if_neg c152, ← ham, if_neg c113]) (by rw [pk_un (by omega), (hn u 11 (by omega) (by omega)).2 (by omega)]; unfold snkI; rw [if_neg c173, ← ham, if_neg c113]) (fun k q1 q2 => by rw [pk_un q1])) h (lv_sub hl [1, 2, 3, 0] rfl)
          · refine lv_aload_n hx hb d_D_build_176 rfl (lv_at hl 0 rfl) ?_
            refine gD_residual X h.1 d_D_build_177 ?_
            refine lv_iload_n hx hb d_D_build_180 rfl (lv_at hl 3 rfl) ?_
            refine lv_bipush (v := nI 12) hx hb d_D_build_181 (by decide) ?_
            refine n_imul hx hb d_D_build_183 ?_
            refine lv_bipush (v := nI 11) hx hb d_D_build_184 (by decide) ?_
            refine n_iadd hx hb d_D_build_186 ?_
            refine lv_ldc (v := (1000000)) hx hb hown (htl _ e_k_D_40) d_D_build_187 ?_
            refine st_fr (i := u * 12 + 11) X h (by omega) d_D_build_189 (fun H locs h => ?_)
            refine lv_iinc (v := nI (u + 1)) (lv' := [(3, .int (nI (u + 1))), (0, .ref (g.2.1 0)), (1, .int (nI a)), (2, .int (nI b)), (4, .int am)]) hx hb d_D_build_190 hl (k := 3) rfl (inc1 u) (by decide) rfl (fun ls hl => ?_)
            refine lv_goto (tgt := 24) hx hb d_D_build_193 (by decide) ?_
            exact ih _ _ _ _ _ (by omega) (net_u hN (by omega) hn (by rw [pk_un (by omega), pk_us]; unfold srcI; rw [if_neg c152, ← ham, if_neg c113]) (by rw [pk_us]; unfold snkI; rw [if_pos c173]) (fun k q1 q2 => by rw [pk_un q2, pk_un q1])) h (lv_sub hl [1, 2, 3, 0] rfl)
        · refine lv_aload_n hx hb d_D_build_155 rfl (lv_at hl 0 rfl) ?_
          refine gD_residual X h.1 d_D_build_156 ?_
          refine lv_bipush (v := nI 120) hx hb d_D_build_159 (by decide) ?_
          refine lv_iload_n hx hb d_D_build_161 rfl (lv_at hl 3 rfl) ?_
          refine n_iadd hx hb d_D_build_162 ?_
          refine lv_ldc (v := (1000000)) hx hb hown (htl _ e_k_D_40) d_D_build_163 ?_
          refine st_fr (i := 120 + u) X h (by omega) d_D_build_165 (fun H locs h => ?_)
          refine lv_aload_n hx hb d_D_build_166 rfl (lv_at hl 0 rfl) ?_
          refine gD_modes X h.1 d_D_build_167 ?_
          refine lv_iload_n hx hb d_D_build_170 rfl (lv_at hl 3 rfl) ?_
          refine ld_fm (i := u) X h.1 (by omega) d_D_build_171 ?_
          refine lv_iconst (v := nI 2) hx hb d_D_build_172 (by decide) ?_
          refine lv_icmp_ne (tgt := 190) hx hb d_D_build_173 (by decide) (fun c173 => ?_) (fun c173 => ?_)
          · refine lv_iinc (v := nI (u + 1)) (lv' := [(3, .int (nI (u + 1))), (0, .ref (g.2.1 0)), (1, .int (nI a)), (2, .int (nI b)), (4, .int am)]) hx hb d_D_build_190 hl (k := 3) rfl (inc1 u) (by decide) rfl (fun ls hl => ?_)
            refine lv_goto (tgt := 24) hx hb d_D_build_193 (by decide) ?_
            exact ih _ _ _ _ _ (by omega) (net_u hN (by omega) hn (by rw [pk_us]; unfold srcI; rw [if_pos c152]) (by rw [pk_un (by omega), pk_un (by omega), (hn u 11 (by omega) (by omega)).2 (by omega)]; unfold snkI; rw [if_neg c173, ← ham, if_neg c113]) (fun k q1 q2 => by rw [pk_un q1, pk_un q1])) h (lv_sub hl [1, 2, 3, 0] rfl)
          · refine lv_aload_n hx hb d_D_build_176 rfl (lv_at hl 0 rfl) ?_
            refine gD_residual X h.1 d_D_build_177 ?_
            refine lv_iload_n hx hb d_D_build_180 rfl (lv_at hl 3 rfl) ?_
            refine lv_bipush (v := nI 12) hx hb d_D_build_181 (by decide) ?_
            refine n_imul hx hb d_D_build_183 ?_
            refine lv_bipush (v := nI 11) hx hb d_D_build_184 (by decide) ?_
            refine n_iadd hx hb d_D_build_186 ?_
            refine lv_ldc (v := (1000000)) hx hb hown (htl _ e_k_D_40) d_D_build_187 ?_
            refine st_fr (i := u * 12 + 11) X h (by omega) d_D_build_189 (fun H locs h => ?_)
            refine lv_iinc (v := nI (u + 1)) (lv' := [(3, .int (nI (u + 1))), (0, .ref (g.2.1 0)), (1, .int (nI a)), (2, .int (nI b)), (4, .int am)]) hx hb d_D_build_190 hl (k := 3) rfl (inc1 u) (by decide) rfl (fun ls hl => ?_)
            refine lv_goto (tgt := 24) hx hb d_D_build_193 (by decide) ?_
            exact ih _ _ _ _ _ (by omega) (net_u hN (by omega) hn (by rw [pk_un (by omega), pk_us]; unfold srcI; rw [if_pos c152]) (by rw [pk_us]; unfold snkI; rw [if_pos c173]) (fun k q1 q2 => by rw [pk_un q2, pk_un q1, pk_un q1])) h (lv_sub hl [1, 2, 3, 0] rfl)

set_option maxHeartbeats 4000000 in
set_option maxRecDepth 100000 in
theorem c_D_build (l : Launch) (g : GD) {N : Nat} (hN : N ≤ 10) {cs bt bb bs : Int32} {fp fe fm fr fc fq fb : Nat → Int32} {a b : Nat} (ha : a ≤ 20) (hb2 : b ≤ 2000) : CVD l y_D_build (.code y_D_build b_D_build 6 none) rm_D_build g (nI N, fp, fe, fm, fr, fc, fq, fb, cs, bt, bb, bs) [.int (nI a), .int (nI b)] (fun u2 => ∃ fr2, netO fp fe fm N a b N fr2 ∧ u2 = (nI N, fp, fe, fm, fr2, fc, fq, fb, cs, bt, bb, bs)) := by
  refine mkVD (by decide) (Nat.le_of_ble_eq_true rfl) ?_
  intro p e s m below meth c ls X hr hlk h hl
  obtain ⟨hx, hb, hml, hown, htl⟩ := id X
  have hl : lv_has ls 6 [(0, .ref (g.2.1 0)), (1, .int (nI a)), (2, .int (nI b))] := hl
  refine lv_iconst (v := nI 0) hx hb d_D_build_0 (by decide) ?_
  refine lv_istore_n (lv' := [(3, .int (nI 0)), (0, .ref (g.2.1 0)), (1, .int (nI a)), (2, .int (nI b))]) hx hb d_D_build_1 rfl hl (by decide) rfl (fun ls hl => ?_)
  refine lp_bn0 X hN ha hb2 (fun fr H locs ls h hz hl => ?_) 144 0 _ _ _ _ (by omega) h lt_0 (lv_sub hl [1, 2, 3, 0] rfl)
  refine lv_iconst (v := nI 0) hx hb d_D_build_22 (by decide) ?_
  refine lv_istore_n (lv' := [(3, .int (nI 0)), (0, .ref (g.2.1 0)), (1, .int (nI a)), (2, .int (nI b))]) hx hb d_D_build_23 rfl hl (by decide) rfl (fun ls hl => ?_)
  refine lp_bn X hN ha hb2 (fun fr H locs ls hn h => ?_) N 0 _ _ _ _ (by omega) (net_0 hz) h (lv_sub hl [1, 2, 3, 0] rfl)
  exact endVD X hr hlk h ⟨fr, hn, rfl⟩ d_D_build_196
end
section
/-! sums of whole numbers -/
def sZ : Nat → (Nat → Int) → Int
  | 0, _ => 0
  | n + 1, f => sZ n f + f n
theorem sZ_congr {n : Nat} {f g : Nat → Int} (h : ∀ i, i < n → f i = g i) : sZ n f = sZ n g := by
  induction n with
  | zero => rfl
  | succ n ih => show sZ n f + f n = sZ n g + g n; rw [ih (fun i hi => h i (by omega)), h n (by omega)]
theorem sZ_add (n : Nat) (f g : Nat → Int) : sZ n (fun i => f i + g i) = sZ n f + sZ n g := by
  induction n with
  | zero => rfl
  | succ n ih => show sZ n (fun i => f i + g i) + (f n + g n) = (sZ n f + f n) + (sZ n g + g n); rw [ih]; omega
theorem sZ_sub (n : Nat) (f g : Nat → Int) : sZ n (fun i => f i - g i) = sZ n f - sZ n g := by
  induction n with
  | zero => rfl
  | succ n ih => show sZ n (fun i => f i - g i) + (f n - g n) = (sZ n f + f n) - (sZ n g + g n); rw [ih]; omega
theorem sZ_neg (n : Nat) (f : Nat → Int) : sZ n (fun i => - f i) = - sZ n f := by
  induction n with
  | zero => rfl
  | succ n ih => show sZ n (fun i => - f i) + (- f n) = - (sZ n f + f n); rw [ih]; omega
theorem sZ_zero (n : Nat) : sZ n (fun _ => 0) = 0 := by
  induction n with
  | zero => rfl
  | succ n ih => show sZ n (fun _ => 0) + 0 = 0; rw [ih]; rfl
theorem sZ_mul (n : Nat) (c : Int) (f : Nat → Int) : sZ n (fun i => c * f i) = c * sZ n f := by
  induction n with
  | zero => show (0 : Int) = c * 0; rw [Int.mul_zero]
  | succ n ih => show sZ n (fun i => c * f i) + c * f n = c * (sZ n f + f n); rw [ih, Int.mul_add]
theorem sZ_le {n : Nat} {f g : Nat → Int} (h : ∀ i, i < n → f i ≤ g i) : sZ n f ≤ sZ n g := by
  induction n with
  | zero => exact Int.le_refl _
  | succ n ih =>
    have h1 := ih (fun i hi => h i (by omega))
    have h2 := h n (by omega)
    show sZ n f + f n ≤ sZ n g + g n
    omega
theorem sZ_nn {n : Nat} {f : Nat → Int} (h : ∀ i, i < n → 0 ≤ f i) : 0 ≤ sZ n f := by
  have := sZ_le (n := n) (f := fun _ => 0) (g := f) h
  rw [sZ_zero] at this; exact this
theorem sZ_comm (n k : Nat) (f : Nat → Nat → Int) : sZ n (fun x => sZ k (fun y => f x y)) = sZ k (fun y => sZ n (fun x => f x y)) := by
  induction n with
  | zero => show (0 : Int) = sZ k (fun _ => 0); rw [sZ_zero]
  | succ n ih => show sZ n (fun x => sZ k (fun y => f x y)) + sZ k (fun y => f n y) = sZ k (fun y => sZ n (fun x => f x y) + f n y); rw [ih, sZ_add]
theorem sZ_pt {n y : Nat} {f g : Nat → Int} (h : ∀ i, i < n → i ≠ y → f i = g i) (hy : y < n) : sZ n f - f y = sZ n g - g y := by
  induction n with
  | zero => omega
  | succ n ih =>
    show sZ n f + f n - f y = sZ n g + g n - g y
    by_cases he : y = n
    · subst he
      rw [sZ_congr (f := f) (g := g) (fun i hi => h i (by omega) (by omega))]; omega
    · have := ih (fun i hi hn => h i (by omega) hn) (by omega)
      rw [h n (by omega) (fun q => he q.symm)]; omega
theorem sZ_0all {n : Nat} {f : Nat → Int} (h : ∀ i, i < n → 0 ≤ f i) (h0 : sZ n f = 0) : ∀ i, i < n → f i = 0 := by
  induction n with
  | zero => intro i hi; omega
  | succ n ih =>
    have h1 := sZ_nn (n := n) (f := f) (fun i hi => h i (by omega))
    have h2 := h n (by omega)
    have h3 : sZ n f + f n = 0 := h0
    intro i hi
    by_cases he : i = n
    · subst he; omega
    · exact ih (fun i hi => h i (by omega)) (by omega) i (by omega)
/-! sending along a way -/
def pz (r : Nat → Nat → Int) (d : Int) (x y : Nat) : Nat → Nat → Int := fun a b => if a = x ∧ b = y then r a b - d else if a = y ∧ b = x then r a b + d else r a b
def pzR (r : Nat → Nat → Int) (d : Int) (pt : Nat → Nat) : Nat → (Nat → Nat → Int)
  | 0 => r
  | i + 1 => pz (pzR r d pt i) d (pt (i + 1)) (pt i)
theorem pz_xy {r : Nat → Nat → Int} {d : Int} {x y : Nat} : pz r d x y x y = r x y - d := if_pos ⟨rfl, rfl⟩
theorem pz_yx {r : Nat → Nat → Int} {d : Int} {x y : Nat} (h : x ≠ y) : pz r d x y y x = r y x + d := by
  unfold pz; rw [if_neg (fun q => h q.2), if_pos ⟨rfl, rfl⟩]
theorem pz_o {r : Nat → Nat → Int} {d : Int} {x y a b : Nat} (h1 : ¬ (a = x ∧ b = y)) (h2 : ¬ (a = y ∧ b = x)) : pz r d x y a b = r a b := by
  unfold pz; rw [if_neg h1, if_neg h2]
def pInv (r : Nat → Nat → Int) (d : Int) (pt : Nat → Nat) (L i : Nat) (R : Nat → Nat → Int) : Prop :=
  (∀ a b, a < 12 → b < 12 → 0 ≤ R a b) ∧ (∀ a b, a < 12 → b < 12 → R a b + R b a = r a b + r b a) ∧ (∀ j, i ≤ j → j < L → R (pt (j + 1)) (pt j) = r (pt (j + 1)) (pt j)) ∧
  (∀ a b, a < 12 → b < 12 → 0 < R a b → 0 < r a b ∨ ∃ j, j < i ∧ a = pt j ∧ b = pt (j + 1)) ∧ (∀ j, j < i → R (pt (j + 1)) (pt j) = r (pt (j + 1)) (pt j) - d) ∧
  (∀ a, a < 12 → sZ 12 (fun b => r a b - R a b) = (if a = pt i then d else 0) - (if a = pt 0 then d else 0))
/-- a way: its nodes are apart, and every edge of it takes d -/
def wayI (r : Nat → Nat → Int) (d : Int) (pt : Nat → Nat) (L : Nat) : Prop := (∀ i, i ≤ L → pt i < 12) ∧ (∀ i j, i ≤ L → j ≤ L → pt i = pt j → i = j) ∧ 0 < d ∧ ∀ i, i < L → d ≤ r (pt (i + 1)) (pt i)
theorem pInv_all {r : Nat → Nat → Int} {d : Int} {pt : Nat → Nat} {L : Nat} (h0 : ∀ a b, a < 12 → b < 12 → 0 ≤ r a b) (hw : wayI r d pt L) : ∀ i, i ≤ L → pInv r d pt L i (pzR r d pt i) := by
  obtain ⟨w1, w2, w3, w4⟩ := hw
  intro i
  induction i with
  | zero =>
    intro _
    refine ⟨h0, fun a b _ _ => rfl, fun j _ _ => rfl, fun a b _ _ q => Or.inl q, fun j hj => by omega, fun a ha => ?_⟩
    show sZ 12 (fun b => r a b - r a b) = _
    rw [sZ_congr (g := fun _ => 0) (fun b _ => by omega), sZ_zero]; omega
  | succ i ih =>
    intro hi
    obtain ⟨a1, a2, a3, a4, a5, a6⟩ := ih (by omega)
    have hx := w1 (i + 1) hi
    have hy := w1 i (by omega)
    have hne : pt (i + 1) ≠ pt i := fun q => by have := w2 _ _ hi (by omega) q; omega
    show pInv r d pt L (i + 1) (pz (pzR r d pt i) d (pt (i + 1)) (pt i))
    generalize hR : pzR r d pt i = R at a1 a2 a3 a4 a5 a6 ⊢
    have e0 : R (pt (i + 1)) (pt i) = r (pt (i + 1)) (pt i) := a3 i (by omega) (by omega)
    have hd := w4 i (by omega)
    refine ⟨fun a b ha hb => ?_, fun a b ha hb => ?_, fun j h1 h2 => ?_, fun a b ha hb q => ?_, fun j hj => ?_, fun a ha => ?_⟩
    · have := a1 a b ha hb
      by_cases c1 : a = pt (i + 1) ∧ b = pt i
      · obtain ⟨rfl, rfl⟩ := c1; rw [pz_xy]; omega
      · by_cases c2 : a = pt i ∧ b = pt (i + 1)
        · obtain ⟨rfl, rfl⟩ := c2; rw [pz_yx hne]; omega
        · rw [pz_o c1 c2]; exact this
    · have := a2 a b ha hb
      by_cases c1 : a = pt (i + 1) ∧ b = pt i
      · obtain ⟨rfl, rfl⟩ := c1; rw [pz_xy, pz_yx hne]; omega
      · by_cases c2 : a = pt i ∧ b = pt (i + 1)
        · obtain ⟨rfl, rfl⟩ := c2; rw [pz_xy, pz_yx hne]; omega
        · rw [pz_o c1 c2, pz_o (fun q => c2 ⟨q.2, q.1⟩) (fun q => c1 ⟨q.2, q.1⟩)]; exact this
    · rw [pz_o (fun q => by have := w2 _ _ (by omega) (by omega) q.2; omega) (fun q => by have := w2 _ _ (by omega) (by omega) q.1; omega)]
      exact a3 j (by omega) h2
    · by_cases c1 : a = pt (i + 1) ∧ b = pt i
      · obtain ⟨rfl, rfl⟩ := c1
        left; omega
      · by_cases c2 : a = pt i ∧ b = pt (i + 1)
        · right; exact ⟨i, by omega, c2⟩
        · rw [pz_o c1 c2] at q
          rcases a4 a b ha hb q with z | ⟨j, j1, j2⟩
          · left; exact z
          · right; exact ⟨j, by omega, j2⟩
    · by_cases he : j = i
      · subst he; rw [pz_xy, e0]
      · rw [pz_o (fun q => by have := w2 _ _ (by omega) (by omega) q.2; omega) (fun q => by have := w2 _ _ (by omega) (by omega) q.1; have := w2 _ _ (by omega) (by omega) q.2; omega)]
        exact a5 j (by omega)
    · have h6 := a6 a ha
      have n0 : pt (i + 1) ≠ pt 0 := fun q => by have := w2 _ _ hi (by omega) q; omega
      by_cases c1 : a = pt (i + 1)
      · subst c1
        have hp := sZ_pt (n := 12) (y := pt i) (f := fun b => r (pt (i + 1)) b - pz R d (pt (i + 1)) (pt i) (pt (i + 1)) b) (g := fun b => r (pt (i + 1)) b - R (pt (i + 1)) b) (fun b hb hbn => by
          show r _ b - pz R d _ _ _ b = _
          rw [pz_o (fun q => hbn q.2) (fun q => hne q.1)]) hy
        simp only [pz_xy] at hp
        rw [if_neg hne, if_neg n0] at h6
        rw [if_pos rfl, if_neg n0]
        omega
      · by_cases c2 : a = pt i
        · subst c2
          have hp := sZ_pt (n := 12) (y := pt (i + 1)) (f := fun b => r (pt i) b - pz R d (pt (i + 1)) (pt i) (pt i) b) (g := fun b => r (pt i) b - R (pt i) b) (fun b hb hbn => by
            show r _ b - pz R d _ _ _ b = _
            rw [pz_o (fun q => hne q.1.symm) (fun q => hbn q.2)]) hx
          simp only [pz_yx hne] at hp
          rw [if_pos rfl] at h6
          rw [if_neg c1]
          omega
        · rw [if_neg c2] at h6
          rw [if_neg c1, ← h6]
          exact sZ_congr (fun b hb => by rw [pz_o (fun q => c1 q.1) (fun q => c2 q.1)])
/-! flows -/
def nd (N x : Nat) : Prop := x < N ∨ 10 ≤ x
def flI (N : Nat) (c r : Nat → Nat → Int) : Prop := (∀ x y, x < 12 → y < 12 → 0 ≤ r x y) ∧ (∀ x y, x < 12 → y < 12 → r x y + r y x = c x y + c y x) ∧ (∀ x, x < 10 → sZ 12 (fun y => c x y - r x y) = 0) ∧ (∀ x y, x < 12 → y < 12 → 0 < r x y → nd N x ∧ nd N y)
theorem flI_push {N : Nat} {c r : Nat → Nat → Int} {d : Int} {pt : Nat → Nat} {L : Nat} (h : flI N c r) (hw : wayI r d pt L) (e0 : pt 0 = 11) (eL : pt L = 10) : flI N c (pzR r d pt L) := by
  obtain ⟨f1, f2, f3, f4⟩ := h
  obtain ⟨a1, a2, a3, a4, a5, a6⟩ := pInv_all f1 hw L (Nat.le_refl L)
  refine ⟨a1, fun x y hx hy => by rw [a2 x y hx hy]; exact f2 x y hx hy, fun x hx => ?_, fun x y hx hy q => ?_⟩
  · have h1 := f3 x hx
    have h2 := a6 x (by omega)
    rw [eL, e0, if_neg (by omega), if_neg (by omega)] at h2
    have h3 : sZ 12 (fun y => c x y - pzR r d pt L x y) = sZ 12 (fun y => (c x y - r x y) + (r x y - pzR r d pt L x y)) := sZ_congr (fun y _ => by omega)
    rw [h3, sZ_add, h1, h2]; rfl
  · rcases a4 x y hx hy q with z | ⟨j, j1, j2, j3⟩
    · exact f4 x y hx hy z
    · subst j2; subst j3
      have hd := hw.2.2.2 j j1
      have hp := hw.2.2.1
      have := f4 _ _ (hw.1 (j + 1) (by omega)) (hw.1 j (by omega)) (by omega)
      exact ⟨this.2, this.1⟩
/-! the measure: how often can it happen -/
def vld (dl : Nat → Nat) (r : Nat → Nat → Int) : Prop := ∀ a b, a < 12 → b < 12 → 0 < r a b → dl b ≤ dl a + 1
def tgh (dl : Nat → Nat) (r : Nat → Nat → Int) : Nat := sN 12 (fun a => sN 12 (fun b => if 0 < r a b ∧ dl b = dl a + 1 then 1 else 0))
def potI (r : Nat → Nat → Int) (k : Nat) : Prop := ∃ dl : Nat → Nat, dl 10 = 0 ∧ vld dl r ∧ dl 11 ≤ 12 ∧ (12 - dl 11) * 145 + tgh dl r ≤ k
theorem sN_lt {n y : Nat} {f g : Nat → Nat} (h : ∀ i, i < n → f i ≤ g i) (hy : y < n) (hs : f y < g y) : sN n f < sN n g := by
  induction n with
  | zero => omega
  | succ n ih =>
    show sN n f + f n < sN n g + g n
    have h1 := h n (by omega)
    by_cases he : y = n
    · subst he
      have := sN_le (n := y) (f := f) (g := g) (fun i hi => h i (by omega))
      omega
    · have := ih (fun i hi => h i (by omega)) (by omega)
      omega
theorem tgh_le (dl : Nat → Nat) (r : Nat → Nat → Int) : tgh dl r ≤ 144 := by
  have h : tgh dl r ≤ sN 12 (fun _ => sN 12 (fun _ => 1)) := sN_le (fun a _ => sN_le (fun b _ => by
    by_cases q : 0 < r a b ∧ dl b = dl a + 1
    · rw [if_pos q]; exact Nat.le_refl _
    · rw [if_neg q]; omega))
  exact Nat.le_trans h (by decide)
theorem tgh_lt {dl : Nat → Nat} {r R : Nat → Nat → Int} {x y : Nat} (h : ∀ a b, a < 12 → b < 12 → 0 < R a b → dl b = dl a + 1 → 0 < r a b) (hx : x < 12) (hy : y < 12) (h1 : 0 < r x y ∧ dl y = dl x + 1) (h2 : ¬ 0 < R x y) : tgh dl R < tgh dl r := by
  have key : ∀ a b, a < 12 → b < 12 → (if 0 < R a b ∧ dl b = dl a + 1 then 1 else 0) ≤ (if 0 < r a b ∧ dl b = dl a + 1 then 1 else 0) := fun a b ha hb => by
    by_cases q : 0 < R a b ∧ dl b = dl a + 1
    · rw [if_pos q, if_pos ⟨h a b ha hb q.1 q.2, q.2⟩]; exact Nat.le_refl _
    · rw [if_neg q]; omega
  refine sN_lt (fun a ha => sN_le (fun b hb => key a b ha hb)) hx (sN_lt (fun b hb => key x b hx hb) hy ?_)
  rw [if_neg (fun q => h2 q.1), if_pos h1]; omega
theorem pot_core {r : Nat → Nat → Int} {d : Int} {pt : Nat → Nat} {L js : Nat} {dl : Nat → Nat} (h0 : ∀ a b, a < 12 → b < 12 → 0 ≤ r a b) (hw : wayI r d pt L) (hv : vld dl r) (hl : ∀ j, j ≤ L → dl (pt j) = L - j) (hj : js < L) (hs : r (pt (js + 1)) (pt js) = d) : vld dl (pzR r d pt L) ∧ tgh dl (pzR r d pt L) < tgh dl r := by
  obtain ⟨a1, a2, a3, a4, a5, a6⟩ := pInv_all h0 hw L (Nat.le_refl L)
  constructor
  · intro a b ha hb q
    rcases a4 a b ha hb q with z | ⟨j, j1, j2, j3⟩
    · exact hv a b ha hb z
    · subst j2; subst j3
      rw [hl j (by omega), hl (j + 1) (by omega)]; omega
  · refine tgh_lt (x := pt (js + 1)) (y := pt js) (fun a b ha hb q1 q2 => ?_) (hw.1 _ (by omega)) (hw.1 _ (by omega)) ⟨by rw [hs]; exact hw.2.2.1, by rw [hl _ (by omega), hl _ (by omega)]; omega⟩ (by rw [a5 js hj, hs]; omega)
    rcases a4 a b ha hb q1 with z | ⟨j, j1, j2, j3⟩
    · exact z
    · subst j2; subst j3
      rw [hl j (by omega), hl (j + 1) (by omega)] at q2; omega
theorem pot_step {r : Nat → Nat → Int} {d : Int} {pt : Nat → Nat} {L js k : Nat} {lev : Nat → Nat} (h0 : ∀ a b, a < 12 → b < 12 → 0 ≤ r a b) (hw : wayI r d pt L) (e0 : pt 0 = 11) (eL : pt L = 10) (hL : L ≤ 11) (hv : vld lev r) (hl : ∀ j, j ≤ L → lev (pt j) = L - j) (hj : js < L) (hs : r (pt (js + 1)) (pt js) = d) (hp : potI r k) : ∃ k2, k = k2 + 1 ∧ potI (pzR r d pt L) k2 := by
  obtain ⟨dl, d1, d2, d3, d4⟩ := hp
  have up : ∀ i, i ≤ L → dl (pt (L - i)) ≤ i := by
    intro i
    induction i with
    | zero => intro _; rw [Nat.sub_zero, eL, d1]; exact Nat.le_refl 0
    | succ i ih =>
      intro hi
      have h1 := ih (by omega)
      have h2 := hw.2.2.2 (L - (i + 1)) (by omega)
      have h3 := hw.2.2.1
      rw [show L - (i + 1) + 1 = L - i from by omega] at h2
      have := d2 _ _ (hw.1 (L - i) (by omega)) (hw.1 (L - (i + 1)) (by omega)) (by omega)
      omega
  have dn : ∀ i, i ≤ L → dl 11 ≤ dl (pt i) + i := by
    intro i
    induction i with
    | zero => intro _; rw [e0]; omega
    | succ i ih =>
      intro hi
      have h1 := ih (by omega)
      have h2 := hw.2.2.2 i (by omega)
      have h3 := hw.2.2.1
      have := d2 _ _ (hw.1 (i + 1) hi) (hw.1 i (by omega)) (by omega)
      omega
  have hle : dl 11 ≤ L := by
    have := up L (Nat.le_refl L)
    rw [Nat.sub_self, e0] at this; exact this
  rcases Nat.lt_or_ge (dl 11) L with q | q
  · obtain ⟨g1, g2⟩ := pot_core h0 hw hv hl hj hs
    have t1 := tgh_le lev r
    have e11 : lev 11 = L := by have := hl 0 (by omega); rw [e0] at this; omega
    have e10 : lev 10 = 0 := by have := hl L (Nat.le_refl L); rw [eL] at this; omega
    have m1 : (12 - L) * 145 + 145 ≤ (12 - dl 11) * 145 := by
      have : (12 - L + 1) * 145 ≤ (12 - dl 11) * 145 := Nat.mul_le_mul_right _ (by omega)
      omega
    exact ⟨k - 1, by omega, lev, e10, g1, by omega, by rw [e11]; omega⟩
  · have hl2 : ∀ j, j ≤ L → dl (pt j) = L - j := fun j hj2 => by
      have h1 := up (L - j) (by omega)
      rw [show L - (L - j) = j from by omega] at h1
      have h2 := dn j hj2
      omega
    obtain ⟨g1, g2⟩ := pot_core h0 hw d2 hl2 hj hs
    exact ⟨k - 1, by omega, dl, d1, g1, d3, by omega⟩
theorem pot_0 (r : Nat → Nat → Int) : potI r 1740 := by
  refine ⟨fun _ => 0, rfl, fun a b _ _ _ => Nat.zero_le _, Nat.zero_le _, ?_⟩
  have : tgh (fun _ => 0) r = sN 12 (fun _ => sN 12 (fun _ => 0)) := sN_congr (fun a _ => sN_congr (fun b _ => if_neg (fun q => absurd q.2 (show ¬ (0 : Nat) = 0 + 1 by omega))))
  rw [this]; decide
end
section
/-! the array of rooms as whole numbers -/
def rz (fr : Nat → Int32) (x y : Nat) : Int := (fr (x * 12 + y)).toInt
theorem i32_add {x y : Int32} (h1 : -2147483648 ≤ x.toInt + y.toInt) (h2 : x.toInt + y.toInt < 2147483648) : (x + y).toInt = x.toInt + y.toInt := by
  rw [Int32.toInt_add]; exact Int.bmod_eq_of_le (by omega) (by omega)
theorem i32_sub {x y : Int32} (h1 : -2147483648 ≤ x.toInt - y.toInt) (h2 : x.toInt - y.toInt < 2147483648) : (x - y).toInt = x.toInt - y.toInt := by
  rw [Int32.toInt_sub]; exact Int.bmod_eq_of_le (by omega) (by omega)
theorem pos_iff {x : Int32} : ¬ x ≤ 0 ↔ 0 < x.toInt := by
  rw [Int32.le_iff_toInt_le, Int32.toInt_zero]; omega
theorem puS_rz {f : Nat → Int32} {dI : Int32} {x y a b : Nat} (hx : x < 12) (hy : y < 12) (hne : x ≠ y) (ha : a < 12) (hb : b < 12) (b1 : 0 ≤ rz f x y - dI.toInt) (b2 : rz f x y < 100000000) (b3 : 0 ≤ rz f y x) (b4 : rz f y x + dI.toInt < 100000000) (b5 : 0 ≤ dI.toInt) : rz (puS f dI x y) a b = pz (rz f) dI.toInt x y a b := by
  unfold rz at b1 b2 b3 b4
  by_cases c1 : a = x ∧ b = y
  · obtain ⟨rfl, rfl⟩ := c1
    rw [pz_xy]
    unfold rz puS
    rw [pk_un (by omega), pk_us, i32_sub (by omega) (by omega)]
  · by_cases c2 : a = y ∧ b = x
    · obtain ⟨rfl, rfl⟩ := c2
      rw [pz_yx hne]
      unfold rz puS
      rw [pk_us, pk_un (by omega), i32_add (by omega) (by omega)]
    · rw [pz_o c1 c2]
      unfold rz puS
      rw [pk_un (by omega), pk_un (by omega)]
theorem puR_rz {fr : Nat → Int32} {dI : Int32} {pt : Nat → Nat} {L : Nat} (h0 : ∀ a b, a < 12 → b < 12 → 0 ≤ rz fr a b) (h1 : ∀ a b, a < 12 → b < 12 → rz fr a b + rz fr b a ≤ 4000000) (hw : wayI (rz fr) dI.toInt pt L) : ∀ i, i ≤ L → ∀ a b, a < 12 → b < 12 → rz (puR fr dI pt i) a b = pzR (rz fr) dI.toInt pt i a b := by
  intro i
  induction i with
  | zero => intro _ a b _ _; rfl
  | succ i ih =>
    intro hi a b ha hb
    have ih := ih (by omega)
    obtain ⟨a1, a2, a3, a4, a5, a6⟩ := pInv_all h0 hw i (by omega)
    have hx := hw.1 (i + 1) hi
    have hy := hw.1 i (by omega)
    have hne : pt (i + 1) ≠ pt i := fun q => by have := hw.2.1 _ _ hi (by omega) q; omega
    have k1 := ih _ _ hx hy
    have k2 := ih _ _ hy hx
    have k3 := a1 _ _ hy hx
    have k4 := a2 _ _ hx hy
    have k5 := h1 _ _ hx hy
    have k6 := a3 i (by omega) (by omega)
    have k7 := hw.2.2.2 i (by omega)
    have k8 := hw.2.2.1
    show rz (puS (puR fr dI pt i) dI (pt (i + 1)) (pt i)) a b = pz (pzR (rz fr) dI.toInt pt i) dI.toInt (pt (i + 1)) (pt i) a b
    rw [puS_rz hx hy hne ha hb (by omega) (by omega) (by omega) (by omega) (by omega)]
    unfold pz
    rw [ih a b ha hb]
theorem mnR_z {fr : Nat → Int32} {pt : Nat → Nat} {L : Nat} (h : ∀ j, j < L → 0 < rz fr (pt (j + 1)) (pt j) ∧ rz fr (pt (j + 1)) (pt j) ≤ 2000000) : ∀ i, i ≤ L → 0 < (mnR fr pt i).toInt ∧ (∀ j, j < i → (mnR fr pt i).toInt ≤ rz fr (pt (j + 1)) (pt j)) ∧ ((i = 0 ∧ (mnR fr pt i).toInt = 2000000) ∨ ∃ j, j < i ∧ (mnR fr pt i).toInt = rz fr (pt (j + 1)) (pt j)) := by
  intro i
  induction i with
  | zero => intro _; exact ⟨show 0 < (2000000 : Int32).toInt by decide, fun j hj => by omega, Or.inl ⟨rfl, show (2000000 : Int32).toInt = 2000000 by decide⟩⟩
  | succ i ih =>
    intro hi
    obtain ⟨a1, a2, a3⟩ := ih (by omega)
    have hb := h i (by omega)
    rw [mnR]
    by_cases hc : mnR fr pt i ≤ fr (pt (i + 1) * 12 + pt i)
    · rw [if_pos hc]
      have hc2 : (mnR fr pt i).toInt ≤ rz fr (pt (i + 1)) (pt i) := Int32.le_iff_toInt_le.mp hc
      refine ⟨a1, fun j hj => ?_, Or.inr ?_⟩
      · by_cases he : j = i
        · subst he; exact hc2
        · exact a2 j (by omega)
      · rcases a3 with ⟨q1, q2⟩ | ⟨j, j1, j2⟩
        · exact ⟨i, by omega, by omega⟩
        · exact ⟨j, by omega, j2⟩
    · rw [if_neg hc]
      have hc2 : rz fr (pt (i + 1)) (pt i) < (mnR fr pt i).toInt := by
        rw [Int32.le_iff_toInt_le] at hc; unfold rz; omega
      refine ⟨hb.1, fun j hj => ?_, Or.inr ⟨i, by omega, rfl⟩⟩
      show rz fr (pt (i + 1)) (pt i) ≤ _
      by_cases he : j = i
      · subst he; exact Int.le_refl _
      · have := a2 j (by omega); omega
/-- the way back from the sink -/
def itr (pr : Nat → Nat) : Nat → Nat
  | 0 => 11
  | i + 1 => pr (itr pr i)
theorem itr_ok {Ed : Nat → Nat → Prop} {vis : Nat → Bool} {lev pr : Nat → Nat} (hE : bfsE Ed 10 vis lev pr) (h11 : vis 11 = true) : ∀ i, i ≤ lev 11 → itr pr i < 12 ∧ vis (itr pr i) = true ∧ lev (itr pr i) = lev 11 - i := by
  intro i
  induction i with
  | zero => intro _; exact ⟨show 11 < 12 by decide, h11, by rw [Nat.sub_zero]; rfl⟩
  | succ i ih =>
    intro hi
    obtain ⟨a1, a2, a3⟩ := ih (by omega)
    have hn : itr pr i ≠ 10 := fun q => by rw [q, hE.1.2.2] at a3; omega
    obtain ⟨b1, b2, b3, b4⟩ := hE.2.1 _ a1 a2 hn
    exact ⟨b1, b2, by show lev (pr (itr pr i)) = _; omega⟩
theorem flI_congr {N : Nat} {c r R : Nat → Nat → Int} (h : ∀ a b, a < 12 → b < 12 → R a b = r a b) (q : flI N c r) : flI N c R := by
  obtain ⟨f1, f2, f3, f4⟩ := q
  refine ⟨fun x y hx hy => by rw [h x y hx hy]; exact f1 x y hx hy, fun x y hx hy => by rw [h x y hx hy, h y x hy hx]; exact f2 x y hx hy, fun x hx => ?_, fun x y hx hy => by rw [h x y hx hy]; exact f4 x y hx hy⟩
  rw [← f3 x hx]; exact sZ_congr (fun y hy => by rw [h x y (by omega) hy])
theorem potI_congr {r R : Nat → Nat → Int} {k : Nat} (h : ∀ a b, a < 12 → b < 12 → R a b = r a b) (q : potI r k) : potI R k := by
  obtain ⟨dl, d1, d2, d3, d4⟩ := q
  refine ⟨dl, d1, fun a b ha hb z => d2 a b ha hb (by rw [← h a b ha hb]; exact z), d3, ?_⟩
  have : tgh dl R = tgh dl r := sN_congr (fun a ha => sN_congr (fun b hb => by rw [h a b ha hb]))
  rw [this]; exact d4
/-- ONE ROUND: a way is found, and sent along: it stays a flow, and the measure falls -/
theorem aug {N k : Nat} {c : Nat → Nat → Int} {fr fc : Nat → Int32} {vis : Nat → Bool} {lev pr : Nat → Nat} (hf : flI N c (rz fr)) (hc : ∀ x y, x < 12 → y < 12 → c x y + c y x ≤ 2000000) (hE : bfsE (edF N fr) 10 vis lev pr) (hC : lkC fc vis pr) (h11 : vis 11 = true) (hp : potI (rz fr) k) :
    ∃ pt L, ptP fc pt L ∧ flI N c (rz (puR fr (mnR fr pt L) pt L)) ∧ ∃ k2, k = k2 + 1 ∧ potI (rz (puR fr (mnR fr pt L) pt L)) k2 := by
  have hI := itr_ok hE h11
  have hL11 : lev 11 ≤ 11 := hE.2.2.1 11 (by omega) h11
  have hL1 : 1 ≤ lev 11 := by have := (hE.2.1 11 (by omega) h11 (by omega)).2.2.2; omega
  have hne : ∀ i, i < lev 11 → itr pr i ≠ 10 := fun i hi q => by
    have := (hI i (by omega)).2.2
    rw [q, hE.1.2.2] at this; omega
  have hend : itr pr (lev 11) = 10 := by
    apply Classical.byContradiction
    intro q
    obtain ⟨a1, a2, a3⟩ := hI (lev 11) (Nat.le_refl _)
    have := (hE.2.1 _ a1 a2 q).2.2.2
    omega
  have hedge : ∀ j, j < lev 11 → 0 < rz fr (itr pr (j + 1)) (itr pr j) ∧ rz fr (itr pr (j + 1)) (itr pr j) ≤ 2000000 := fun j hj => by
    obtain ⟨a1, a2, a3⟩ := hI j (by omega)
    obtain ⟨b1, b2, b3, b4⟩ := hE.2.1 _ a1 a2 (hne j hj)
    have e1 := hf.2.1 _ _ b1 a1
    have e2 := hf.1 _ _ a1 b1
    have e3 := hc _ _ b1 a1
    exact ⟨pos_iff.mp b3.2, by show rz fr (pr (itr pr j)) (itr pr j) ≤ _; omega⟩
  obtain ⟨m1, m2, m3⟩ := mnR_z hedge (lev 11) (Nat.le_refl _)
  have hw : wayI (rz fr) (mnR fr (itr pr) (lev 11)).toInt (itr pr) (lev 11) := ⟨fun i hi => (hI i hi).1, fun i j hi hj q => by
    have h1 := (hI i hi).2.2
    have h2 := (hI j hj).2.2
    rw [q] at h1; omega, m1, m2⟩
  have hpu := puR_rz (dI := mnR fr (itr pr) (lev 11)) hf.1 (fun a b ha hb => by rw [hf.2.1 a b ha hb]; have := hc a b ha hb; omega) hw (lev 11) (Nat.le_refl _)
  refine ⟨itr pr, lev 11, ⟨hL11, rfl, hend, fun i hi => ⟨hne i hi, ?_⟩, fun i hi => (hI i hi).1⟩, flI_congr hpu (flI_push hf hw rfl hend), ?_⟩
  · obtain ⟨a1, a2, a3⟩ := hI i (by omega)
    exact ((hC _ a1).1 a2).1
  · obtain ⟨js, j1, j2⟩ : ∃ j, j < lev 11 ∧ (mnR fr (itr pr) (lev 11)).toInt = rz fr (itr pr (j + 1)) (itr pr j) := by
      rcases m3 with q | q
      · omega
      · exact q
    obtain ⟨k2, e1, e2⟩ := pot_step (lev := fun a => if vis a = true then lev a else 12) (js := js) hf.1 hw rfl hend hL11 (fun a b ha hb q => by
      have hn := hf.2.2.2 a b ha hb q
      show (if vis b = true then lev b else 12) ≤ (if vis a = true then lev a else 12) + 1
      by_cases va : vis a = true
      · obtain ⟨z1, z2⟩ := hE.2.2.2 a ha va b hb ⟨hn.2, pos_iff.mpr q⟩
        rw [if_pos va, if_pos z1]; exact z2
      · rw [if_neg va]
        by_cases vb : vis b = true
        · rw [if_pos vb]; have := hE.2.2.1 b hb vb; omega
        · rw [if_neg vb]; omega) (fun j hj => by
      show (if vis (itr pr j) = true then lev (itr pr j) else 12) = _
      rw [if_pos (hI j hj).2.1]; exact (hI j hj).2.2) j1 j2.symm hp
    exact ⟨k2, e1, potI_congr hpu e2⟩
end
section
/-! the cut and the flow -/
theorem sN_cast (n : Nat) (f : Nat → Nat) : ((sN n f : Nat) : Int) = sZ n (fun i => (f i : Int)) := by
  induction n with
  | zero => rfl
  | succ n ih => show ((sN n f + f n : Nat) : Int) = sZ n (fun i => (f i : Int)) + (f n : Int); rw [Int.natCast_add, ih]
theorem sZ_ext {N : Nat} {f : Nat → Int} : ∀ k, (∀ y, N ≤ y → y < N + k → f y = 0) → sZ (N + k) f = sZ N f := by
  intro k
  induction k with
  | zero => intro _; rfl
  | succ k ih =>
    intro h
    show sZ (N + k) f + f (N + k) = sZ N f
    rw [ih (fun y h1 h2 => h y h1 (by omega)), h (N + k) (by omega) (by omega)]; omega
theorem sZ_12 {N : Nat} {f : Nat → Int} (hN : N ≤ 10) (h : ∀ y, N ≤ y → y < 10 → f y = 0) : sZ 12 f = sZ N f + f 10 + f 11 := by
  show sZ 10 f + f 10 + f 11 = _
  have := sZ_ext (N := N) (f := f) (10 - N) (fun y h1 h2 => h y h1 (by omega))
  rw [show N + (10 - N) = 10 from by omega] at this
  rw [this]
theorem sZ_one {n v : Nat} {f : Nat → Int} (h : ∀ i, i < n → 0 ≤ f i) (hv : v < n) : f v ≤ sZ n f := by
  have h1 := sZ_pt (n := n) (y := v) (f := f) (g := fun i => if i = v then 0 else f i) (fun i hi hn => by rw [if_neg hn]) hv
  have h2 : 0 ≤ sZ n (fun i => if i = v then 0 else f i) := sZ_nn (fun i hi => by
    by_cases he : i = v
    · rw [if_pos he]; omega
    · rw [if_neg he]; exact h i hi)
  simp only [if_true] at h1
  omega
def capA (c : Nat → Nat → Int) (A : Nat → Bool) : Int := sZ 12 (fun x => sZ 12 (fun y => if A x = true ∧ A y = false then c x y else 0))
theorem mincut {N : Nat} {c r : Nat → Nat → Int} {A : Nat → Bool} (h : flI N c r) (h10 : A 10 = true) (h11 : A 11 = false) : capA c A = sZ 12 (fun y => c 10 y - r 10 y) + capA r A := by
  obtain ⟨f1, f2, f3, f4⟩ := h
  have e1 : capA c A - capA r A = sZ 12 (fun x => sZ 12 (fun y => if A x = true ∧ A y = false then c x y - r x y else 0)) := by
    unfold capA
    rw [← sZ_sub]
    refine sZ_congr (fun x hx => ?_)
    rw [← sZ_sub]
    refine sZ_congr (fun y hy => ?_)
    by_cases q : A x = true ∧ A y = false
    · rw [if_pos q, if_pos q, if_pos q]
    · rw [if_neg q, if_neg q, if_neg q]; omega
  have e2 : sZ 12 (fun x => sZ 12 (fun y => if A x = true ∧ A y = true then c x y - r x y else 0)) = 0 := by
    have s1 : sZ 12 (fun x => sZ 12 (fun y => if A x = true ∧ A y = true then c x y - r x y else 0)) = - sZ 12 (fun x => sZ 12 (fun y => if A x = true ∧ A y = true then c x y - r x y else 0)) := by
      conv => lhs; rw [sZ_comm]
      rw [← sZ_neg]
      refine sZ_congr (fun x hx => ?_)
      rw [← sZ_neg]
      refine sZ_congr (fun y hy => ?_)
      have := f2 x y hx hy
      by_cases q : A x = true ∧ A y = true
      · rw [if_pos q, if_pos ⟨q.2, q.1⟩]; omega
      · rw [if_neg q, if_neg (fun z => q ⟨z.2, z.1⟩)]; omega
    omega
  have e3 : sZ 12 (fun x => if A x = true then sZ 12 (fun y => c x y - r x y) else 0) = sZ 12 (fun y => c 10 y - r 10 y) := by
    have := sZ_pt (n := 12) (y := 10) (f := fun x => if A x = true then sZ 12 (fun y => c x y - r x y) else 0) (g := fun _ => 0) (fun x hx hn => by
      by_cases q : A x = true
      · rw [if_pos q]
        exact f3 x (by
          have : x ≠ 11 := fun z => by rw [z, h11] at q; cases q
          omega)
      · rw [if_neg q]) (by omega)
    rw [sZ_zero] at this
    simp only [h10, if_true] at this
    omega
  have e4 : sZ 12 (fun x => if A x = true then sZ 12 (fun y => c x y - r x y) else 0) = sZ 12 (fun x => sZ 12 (fun y => if A x = true ∧ A y = true then c x y - r x y else 0)) + sZ 12 (fun x => sZ 12 (fun y => if A x = true ∧ A y = false then c x y - r x y else 0)) := by
    rw [← sZ_add]
    refine sZ_congr (fun x hx => ?_)
    rw [← sZ_add]
    by_cases q : A x = true
    · rw [if_pos q]
      refine sZ_congr (fun y hy => ?_)
      cases hy2 : A y with
      | true => simp [q]
      | false => simp [q]
    · rw [if_neg q]
      rw [sZ_congr (g := fun _ => 0) (fun y hy => by rw [if_neg (fun z => q z.1), if_neg (fun z => q z.1)]; rfl), sZ_zero]
  omega
/-! the network of a price -/
def amZ (N : Nat) (P : Nat → Nat → Nat) (E : Nat → Nat) (a b v : Nat) : Int := 2 * ((a : Int) * (E v : Int)) - 2 * (b : Int) + (a : Int) * sZ N (fun w => (P v w : Int))
def posZ (x : Int) : Int := if x ≤ 0 then 0 else x
def srcZ (N : Nat) (P : Nat → Nat → Nat) (E Md : Nat → Nat) (a b v : Nat) : Int := if Md v = 1 then 1000000 else posZ (amZ N P E a b v)
def snkZ (N : Nat) (P : Nat → Nat → Nat) (E Md : Nat → Nat) (a b v : Nat) : Int := if Md v = 2 then 1000000 else posZ (amZ N P E a b v) - amZ N P E a b v
def capZ (N : Nat) (P : Nat → Nat → Nat) (E Md : Nat → Nat) (a b x y : Nat) : Int := if x < N ∧ y < N then (a : Int) * (P x y : Int) else if x = 10 ∧ y < N then srcZ N P E Md a b y else if x < N ∧ y = 11 then snkZ N P E Md a b x else 0
section CAP
variable {N : Nat} {P : Nat → Nat → Nat} {E Md : Nat → Nat} {a b : Nat}
theorem posZ_nn (x : Int) : 0 ≤ posZ x ∧ x ≤ posZ x := by unfold posZ; by_cases h : x ≤ 0 <;> simp [h] <;> omega
theorem am_b (hN : N ≤ 10) (hG : okG P E Md) (ha : a ≤ 20) (hb : b ≤ 2000) {v : Nat} (hv : v < N) : -4000 ≤ amZ N P E a b v ∧ amZ N P E a b v ≤ 4800 ∧ (a : Int) * (E v : Int) ≤ 400 ∧ 0 ≤ (a : Int) * (E v : Int) ∧ 0 ≤ (a : Int) * sZ N (fun w => (P v w : Int)) ∧ (a : Int) * sZ N (fun w => (P v w : Int)) ≤ 4000 := by
  have h1 : ((a * E v : Nat) : Int) = (a : Int) * (E v : Int) := Int.natCast_mul a (E v)
  have h2 : a * E v ≤ 20 * 20 := Nat.mul_le_mul ha (hG.2.2.2.1 v (by omega))
  have h3 : sN N (fun w => P v w) ≤ sN N (fun _ => 20) := sN_le (fun w hw => hG.1 v w (by omega) (by omega))
  rw [sN_const] at h3
  have h4 : ((a * sN N (fun w => P v w) : Nat) : Int) = (a : Int) * sZ N (fun w => (P v w : Int)) := by rw [Int.natCast_mul, sN_cast]
  have h5 : a * sN N (fun w => P v w) ≤ 20 * 200 := Nat.mul_le_mul ha (by omega)
  unfold amZ
  omega
theorem cap_b (hN : N ≤ 10) (hG : okG P E Md) (ha : a ≤ 20) (hb : b ≤ 2000) (x y : Nat) : 0 ≤ capZ N P E Md a b x y ∧ capZ N P E Md a b x y ≤ 1000000 := by
  unfold capZ
  by_cases c1 : x < N ∧ y < N
  · rw [if_pos c1]
    have h1 : ((a * P x y : Nat) : Int) = (a : Int) * (P x y : Int) := Int.natCast_mul a (P x y)
    have h2 : a * P x y ≤ 20 * 20 := Nat.mul_le_mul ha (hG.1 x y (by omega) (by omega))
    omega
  · rw [if_neg c1]
    by_cases c2 : x = 10 ∧ y < N
    · rw [if_pos c2]
      unfold srcZ
      have := am_b hN hG ha hb c2.2
      have h2 : posZ (amZ N P E a b y) ≤ 4800 ∧ 0 ≤ posZ (amZ N P E a b y) := by unfold posZ; by_cases h : amZ N P E a b y ≤ 0 <;> simp [h] <;> omega
      by_cases c : Md y = 1 <;> simp [c] <;> omega
    · rw [if_neg c2]
      by_cases c3 : x < N ∧ y = 11
      · rw [if_pos c3]
        unfold snkZ
        have := am_b hN hG ha hb c3.1
        have h2 : posZ (amZ N P E a b x) - amZ N P E a b x ≤ 4000 ∧ 0 ≤ posZ (amZ N P E a b x) - amZ N P E a b x := by unfold posZ; by_cases h : amZ N P E a b x ≤ 0 <;> simp [h] <;> omega
        by_cases c : Md x = 2 <;> simp [c] <;> omega
      · rw [if_neg c3]; omega
theorem cap_nd {x y : Nat} (h : 0 < capZ N P E Md a b x y) : nd N x ∧ nd N y := by
  unfold capZ at h
  by_cases c1 : x < N ∧ y < N
  · exact ⟨Or.inl c1.1, Or.inl c1.2⟩
  · rw [if_neg c1] at h
    by_cases c2 : x = 10 ∧ y < N
    · exact ⟨Or.inr (by omega), Or.inl c2.2⟩
    · rw [if_neg c2] at h
      by_cases c3 : x < N ∧ y = 11
      · exact ⟨Or.inl c3.1, Or.inr (by omega)⟩
      · rw [if_neg c3] at h; omega
theorem flI_0 (hN : N ≤ 10) (hG : okG P E Md) (ha : a ≤ 20) (hb : b ≤ 2000) : flI N (capZ N P E Md a b) (capZ N P E Md a b) :=
  ⟨fun x y _ _ => (cap_b hN hG ha hb x y).1, fun x y _ _ => rfl, fun x _ => by rw [sZ_congr (g := fun _ => 0) (fun y _ => by omega), sZ_zero], fun x y _ _ q => cap_nd q⟩
/-- the source's side of a set U of vertices -/
def sideU (N : Nat) (U : Nat → Bool) : Nat → Bool := fun x => decide (x = 10) || (decide (x < N) && U x)
theorem side_10 (N : Nat) (U : Nat → Bool) : sideU N U 10 = true := by simp [sideU]
theorem side_11 {N : Nat} (hN : N ≤ 10) (U : Nat → Bool) : sideU N U 11 = false := by simp [sideU]; intro h; omega
theorem side_v {N v : Nat} {U : Nat → Bool} (hN : N ≤ 10) (hv : v < N) : sideU N U v = U v := by
  unfold sideU
  rw [decide_eq_false (show ¬ v = 10 by omega), decide_eq_true hv]; simp
theorem side_o {N v : Nat} {U : Nat → Bool} (h1 : N ≤ v) (h2 : v ≠ 10) : sideU N U v = false := by
  unfold sideU
  rw [decide_eq_false h2, decide_eq_false (show ¬ v < N by omega)]; simp
theorem cap_side (hN : N ≤ 10) (U : Nat → Bool) : capA (capZ N P E Md a b) (sideU N U) = sZ N (fun x => if U x = true then (sZ N (fun y => if U y = true then 0 else (a : Int) * (P x y : Int)) + snkZ N P E Md a b x) else srcZ N P E Md a b x) := by
  have row : ∀ x, x < N → sZ 12 (fun y => if sideU N U x = true ∧ sideU N U y = false then capZ N P E Md a b x y else 0) = if U x = true then (sZ N (fun y => if U y = true then 0 else (a : Int) * (P x y : Int)) + snkZ N P E Md a b x) else 0 := fun x hx => by
    rw [side_v hN hx]
    by_cases q : U x = true
    · rw [if_pos q, sZ_12 hN (fun y h1 h2 => by
        unfold capZ
        rw [if_neg (show ¬ (x < N ∧ y < N) by omega), if_neg (show ¬ (x = 10 ∧ y < N) by omega), if_neg (show ¬ (x < N ∧ y = 11) by omega)]; simp)]
      rw [side_10, side_11 hN, if_neg (by simp), if_pos ⟨q, rfl⟩]
      have e1 : capZ N P E Md a b x 11 = snkZ N P E Md a b x := by
        unfold capZ
        rw [if_neg (show ¬ (x < N ∧ 11 < N) by omega), if_neg (show ¬ (x = 10 ∧ 11 < N) by omega), if_pos ⟨hx, rfl⟩]
      rw [e1, Int.add_zero]
      congr 1
      refine sZ_congr (fun y hy => ?_)
      rw [side_v hN hy]
      cases hu : U y with
      | true => simp
      | false =>
        rw [if_pos ⟨q, rfl⟩, if_neg (by simp)]
        unfold capZ
        rw [if_pos ⟨hx, hy⟩]
    · rw [if_neg q, sZ_congr (g := fun _ => 0) (fun y hy => if_neg (fun z => q z.1)), sZ_zero]
  have row10 : sZ 12 (fun y => if sideU N U 10 = true ∧ sideU N U y = false then capZ N P E Md a b 10 y else 0) = sZ N (fun y => if U y = true then 0 else srcZ N P E Md a b y) := by
    rw [sZ_12 hN (fun y h1 h2 => by
      unfold capZ
      rw [if_neg (show ¬ (10 < N ∧ y < N) by omega), if_neg (show ¬ (10 = 10 ∧ y < N) by omega), if_neg (show ¬ (10 < N ∧ y = 11) by omega)]; simp)]
    have e1 : capZ N P E Md a b 10 11 = 0 := by
      unfold capZ
      rw [if_neg (show ¬ (10 < N ∧ 11 < N) by omega), if_neg (show ¬ (10 = 10 ∧ 11 < N) by omega), if_neg (show ¬ (10 < N ∧ 11 = 11) by omega)]
    rw [e1, side_10, side_11 hN]
    simp only [Bool.true_eq_false, and_false, if_false, ite_self, Int.add_zero]
    refine sZ_congr (fun y hy => ?_)
    rw [side_v hN hy]
    cases hu : U y with
    | true => simp
    | false =>
      rw [if_pos (by simp), if_neg (by simp)]
      unfold capZ
      rw [if_neg (show ¬ (10 < N ∧ y < N) by omega), if_pos ⟨rfl, hy⟩]
  unfold capA
  rw [sZ_12 hN (fun x h1 h2 => by rw [side_o h1 (by omega), sZ_congr (g := fun _ => 0) (fun y hy => if_neg (fun z => by cases z.1)), sZ_zero])]
  have row11 : sZ 12 (fun y => if sideU N U 11 = true ∧ sideU N U y = false then capZ N P E Md a b 11 y else 0) = 0 := by
    rw [side_11 hN, sZ_congr (g := fun _ => 0) (fun y hy => if_neg (fun z => by cases z.1)), sZ_zero]
  rw [row10, row11, Int.add_zero, sZ_congr row, ← sZ_add]
  refine sZ_congr (fun x hx => ?_)
  by_cases q : U x = true
  · rw [if_pos q, if_pos q, if_pos q]; omega
  · rw [if_neg q, if_neg q, if_neg q]; omega
theorem dbl (g : Nat → Nat → Int) : ∀ N, (∀ u v, u < N → v < N → g u v = g v u) → (∀ u, u < N → g u u = 0) → sZ N (fun x => sZ N (fun y => g x y)) = 2 * sZ N (fun u => sZ u (fun v => g u v)) := by
  intro N
  induction N with
  | zero => intro _ _; rfl
  | succ N ih =>
    intro h1 h2
    have h3 := ih (fun u v hu hv => h1 u v (by omega) (by omega)) (fun u hu => h2 u (by omega))
    show sZ N (fun x => sZ N (fun y => g x y) + g x N) + (sZ N (fun y => g N y) + g N N) = 2 * (sZ N (fun u => sZ u (fun v => g u v)) + sZ N (fun v => g N v))
    rw [sZ_add, h3, h2 N (by omega), sZ_congr (f := fun x => g x N) (g := fun x => g N x) (fun x hx => h1 x N (by omega) (by omega))]
    omega
theorem wt2 (hN : N ≤ 10) (hG : okG P E Md) (U : Nat → Bool) : 2 * (wt N P E U : Int) = sZ N (fun x => if U x = true then 2 * (E x : Int) + sZ N (fun y => if U y = true then (P x y : Int) else 0) else 0) := by
  have hd := dbl (fun u v => if U u = true ∧ U v = true then (P u v : Int) else 0) N (fun u v hu hv => by
    rw [hG.2.1 u v (by omega) (by omega)]
    by_cases q : U u = true ∧ U v = true
    · rw [if_pos q, if_pos ⟨q.2, q.1⟩]
    · rw [if_neg q, if_neg (fun z => q ⟨z.2, z.1⟩)]) (fun u hu => by
    rw [hG.2.2.1 u (by omega)]; simp)
  have e1 : (wt N P E U : Int) = sZ N (fun u => if U u = true then (E u : Int) else 0) + sZ N (fun u => sZ u (fun v => if U u = true ∧ U v = true then (P u v : Int) else 0)) := by
    unfold wt
    rw [sN_cast, ← sZ_add]
    refine sZ_congr (fun u hu => ?_)
    by_cases q : U u = true
    · simp only [q, if_true, true_and]
      rw [Int.natCast_add, sN_cast]
      congr 1
      refine sZ_congr (fun v hv => ?_)
      by_cases q2 : U v = true <;> simp [q2]
    · simp only [q, if_false, false_and, sZ_zero]; simp [sZ_zero]
  have e2 : sZ N (fun x => if U x = true then 2 * (E x : Int) + sZ N (fun y => if U y = true then (P x y : Int) else 0) else 0) = 2 * sZ N (fun u => if U u = true then (E u : Int) else 0) + sZ N (fun x => sZ N (fun y => if U x = true ∧ U y = true then (P x y : Int) else 0)) := by
    rw [← sZ_mul, ← sZ_add]
    refine sZ_congr (fun x hx => ?_)
    by_cases q : U x = true
    · simp only [q, if_true, true_and]
    · simp [q, sZ_zero]
  rw [e2, hd, e1]; omega
theorem vl2 (hN : N ≤ 10) (hG : okG P E Md) (U : Nat → Bool) : 2 * vl N P E a b U = sZ N (fun x => if U x = true then (a : Int) * (2 * (E x : Int) + sZ N (fun y => if U y = true then (P x y : Int) else 0)) - 2 * (b : Int) else 0) := by
  have h1 : 2 * ((a : Int) * (wt N P E U : Int)) = sZ N (fun x => (a : Int) * (if U x = true then 2 * (E x : Int) + sZ N (fun y => if U y = true then (P x y : Int) else 0) else 0)) := by
    rw [sZ_mul, ← wt2 hN hG U, Int.mul_left_comm]
  have h2 : 2 * ((b : Int) * (sz N U : Int)) = sZ N (fun x => if U x = true then 2 * (b : Int) else 0) := by
    unfold sz
    rw [sN_cast, ← sZ_mul, ← sZ_mul]
    refine sZ_congr (fun x hx => ?_)
    by_cases q : U x = true
    · simp [q]
    · simp [q]
  unfold vl
  rw [Int.mul_sub, h1, h2, ← sZ_sub]
  refine sZ_congr (fun x hx => ?_)
  by_cases q : U x = true
  · simp only [q, if_true]
  · simp [q]
theorem cap_alw (hN : N ≤ 10) (hG : okG P E Md) {U : Nat → Bool} (hU : alw N Md U) : capA (capZ N P E Md a b) (sideU N U) = sZ N (fun x => posZ (amZ N P E a b x)) - 2 * vl N P E a b U := by
  rw [cap_side hN, vl2 hN hG, ← sZ_sub]
  refine sZ_congr (fun x hx => ?_)
  cases q : U x with
  | true =>
    rw [if_pos rfl, if_pos rfl]
    have h1 : sZ N (fun y => if U y = true then 0 else (a : Int) * (P x y : Int)) = (a : Int) * sZ N (fun y => if U y = true then 0 else (P x y : Int)) := by
      rw [← sZ_mul]; exact sZ_congr (fun y hy => by by_cases z : U y = true <;> simp [z])
    have h2 : sZ N (fun w => (P x w : Int)) = sZ N (fun y => if U y = true then (P x y : Int) else 0) + sZ N (fun y => if U y = true then 0 else (P x y : Int)) := by
      rw [← sZ_add]; exact sZ_congr (fun y hy => by by_cases z : U y = true <;> simp [z])
    have h3 : snkZ N P E Md a b x = posZ (amZ N P E a b x) - amZ N P E a b x := if_neg ((hU x hx).1 q)
    rw [h1, h3]
    have h4 : amZ N P E a b x = 2 * ((a : Int) * (E x : Int)) - 2 * (b : Int) + ((a : Int) * sZ N (fun y => if U y = true then (P x y : Int) else 0) + (a : Int) * sZ N (fun y => if U y = true then 0 else (P x y : Int))) := by
      unfold amZ; rw [h2, Int.mul_add]
    have h5 : (a : Int) * (2 * (E x : Int) + sZ N (fun y => if U y = true then (P x y : Int) else 0)) = 2 * ((a : Int) * (E x : Int)) + (a : Int) * sZ N (fun y => if U y = true then (P x y : Int) else 0) := by
      rw [Int.mul_add, Int.mul_left_comm]
    rw [h5]
    omega
  | false =>
    rw [if_neg (by simp), if_neg (by simp)]
    have h3 : srcZ N P E Md a b x = posZ (amZ N P E a b x) := if_neg ((hU x hx).2 q)
    omega
theorem cap_not (hN : N ≤ 10) (hG : okG P E Md) (ha : a ≤ 20) (hb : b ≤ 2000) {U : Nat → Bool} (hU : ¬ alw N Md U) : 1000000 ≤ capA (capZ N P E Md a b) (sideU N U) := by
  rw [cap_side hN]
  have nn : ∀ x, x < N → 0 ≤ sZ N (fun y => if U y = true then 0 else (a : Int) * (P x y : Int)) := fun x hx => sZ_nn (fun y hy => by
    by_cases z : U y = true
    · rw [if_pos z]; omega
    · rw [if_neg z]; exact Int.mul_nonneg (by omega) (by omega))
  have s1 : ∀ x, x < N → 0 ≤ snkZ N P E Md a b x := fun x hx => by
    have := posZ_nn (amZ N P E a b x)
    unfold snkZ; by_cases z : Md x = 2 <;> simp [z] <;> omega
  have s2 : ∀ x, x < N → 0 ≤ srcZ N P E Md a b x := fun x hx => by
    have := posZ_nn (amZ N P E a b x)
    unfold srcZ; by_cases z : Md x = 1 <;> simp [z] <;> omega
  have hv : ∃ v, v < N ∧ ((U v = true ∧ Md v = 2) ∨ (U v = false ∧ Md v = 1)) := by
    apply Classical.byContradiction
    intro q
    exact hU (fun v hv => ⟨fun z1 z2 => q ⟨v, hv, Or.inl ⟨z1, z2⟩⟩, fun z1 z2 => q ⟨v, hv, Or.inr ⟨z1, z2⟩⟩⟩)
  obtain ⟨v, hv, hc⟩ := hv
  have h1 := sZ_one (n := N) (v := v) (f := fun x => if U x = true then (sZ N (fun y => if U y = true then 0 else (a : Int) * (P x y : Int)) + snkZ N P E Md a b x) else srcZ N P E Md a b x) (fun x hx => by
    by_cases z : U x = true
    · rw [if_pos z]; have := nn x hx; have := s1 x hx; omega
    · rw [if_neg z]; exact s2 x hx) hv
  refine Int.le_trans ?_ h1
  rcases hc with ⟨c1, c2⟩ | ⟨c1, c2⟩
  · simp only [c1, if_true]
    have := nn v hv
    have e : snkZ N P E Md a b v = 1000000 := if_pos c2
    omega
  · rw [if_neg (by rw [c1]; simp)]
    have e : srcZ N P E Md a b v = 1000000 := if_pos c2
    omega
end CAP
end
section
section CUTM
variable {N : Nat} {P : Nat → Nat → Nat} {E Md : Nat → Nat} {a b : Nat} {fp fe fm fr : Nat → Int32}
theorem amt_z (hN : N ≤ 10) (hG : okG P E Md) (hD : okD P E Md fp fe fm) (ha : a ≤ 20) (hb : b ≤ 2000) {u : Nat} (hu : u < N) : (amtI fp fe N a b u).toInt = amZ N P E a b u := by
  have hB := am_b hN hG ha hb hu
  unfold amtI
  rw [fS_sum (f := fun v => a * P u v) N 0 _ (fun v acc _ hv => by unfold amF; rw [hD.1 u v (by omega) (by omega), pk_mul]), hD.2.1 u (by omega), pk_mul]
  have e1 : ((2 * a * E u : Nat) : Int) = 2 * ((a : Int) * (E u : Int)) := by rw [Int.natCast_mul, Int.natCast_mul, Int.mul_assoc]; rfl
  have e2 : ((sN N (fun i => a * P u (0 + i)) : Nat) : Int) = (a : Int) * sZ N (fun w => (P u w : Int)) := by
    rw [sN_cast, ← sZ_mul]
    exact sZ_congr (fun i _ => by rw [Nat.zero_add, Int.natCast_mul])
  have t1 : (nI (2 * a * E u)).toInt = ((2 * a * E u : Nat) : Int) := nI_toInt (by omega)
  have t2 : (nI (2 * b)).toInt = ((2 * b : Nat) : Int) := nI_toInt (by omega)
  have t3 : (nI (sN N (fun i => a * P u (0 + i)))).toInt = ((sN N (fun i => a * P u (0 + i)) : Nat) : Int) := nI_toInt (by omega)
  have t4 : (nI (2 * a * E u) - nI (2 * b)).toInt = ((2 * a * E u : Nat) : Int) - ((2 * b : Nat) : Int) := by rw [i32_sub (by omega) (by omega), t1, t2]
  rw [i32_add (by omega) (by omega), t4, t3, e1, e2]
  unfold amZ
  omega
theorem net_rz (hN : N ≤ 10) (hG : okG P E Md) (hD : okD P E Md fp fe fm) (ha : a ≤ 20) (hb : b ≤ 2000) (h : netO fp fe fm N a b N fr) : ∀ x y, x < 12 → y < 12 → rz fr x y = capZ N P E Md a b x y := by
  intro x y hx hy
  have hmd : ∀ v, v < N → ∀ k, k ≤ 2 → (fm v = nI k ↔ Md v = k) := fun v hv k hk => by
    rw [hD.2.2 v (by omega), nI_eq (by have := hG.2.2.2.2 v (by omega); omega) (by omega)]
  have am0 : ∀ v, v < N → (amtI fp fe N a b v ≤ 0 ↔ amZ N P E a b v ≤ 0) := fun v hv => by
    rw [Int32.le_iff_toInt_le, amt_z hN hG hD ha hb hv, Int32.toInt_zero]
  unfold rz
  by_cases hd : x < N ∨ (x = 10 ∧ y < N)
  · rw [(h x y hx hy).1 hd]
    unfold capI capZ
    by_cases c1 : x < N ∧ y < N
    · rw [if_pos c1, if_pos c1, hD.1 x y (by omega) (by omega), pk_mul]
      have h2 : a * P x y ≤ 20 * 20 := Nat.mul_le_mul ha (hG.1 x y (by omega) (by omega))
      rw [nI_toInt (by omega), Int.natCast_mul]
    · rw [if_neg c1, if_neg c1]
      by_cases c2 : x = 10 ∧ y < N
      · rw [if_pos c2, if_pos c2]
        unfold srcI srcZ posZ
        by_cases q : Md y = 1
        · rw [if_pos ((hmd y c2.2 1 (by omega)).mpr q), if_pos q]; decide
        · rw [if_neg (fun z => q ((hmd y c2.2 1 (by omega)).mp z)), if_neg q]
          by_cases q2 : amZ N P E a b y ≤ 0
          · rw [if_pos ((am0 y c2.2).mpr q2), if_pos q2]; decide
          · rw [if_neg (fun z => q2 ((am0 y c2.2).mp z)), if_neg q2]; exact amt_z hN hG hD ha hb c2.2
      · rw [if_neg c2, if_neg c2]
        by_cases c3 : x < N ∧ y = 11
        · rw [if_pos c3, if_pos c3]
          have hB := am_b hN hG ha hb c3.1
          unfold snkI snkZ posZ
          by_cases q : Md x = 2
          · rw [if_pos ((hmd x c3.1 2 (by omega)).mpr q), if_pos q]; decide
          · rw [if_neg (fun z => q ((hmd x c3.1 2 (by omega)).mp z)), if_neg q]
            by_cases q2 : amZ N P E a b x ≤ 0
            · rw [if_pos ((am0 x c3.1).mpr q2), if_pos q2]
              have := amt_z hN hG hD ha hb c3.1
              rw [Int32.toInt_neg, this, Int.bmod_eq_of_le (by omega) (by omega)]; omega
            · rw [if_neg (fun z => q2 ((am0 x c3.1).mp z)), if_neg q2, Int32.toInt_zero]; omega
        · rw [if_neg c3, if_neg c3]; rfl
  · rw [(h x y hx hy).2 hd]
    unfold capZ
    rw [if_neg (by omega), if_neg (by omega), if_neg (by omega)]; rfl
/-- WHAT A CUT IS: the largest of the allowed sets of greatest value -/
def cutSpec (N : Nat) (P : Nat → Nat → Nat) (E Md : Nat → Nat) (a b k : Nat) : Prop := k < 2 ^ N ∧ AJ N Md k ∧ ∀ U : Nat → Bool, alw N Md U → vl N P E a b U ≤ vl N P E a b (bt (nI k)) ∧ (vl N P E a b U = vl N P E a b (bt (nI k)) → ∀ v, v < N → U v = true → k.testBit v = true)
theorem vl_b (hN : N ≤ 10) (hG : okG P E Md) (ha : a ≤ 20) (hb : b ≤ 2000) (U : Nat → Bool) : -20000 ≤ vl N P E a b U ∧ vl N P E a b U ≤ 22000 := by
  have h1 : a * wt N P E U ≤ 20 * 1100 := Nat.mul_le_mul ha (wt_le hN hG U)
  have h2 : b * sz N U ≤ 2000 * 10 := Nat.mul_le_mul hb (Nat.le_trans (sz_le N U) hN)
  have e1 : ((a * wt N P E U : Nat) : Int) = (a : Int) * (wt N P E U : Int) := Int.natCast_mul _ _
  have e2 : ((b * sz N U : Nat) : Int) = (b : Int) * (sz N U : Int) := Int.natCast_mul _ _
  unfold vl
  omega
theorem cut_math {r : Nat → Nat → Int} {vis : Nat → Bool} {lev pr : Nat → Nat} {k : Nat} {V : Nat → Prop} (hN : N ≤ 10) (hG : okG P E Md) (ha : a ≤ 20) (hb : b ≤ 2000) (hf : flI N (capZ N P E Md a b) r)
    (v1 : V 10) (v2 : ¬ V 11) (v3 : ∀ x y, x < 12 → y < 12 → V x → 0 < r x y → V y) (hB : bfsE (fun y x => (x < N ∨ 10 ≤ x) ∧ 0 < r x y) 11 vis lev pr) (hk : k < 2 ^ N) (hbit : ∀ v, v < N → k.testBit v = !vis v) : cutSpec N P E Md a b k := by
  have h10 : vis 10 = false := by
    cases hv : vis 10 with
    | false => rfl
    | true => exact absurd v1 (bfs_apart hB v2 (fun x y hx hy e c => v3 y x hy hx c e.2) (lev 10) 10 (by omega) hv (Nat.le_refl _))
  have hbt : ∀ v, v < N → bt (nI k) v = !vis v := fun v hv => by rw [bt_nI (by omega)]; exact hbit v hv
  have hres : capA r (sideU N (bt (nI k))) = 0 := by
    unfold capA
    rw [sZ_congr (g := fun _ => 0) (fun x hx => ?_), sZ_zero]
    rw [sZ_congr (g := fun _ => 0) (fun y hy => ?_), sZ_zero]
    by_cases q : sideU N (bt (nI k)) x = true ∧ sideU N (bt (nI k)) y = false
    · rw [if_pos q]
      apply Classical.byContradiction
      intro hne
      have hp : 0 < r x y := by have := hf.1 x y hx hy; omega
      obtain ⟨n1, n2⟩ := hf.2.2.2 x y hx hy hp
      have vx : vis x = false := by
        by_cases e : x = 10
        · rw [e]; exact h10
        · rcases n1 with n1 | n1
          · have := q.1; rw [side_v hN n1, hbt x n1] at this; simpa using this
          · have := q.1; rw [side_o (by omega) e] at this; cases this
      have vy : vis y = true := by
        by_cases e : y = 11
        · rw [e]; exact hB.1.2.1
        · rcases n2 with n2 | n2
          · have := q.2; rw [side_v hN n2, hbt y n2] at this; simpa using this
          · have e2 : y = 10 := by omega
            have := q.2; rw [e2, side_10] at this; cases this
      have := (hB.2.2.2 y hy vy x hx ⟨n1, hp⟩).1
      rw [vx] at this; cases this
    · rw [if_neg q]
  have hval := mincut hf (side_10 N (bt (nI k))) (side_11 hN (bt (nI k)))
  rw [hres] at hval
  have hge : ∀ U : Nat → Bool, 0 ≤ capA r (sideU N U) := fun U => sZ_nn (fun x hx => sZ_nn (fun y hy => by
    by_cases q : sideU N U x = true ∧ sideU N U y = false
    · rw [if_pos q]; exact hf.1 x y hx hy
    · rw [if_neg q]; omega))
  have hall : alw N Md (fun v => decide (Md v ≠ 2)) := fun v hv => ⟨fun q => by simpa using q, fun q => by
    have : Md v = 2 := by simpa using q
    omega⟩
  have hK : sZ N (fun x => posZ (amZ N P E a b x)) ≤ 48000 := by
    have h1 : sZ N (fun x => posZ (amZ N P E a b x)) ≤ sZ N (fun _ => ((4800 : Nat) : Int)) := sZ_le (fun x hx => by
      have := am_b hN hG ha hb hx
      unfold posZ
      by_cases z : amZ N P E a b x ≤ 0
      · rw [if_pos z]; omega
      · rw [if_neg z]; omega)
    rw [← sN_cast, sN_const] at h1
    omega
  have hk2 : alw N Md (bt (nI k)) := by
    apply Classical.byContradiction
    intro q
    have h1 := cap_not hN hG ha hb q
    have h2 := mincut hf (side_10 N (fun v => decide (Md v ≠ 2))) (side_11 hN (fun v => decide (Md v ≠ 2)))
    have h3 := hge (fun v => decide (Md v ≠ 2))
    rw [cap_alw hN hG hall] at h2
    have h4 := vl_b hN hG ha hb (fun v => decide (Md v ≠ 2))
    omega
  refine ⟨hk, hk2, fun U hU => ?_⟩
  have h2 := mincut hf (side_10 N U) (side_11 hN U)
  rw [cap_alw hN hG hU] at h2
  rw [cap_alw hN hG hk2] at hval
  have h3 := hge U
  refine ⟨by omega, fun he v hv huv => ?_⟩
  have h4 : capA r (sideU N U) = 0 := by omega
  have hz : ∀ x y, x < 12 → y < 12 → sideU N U x = true → sideU N U y = false → r x y = 0 := fun x y hx hy s1 s2 => by
    have g1 := sZ_0all (fun x hx => sZ_nn (fun y hy => by
      by_cases q : sideU N U x = true ∧ sideU N U y = false
      · rw [if_pos q]; exact hf.1 x y hx hy
      · rw [if_neg q]; omega)) h4 x hx
    have g2 := sZ_0all (fun y hy => by
      by_cases q : sideU N U x = true ∧ sideU N U y = false
      · rw [if_pos q]; exact hf.1 x y hx hy
      · rw [if_neg q]; omega) g1 y hy
    simp only [s1, s2, and_self, if_true] at g2
    exact g2
  rw [hbit v hv]
  cases hvv : vis v with
  | false => rfl
  | true =>
    exfalso
    have := bfs_apart (C := fun x => sideU N U x = true) hB (by rw [side_11 hN]; simp) (fun x y hx hy e c => by
      cases hs : sideU N U x with
      | true => rfl
      | false => have := hz y x hy hx c hs; have := e.2; omega) (lev v) v (by omega) hvv (Nat.le_refl _)
    exact this (by show sideU N U v = true; rw [side_v hN hv]; exact huv)
end CUTM
end
section
/-- a mask by its bits below v -/
def bitsInv (f : Nat → Bool) (v K : Nat) : Prop := K < 2 ^ v ∧ ∀ w, w < v → K.testBit w = f w
theorem bits_0 (f : Nat → Bool) : bitsInv f 0 0 := ⟨by decide, fun w hw => by omega⟩
theorem bits_no {f : Nat → Bool} {v K : Nat} (h : bitsInv f v K) (hf : f v = false) : bitsInv f (v + 1) K := by
  refine ⟨Nat.lt_of_lt_of_le h.1 (Nat.pow_le_pow_right (by omega) (by omega)), fun w hw => ?_⟩
  by_cases he : w = v
  · rw [he, hf]; exact Nat.testBit_lt_two_pow h.1
  · exact h.2 w (by omega)
theorem bits_yes {f : Nat → Bool} {v K : Nat} (h : bitsInv f v K) (hf : f v = true) : bitsInv f (v + 1) (K ||| 2 ^ v) := by
  refine ⟨Nat.or_lt_two_pow (Nat.lt_of_lt_of_le h.1 (Nat.pow_le_pow_right (by omega) (by omega))) (Nat.pow_lt_pow_right (by omega) (by omega)), fun w hw => ?_⟩
  rw [Nat.testBit_or, Nat.testBit_two_pow]
  by_cases he : w = v
  · rw [he, hf, decide_eq_true rfl]; simp
  · rw [h.2 w (by omega), decide_eq_false (fun q => he q.symm)]; simp
def lkB (fb : Nat → Int32) (vis : Nat → Bool) : Prop := ∀ a, a < 12 → fb a = if vis a = true then nI 1 else nI 0
theorem lkB_vis {fb : Nat → Int32} {vis : Nat → Bool} {y : Nat} (h : lkB fb vis) (hy : y < 12) (q : ¬ fb y = 0) : vis y = true := by
  cases hv : vis y with
  | true => rfl
  | false => exact absurd (by rw [h y hy, hv]; rfl) q
theorem lkB_nvis {fb : Nat → Int32} {vis : Nat → Bool} {y : Nat} (h : lkB fb vis) (hy : y < 12) (q : fb y = 0) : vis y = false := by
  cases hv : vis y with
  | false => rfl
  | true => rw [h y hy, hv] at q; exact absurd q (by decide)
theorem lkB_push {fb : Nat → Int32} {vis : Nat → Bool} {y : Nat} (h : lkB fb vis) : lkB (upd fb y (nI 1)) (va_up vis y true) := by
  intro a ha
  by_cases he : a = y
  · subst he; rw [up_self, pk_us, if_pos rfl]
  · rw [up_ne he, pk_un he]; exact h a ha
def edB (N : Nat) (fr : Nat → Int32) (y x : Nat) : Prop := (x < N ∨ 10 ≤ x) ∧ 0 < rz fr x y
set_option maxHeartbeats 4000000 in
set_option maxRecDepth 100000 in
theorem lp_cutA {p : Program} {l : Launch} {e : Env} {s : State} {m : MethodId} {args : Array Value} {below : List Frame} {meth : Method} {c : Code} {Q : State → Prop} {g : GD} {A : Nat → Prop} {H0 : Heap} (hA : ∀ q, H0.size ≤ q → A q) (X : CallFix p m c b_D_cut 8 s args tb R_D) {N : Nat} (hN : N ≤ 10) {cs bt bb bs : Int32} {fp fe fm : Nat → Int32} {fb : Nat → Int32} {cz : Nat → Nat → Int} (hc : ∀ x y, x < 12 → y < 12 → cz x y + cz y x ≤ 2000000) (K0 : ∀ (fr fc fq : Nat → Int32) (vis : Nat → Bool) (lev pr : Nat → Nat) (H : Heap) (locs : List Loc) (ls : Array Slot), flI N cz (rz fr) → bfsE (edF N fr) 10 vis lev pr → vis 11 = false → WD g A H0 (nI N, fp, fe, fm, fr, fc, fq, fb, cs, bt, bb, bs) s H locs → lv_has ls 8 [(0, .ref (g.2.1 0))] → W p l e rm_D_cut s m args below meth c H locs 0 0 Q (F0 m 41 ls [])) :
    ∀ (k i : Nat) (r : Int32) (fr fc fq : Nat → Int32) (H : Heap) (locs : List Loc) (ls : Array Slot), i + k < 4000 → flI N cz (rz fr) → potI (rz fr) k → fwP N fr fc r → WD g A H0 (nI N, fp, fe, fm, fr, fc, fq, fb, cs, bt, bb, bs) s H locs → lv_has ls 8 [(0, .ref (g.2.1 0)), (3, .int r), (4, .int (nI i))] → W p l e rm_D_cut s m args below meth c H locs 0 0 Q (F0 m 14 ls []) := by
  obtain ⟨hx, hb, hml, hown, htl⟩ := id X
  have htw : ∀ n : Nat, n ≤ 100000 → n < 2 ^ 31 := fun n h => by omega
  intro k
  induction k with
  | zero =>
    intro i r fr fc fq H locs ls hik hf hp hfw h hl
    obtain ⟨vis, lev, pr, hE, hC, hrr⟩ := hfw
    rcases hrr with ⟨h11, rfl⟩ | ⟨h11, rfl⟩
    · obtain ⟨pt, L, hP, hf2, k2, hk2, hp2⟩ := aug hf hc hE hC h11 hp
      omega
    · refine lv_iload hx hb d_D_cut_14 (lv_at hl 2 rfl) ?_
      refine lv_sipush (v := nI 4000) hx hb d_D_cut_16 (by decide) ?_
      refine n_icmp_ge (tgt := 41) hx hb (by omega) (by omega) d_D_cut_19 (by decide) (fun c19 => ?_) (fun c19 => ?_)
      · exact absurd c19 (by omega)
      · refine lv_iload_n hx hb d_D_cut_22 rfl (lv_at hl 1 rfl) ?_
        refine lv_if_eq (tgt := 41) hx hb d_D_cut_23 (by decide) (fun c23 => ?_) (fun c23 => ?_)
        · exact K0 _ _ _ _ _ _ _ _ _ hf hE h11 h (lv_sub hl [0] rfl)
        · exact absurd c23 (by decide)
  | succ k ih =>
    intro i r fr fc fq H locs ls hik hf hp hfw h hl
    obtain ⟨vis, lev, pr, hE, hC, hrr⟩ := hfw
    rcases hrr with ⟨h11, rfl⟩ | ⟨h11, rfl⟩
    · obtain ⟨pt, L, hP, hf2, k2, hk2, hp2⟩ := aug hf hc hE hC h11 hp
      obtain rfl : k = k2 := by omega
      refine lv_iload hx hb d_D_cut_14 (lv_at hl 2 rfl) ?_
      refine lv_sipush (v := nI 4000) hx hb d_D_cut_16 (by decide) ?_
      refine n_icmp_ge (tgt := 41) hx hb (by omega) (by omega) d_D_cut_19 (by decide) (fun c19 => ?_) (fun c19 => ?_)
      · exact absurd c19 (by omega)
      · refine lv_iload_n hx hb d_D_cut_22 rfl (lv_at hl 1 rfl) ?_
        refine lv_if_eq (tgt := 41) hx hb d_D_cut_23 (by decide) (fun c23 => ?_) (fun c23 => ?_)
        · exact absurd c23 (by decide)
        · refine lv_aload_n hx hb d_D_cut_26 rfl (lv_at hl 0 rfl) ?_
          refine callVD (rest := []) X hl.1 (c_D_send l g hP) e_ml_D_D_send e_im_D_send e_se_D_send e_co_D_send hd_D_send ⟨rfl, rfl⟩ ⟨Nat.le_of_ble_eq_true rfl, Nat.le_of_ble_eq_true rfl⟩ hA h rfl rfl (Nat.le_of_ble_eq_true rfl) ⟨Nat.zero_le _, Nat.zero_le _⟩ d_D_cut_27 (fun u27 H locs q27 h => ?_)
          subst q27
          refine lv_aload_n hx hb d_D_cut_30 rfl (lv_at hl 0 rfl) ?_
          refine callWD (rest := []) X hl.1 (c_D_findWay l g hN) e_ml_D_D_findWay e_im_D_findWay e_se_D_findWay e_co_D_findWay hd_D_findWay ⟨rfl, rfl⟩ ⟨Nat.le_of_ble_eq_true rfl, Nat.le_of_ble_eq_true rfl⟩ hA h rfl rfl (Nat.le_of_ble_eq_true rfl) ⟨Nat.zero_le _, Nat.zero_le _⟩ d_D_cut_31 (fun r31 u31 H locs q31 h => ?_)
          obtain ⟨fc2, fq2, hfw, rfl⟩ := q31
          refine lv_istore_n (lv' := [(3, .int r31), (0, .ref (g.2.1 0)), (4, .int (nI i))]) hx hb d_D_cut_34 rfl hl (by decide) rfl (fun ls hl => ?_)
          refine lv_iinc (v := nI (i + 1)) (lv' := [(4, .int (nI (i + 1))), (3, .int r31), (0, .ref (g.2.1 0))]) hx hb d_D_cut_35 hl (k := 2) rfl (inc1 i) (by decide) rfl (fun ls hl => ?_)
          refine lv_goto (tgt := 14) hx hb d_D_cut_38 (by decide) ?_
          exact ih _ _ _ _ _ _ _ _ (by omega) hf2 hp2 hfw h (lv_sub hl [2, 1, 0] rfl)
    · refine lv_iload hx hb d_D_cut_14 (lv_at hl 2 rfl) ?_
      refine lv_sipush (v := nI 4000) hx hb d_D_cut_16 (by decide) ?_
      refine n_icmp_ge (tgt := 41) hx hb (by omega) (by omega) d_D_cut_19 (by decide) (fun c19 => ?_) (fun c19 => ?_)
      · exact absurd c19 (by omega)
      · refine lv_iload_n hx hb d_D_cut_22 rfl (lv_at hl 1 rfl) ?_
        refine lv_if_eq (tgt := 41) hx hb d_D_cut_23 (by decide) (fun c23 => ?_) (fun c23 => ?_)
        · exact K0 _ _ _ _ _ _ _ _ _ hf hE h11 h (lv_sub hl [0] rfl)
        · exact absurd c23 (by decide)

set_option maxHeartbeats 4000000 in
set_option maxRecDepth 100000 in
theorem lp_cutB {p : Program} {l : Launch} {e : Env} {s : State} {m : MethodId} {args : Array Value} {below : List Frame} {meth : Method} {c : Code} {Q : State → Prop} {g : GD} {A : Nat → Prop} {H0 : Heap} (X : CallFix p m c b_D_cut 8 s args tb R_D) {N : Nat} (hN : N ≤ 10) {cs bt bb bs : Int32} {fp fe fm : Nat → Int32} {fr fc fq : Nat → Int32} (K0 : ∀ (fb : Nat → Int32) (H : Heap) (locs : List Loc) (ls : Array Slot), (∀ a, a < 12 → fb a = if a = 11 then nI 1 else nI 0) → WD g A H0 (nI N, fp, fe, fm, fr, fc, fq, fb, cs, bt, bb, bs) s H locs → lv_has ls 8 [(0, .ref (g.2.1 0))] → W p l e rm_D_cut s m args below meth c H locs 0 0 Q (F0 m 76 ls [])) :
    ∀ (k i : Nat) (fb : Nat → Int32) (H : Heap) (locs : List Loc) (ls : Array Slot), i + k = 12 → (∀ a, a < i → fb a = if a = 11 then nI 1 else nI 0) → WD g A H0 (nI N, fp, fe, fm, fr, fc, fq, fb, cs, bt, bb, bs) s H locs → lv_has ls 8 [(0, .ref (g.2.1 0)), (4, .int (nI i))] → W p l e rm_D_cut s m args below meth c H locs 0 0 Q (F0 m 44 ls []) := by
  obtain ⟨hx, hb, hml, hown, htl⟩ := id X
  have htw : ∀ n : Nat, n ≤ 100000 → n < 2 ^ 31 := fun n h => by omega
  intro k
  induction k with
  | zero =>
    intro i fb H locs ls hk hi h hl
    refine lv_iload hx hb d_D_cut_44 (lv_at hl 1 rfl) ?_
    refine lv_bipush (v := nI 12) hx hb d_D_cut_46 (by decide) ?_
    refine n_icmp_ge (tgt := 76) hx hb (by omega) (by omega) d_D_cut_48 (by decide) (fun c48 => ?_) (fun c48 => ?_)
    · exact K0 _ _ _ _ (fun a ha => hi a (by omega)) h (lv_sub hl [0] rfl)
    · exact absurd c48 (by omega)
  | succ k ih =>
    intro i fb H locs ls hk hi h hl
    refine lv_iload hx hb d_D_cut_44 (lv_at hl 1 rfl) ?_
    refine lv_bipush (v := nI 12) hx hb d_D_cut_46 (by decide) ?_
    refine n_icmp_ge (tgt := 76) hx hb (by omega) (by omega) d_D_cut_48 (by decide) (fun c48 => ?_) (fun c48 => ?_)
    · exact absurd c48 (by omega)
    · refine lv_aload_n hx hb d_D_cut_51 rfl (lv_at hl 0 rfl) ?_
      refine gD_reaches X h.1 d_D_cut_52 ?_
      refine lv_iload hx hb d_D_cut_55 (lv_at hl 1 rfl) ?_
      refine lv_iload hx hb d_D_cut_57 (lv_at hl 1 rfl) ?_
      refine lv_bipush (v := nI 11) hx hb d_D_cut_59 (by decide) ?_
      refine n_icmp_ne (tgt := 68) hx hb (by omega) (by omega) d_D_cut_61 (by decide) (fun c61 => ?_) (fun c61 => ?_)
      · refine lv_iconst (v := nI 0) hx hb d_D_cut_68 (by decide) ?_
        refine st_fb (i := i) X h (by omega) nr0 d_D_cut_69 (fun H locs h => ?_)
        refine lv_iinc (v := nI (i + 1)) (lv' := [(4, .int (nI (i + 1))), (0, .ref (g.2.1 0))]) hx hb d_D_cut_70 hl (k := 1) rfl (inc1 i) (by decide) rfl (fun ls hl => ?_)
        refine lv_goto (tgt := 44) hx hb d_D_cut_73 (by decide) ?_
        exact ih _ _ _ _ _ (by omega) (fun a ha => by
          by_cases he : a = i
          · rw [he, pk_us]; first | rw [if_pos c61] | rw [if_neg c61]
          · rw [pk_un he]; exact hi a (by omega))
          h (lv_sub hl [1, 0] rfl)
      · refine lv_iconst (v := nI 1) hx hb d_D_cut_64 (by decide) ?_
        refine lv_goto (tgt := 69) hx hb d_D_cut_65 (by decide) ?_
        refine st_fb (i := i) X h (by omega) nr1 d_D_cut_69 (fun H locs h => ?_)
        refine lv_iinc (v := nI (i + 1)) (lv' := [(4, .int (nI (i + 1))), (0, .ref (g.2.1 0))]) hx hb d_D_cut_70 hl (k := 1) rfl (inc1 i) (by decide) rfl (fun ls hl => ?_)
        refine lv_goto (tgt := 44) hx hb d_D_cut_73 (by decide) ?_
        exact ih _ _ _ _ _ (by omega) (fun a ha => by
          by_cases he : a = i
          · rw [he, pk_us]; first | rw [if_pos c61] | rw [if_neg c61]
          · rw [pk_un he]; exact hi a (by omega))
          h (lv_sub hl [1, 0] rfl)

set_option maxHeartbeats 4000000 in
set_option maxRecDepth 100000 in
theorem lp_cut_in {p : Program} {l : Launch} {e : Env} {s : State} {m : MethodId} {args : Array Value} {below : List Frame} {meth : Method} {c : Code} {Q : State → Prop} {g : GD} {A : Nat → Prop} {H0 : Heap} (X : CallFix p m c b_D_cut 8 s args tb R_D) {N : Nat} (hN : N ≤ 10) {cs bt bb bs : Int32} {fp fe fm : Nat → Int32} {fr fc : Nat → Int32} {i w : Nat} (hw12 : w < 12) (K0 : ∀ (vis : Nat → Bool) (qn lev pr : Nat → Nat) (en : Nat) (fb fq : Nat → Int32) (H : Heap) (locs : List Loc) (ls : Array Slot), bfsJ (edB N fr) 11 vis qn lev pr i en 12 → lkB fb vis → lkQ fq qn en → WD g A H0 (nI N, fp, fe, fm, fr, fc, fq, fb, cs, bt, bb, bs) s H locs → lv_has ls 8 [(0, .ref (g.2.1 0)), (4, .int (nI en)), (5, .int (nI i))] → W p l e rm_D_cut s m args below meth c H locs 0 0 Q (F0 m 184 ls [])) :
    ∀ (k y : Nat) (vis : Nat → Bool) (qn lev pr : Nat → Nat) (en : Nat) (fb fq : Nat → Int32) (H : Heap) (locs : List Loc) (ls : Array Slot), y + k = 12 → qn i = w → bfsJ (edB N fr) 11 vis qn lev pr i en y → lkB fb vis → lkQ fq qn en → WD g A H0 (nI N, fp, fe, fm, fr, fc, fq, fb, cs, bt, bb, bs) s H locs → lv_has ls 8 [(0, .ref (g.2.1 0)), (4, .int (nI en)), (5, .int (nI i)), (6, .int (nI w)), (7, .int (nI y))] → W p l e rm_D_cut s m args below meth c H locs 0 0 Q (F0 m 116 ls []) := by
  obtain ⟨hx, hb, hml, hown, htl⟩ := id X
  have htw : ∀ n : Nat, n ≤ 100000 → n < 2 ^ 31 := fun n h => by omega
  intro k
  induction k with
  | zero =>
    intro y vis qn lev pr en fb fq H locs ls hk hwq hJ hB hQ h hl
    have hen12 := bfs_en hJ.1
    have hie := hJ.2.1
    refine lv_iload hx hb d_D_cut_116 (lv_at hl 4 rfl) ?_
    refine lv_bipush (v := nI 12) hx hb d_D_cut_118 (by decide) ?_
    refine n_icmp_ge (tgt := 184) hx hb (by omega) (by omega) d_D_cut_120 (by decide) (fun c120 => ?_) (fun c120 => ?_)
    · obtain rfl : y = 12 := by omega
      exact K0 _ _ _ _ _ _ _ _ _ _ hJ hB hQ h (lv_sub hl [0, 1, 2] rfl)
    · exact absurd c120 (by omega)
  | succ k ih =>
    intro y vis qn lev pr en fb fq H locs ls hk hwq hJ hB hQ h hl
    have hen12 := bfs_en hJ.1
    have hie := hJ.2.1
    refine lv_iload hx hb d_D_cut_116 (lv_at hl 4 rfl) ?_
    refine lv_bipush (v := nI 12) hx hb d_D_cut_118 (by decide) ?_
    refine n_icmp_ge (tgt := 184) hx hb (by omega) (by omega) d_D_cut_120 (by decide) (fun c120 => ?_) (fun c120 => ?_)
    · exact absurd c120 (by omega)
    · refine lv_aload_n hx hb d_D_cut_123 rfl (lv_at hl 0 rfl) ?_
      refine lv_iload hx hb d_D_cut_124 (lv_at hl 4 rfl) ?_
      refine callRD (rest := []) X hl.1 (c_D_isNode l g hN (y := y) (by omega)) e_ml_D_D_isNode e_im_D_isNode e_se_D_isNode e_co_D_isNode hd_D_isNode ⟨rfl, rfl⟩ ⟨Nat.le_of_ble_eq_true rfl, Nat.le_of_ble_eq_true rfl⟩ h.1 rfl rfl (Nat.le_of_ble_eq_true rfl) ⟨Nat.zero_le _, Nat.zero_le _⟩ d_D_cut_126 (fun r126 hr126 => ?_)
      rcases hr126 with ⟨nd, rfl⟩ | ⟨nd, rfl⟩
      · refine lv_if_eq (tgt := 178) hx hb d_D_cut_129 (by decide) (fun c129 => ?_) (fun c129 => ?_)
        · exact absurd c129 (by decide)
        · refine lv_aload_n hx hb d_D_cut_132 rfl (lv_at hl 0 rfl) ?_
          refine gD_reaches X h.1 d_D_cut_133 ?_
          refine lv_iload hx hb d_D_cut_136 (lv_at hl 4 rfl) ?_
          refine ld_fb (i := y) X h.1 (by omega) d_D_cut_138 ?_
          refine lv_if_ne (tgt := 178) hx hb d_D_cut_139 (by decide) (fun c139 => ?_) (fun c139 => ?_)
          · refine lv_iinc (v := nI (y + 1)) (lv' := [(7, .int (nI (y + 1))), (0, .ref (g.2.1 0)), (4, .int (nI en)), (5, .int (nI i)), (6, .int (nI w))]) hx hb d_D_cut_178 hl (k := 4) rfl (inc1 y) (by decide) rfl (fun ls hl => ?_)
            refine lv_goto (tgt := 116) hx hb d_D_cut_181 (by decide) ?_
            exact ih _ _ _ _ _ _ _ _ _ _ _ (by omega) hwq (bfs_skip hJ (by omega) (by first | exact Or.inl (fun q => nd q.1) | exact Or.inl (fun q => pos_iff.mpr q.2 (by rw [hwq]; exact c155)) | exact Or.inr (lkB_vis hB (by omega) c139))) hB hQ h (lv_sub hl [1, 2, 3, 4, 0] rfl)
          · refine lv_aload_n hx hb d_D_cut_142 rfl (lv_at hl 0 rfl) ?_
            refine gD_residual X h.1 d_D_cut_143 ?_
            refine lv_iload hx hb d_D_cut_146 (lv_at hl 4 rfl) ?_
            refine lv_bipush (v := nI 12) hx hb d_D_cut_148 (by decide) ?_
            refine n_imul hx hb d_D_cut_150 ?_
            refine lv_iload hx hb d_D_cut_151 (lv_at hl 3 rfl) ?_
            refine n_iadd hx hb d_D_cut_153 ?_
            refine ld_fr (i := y * 12 + w) X h.1 (by omega) d_D_cut_154 ?_
            refine lv_if_le (tgt := 178) hx hb d_D_cut_155 (by decide) (fun c155 => ?_) (fun c155 => ?_)
            · refine lv_iinc (v := nI (y + 1)) (lv' := [(7, .int (nI (y + 1))), (0, .ref (g.2.1 0)), (4, .int (nI en)), (5, .int (nI i)), (6, .int (nI w))]) hx hb d_D_cut_178 hl (k := 4) rfl (inc1 y) (by decide) rfl (fun ls hl => ?_)
              refine lv_goto (tgt := 116) hx hb d_D_cut_181 (by decide) ?_
              exact ih _ _ _ _ _ _ _ _ _ _ _ (by omega) hwq (bfs_skip hJ (by omega) (by first | exact Or.inl (fun q => nd q.1) | exact Or.inl (fun q => pos_iff.mpr q.2 (by rw [hwq]; exact c155)) | exact Or.inr (lkB_vis hB (by omega) c139))) hB hQ h (lv_sub hl [1, 2, 3, 4, 0] rfl)
            · have hvf : vis y = false := lkB_nvis hB (by omega) c139
              have hen := bfs_room hJ.1 (show y < 12 by omega) hvf
              refine lv_aload_n hx hb d_D_cut_158 rfl (lv_at hl 0 rfl) ?_
              refine gD_reaches X h.1 d_D_cut_159 ?_
              refine lv_iload hx hb d_D_cut_162 (lv_at hl 4 rfl) ?_
              refine lv_iconst (v := nI 1) hx hb d_D_cut_164 (by decide) ?_
              refine st_fb (i := y) X h (by omega) nr1 d_D_cut_165 (fun H locs h => ?_)
              refine lv_aload_n hx hb d_D_cut_166 rfl (lv_at hl 0 rfl) ?_
              refine gD_queue X h.1 d_D_cut_167 ?_
              refine lv_iload hx hb d_D_cut_170 (lv_at hl 1 rfl) ?_
              refine lv_iload hx hb d_D_cut_172 (lv_at hl 4 rfl) ?_
              refine st_fq (i := en) X h (by omega) d_D_cut_174 (fun H locs h => ?_)
              refine lv_iinc (v := nI (en + 1)) (lv' := [(4, .int (nI (en + 1))), (0, .ref (g.2.1 0)), (5, .int (nI i)), (6, .int (nI w)), (7, .int (nI y))]) hx hb d_D_cut_175 hl (k := 1) rfl (inc1 en) (by decide) rfl (fun ls hl => ?_)
              refine lv_iinc (v := nI (y + 1)) (lv' := [(7, .int (nI (y + 1))), (4, .int (nI (en + 1))), (0, .ref (g.2.1 0)), (5, .int (nI i)), (6, .int (nI w))]) hx hb d_D_cut_178 hl (k := 4) rfl (inc1 y) (by decide) rfl (fun ls hl => ?_)
              refine lv_goto (tgt := 116) hx hb d_D_cut_181 (by decide) ?_
              exact ih _ _ _ _ _ _ _ _ _ _ _ (by omega) (by rw [up_ne (by have := hJ.2.1; omega)]; exact hwq) (bfs_push hJ (by omega) hvf ⟨nd, by rw [hwq]; exact pos_iff.mp c155⟩) (lkB_push hB) (lkQ_push hQ) h (lv_sub hl [2, 1, 3, 4, 0] rfl)
      · refine lv_if_eq (tgt := 178) hx hb d_D_cut_129 (by decide) (fun c129 => ?_) (fun c129 => ?_)
        · refine lv_iinc (v := nI (y + 1)) (lv' := [(7, .int (nI (y + 1))), (0, .ref (g.2.1 0)), (4, .int (nI en)), (5, .int (nI i)), (6, .int (nI w))]) hx hb d_D_cut_178 hl (k := 4) rfl (inc1 y) (by decide) rfl (fun ls hl => ?_)
          refine lv_goto (tgt := 116) hx hb d_D_cut_181 (by decide) ?_
          exact ih _ _ _ _ _ _ _ _ _ _ _ (by omega) hwq (bfs_skip hJ (by omega) (by first | exact Or.inl (fun q => nd q.1) | exact Or.inl (fun q => pos_iff.mpr q.2 (by rw [hwq]; exact c155)) | exact Or.inr (lkB_vis hB (by omega) c139))) hB hQ h (lv_sub hl [1, 2, 3, 4, 0] rfl)
        · exact absurd c129 (by decide)

set_option maxHeartbeats 4000000 in
set_option maxRecDepth 100000 in
theorem lp_cut_out {p : Program} {l : Launch} {e : Env} {s : State} {m : MethodId} {args : Array Value} {below : List Frame} {meth : Method} {c : Code} {Q : State → Prop} {g : GD} {A : Nat → Prop} {H0 : Heap} (X : CallFix p m c b_D_cut 8 s args tb R_D) {N : Nat} (hN : N ≤ 10) {cs bt bb bs : Int32} {fp fe fm : Nat → Int32} {fr fc : Nat → Int32} (K0 : ∀ (vis : Nat → Bool) (lev pr : Nat → Nat) (fb fq : Nat → Int32) (H : Heap) (locs : List Loc) (ls : Array Slot), bfsE (edB N fr) 11 vis lev pr → lkB fb vis → WD g A H0 (nI N, fp, fe, fm, fr, fc, fq, fb, cs, bt, bb, bs) s H locs → lv_has ls 8 [(0, .ref (g.2.1 0))] → W p l e rm_D_cut s m args below meth c H locs 0 0 Q (F0 m 190 ls [])) :
    ∀ (k i : Nat) (vis : Nat → Bool) (qn lev pr : Nat → Nat) (en : Nat) (fb fq : Nat → Int32) (H : Heap) (locs : List Loc) (ls : Array Slot), 12 ≤ i + k → bfsI (edB N fr) 11 vis qn lev pr i en → lkB fb vis → lkQ fq qn en → WD g A H0 (nI N, fp, fe, fm, fr, fc, fq, fb, cs, bt, bb, bs) s H locs → lv_has ls 8 [(0, .ref (g.2.1 0)), (4, .int (nI en)), (5, .int (nI i))] → W p l e rm_D_cut s m args below meth c H locs 0 0 Q (F0 m 90 ls []) := by
  obtain ⟨hx, hb, hml, hown, htl⟩ := id X
  have htw : ∀ n : Nat, n ≤ 100000 → n < 2 ^ 31 := fun n h => by omega
  intro k
  induction k with
  | zero =>
    intro i vis qn lev pr en fb fq H locs ls hk hI hB hQ h hl
    have hen12 := bfs_en hI
    have hie := hI.2.2.2.2.2.2.2.2.2
    refine lv_iload hx hb d_D_cut_90 (lv_at hl 2 rfl) ?_
    refine lv_iload hx hb d_D_cut_92 (lv_at hl 1 rfl) ?_
    refine n_icmp_ge (tgt := 190) hx hb (by omega) (by omega) d_D_cut_94 (by decide) (fun c94 => ?_) (fun c94 => ?_)
    · exact K0 _ _ _ _ _ _ _ _ (bfs_done hI (by omega)) hB h (lv_sub hl [0] rfl)
    · exact absurd c94 (by omega)
  | succ k ih =>
    intro i vis qn lev pr en fb fq H locs ls hk hI hB hQ h hl
    have hen12 := bfs_en hI
    have hie := hI.2.2.2.2.2.2.2.2.2
    refine lv_iload hx hb d_D_cut_90 (lv_at hl 2 rfl) ?_
    refine lv_iload hx hb d_D_cut_92 (lv_at hl 1 rfl) ?_
    refine n_icmp_ge (tgt := 190) hx hb (by omega) (by omega) d_D_cut_94 (by decide) (fun c94 => ?_) (fun c94 => ?_)
    · exact K0 _ _ _ _ _ _ _ _ (bfs_done hI (by omega)) hB h (lv_sub hl [0] rfl)
    · refine lv_iload hx hb d_D_cut_97 (lv_at hl 2 rfl) ?_
      refine lv_bipush (v := nI 12) hx hb d_D_cut_99 (by decide) ?_
      refine n_icmp_ge (tgt := 190) hx hb (by omega) (by omega) d_D_cut_101 (by decide) (fun c101 => ?_) (fun c101 => ?_)
      · exact K0 _ _ _ _ _ _ _ _ (bfs_done hI (by omega)) hB h (lv_sub hl [0] rfl)
      · refine lv_aload_n hx hb d_D_cut_104 rfl (lv_at hl 0 rfl) ?_
        refine gD_queue X h.1 d_D_cut_105 ?_
        refine lv_iload hx hb d_D_cut_108 (lv_at hl 2 rfl) ?_
        refine ld_fq (i := i) X h.1 (by omega) d_D_cut_110 ?_
        refine tp_i (y := nI (qn i)) (hQ i (by omega)) ?_
        refine lv_istore (lv' := [(6, .int (nI (qn i))), (0, .ref (g.2.1 0)), (4, .int (nI en)), (5, .int (nI i))]) hx hb d_D_cut_111 hl (by decide) rfl (fun ls hl => ?_)
        refine lv_iconst (v := nI 0) hx hb d_D_cut_113 (by decide) ?_
        refine lv_istore (lv' := [(7, .int (nI 0)), (6, .int (nI (qn i))), (0, .ref (g.2.1 0)), (4, .int (nI en)), (5, .int (nI i))]) hx hb d_D_cut_114 hl (by decide) rfl (fun ls hl => ?_)
        refine lp_cut_in X hN (i := i) (w := qn i) (hI.2.1 i (by omega)).1 (fun vis qn lev pr en fb fq H locs ls hJ hB hQ h hl => ?_) 12 0 _ _ _ _ _ _ _ _ _ _ (by omega) rfl (bfs_in hI (by omega)) hB hQ h (lv_sub hl [2, 3, 4, 1, 0] rfl)
        refine lv_iinc (v := nI (i + 1)) (lv' := [(5, .int (nI (i + 1))), (0, .ref (g.2.1 0)), (4, .int (nI en))]) hx hb d_D_cut_184 hl (k := 2) rfl (inc1 i) (by decide) rfl (fun ls hl => ?_)
        refine lv_goto (tgt := 90) hx hb d_D_cut_187 (by decide) ?_
        exact ih _ _ _ _ _ _ _ _ _ _ _ (by omega) (bfs_next hJ) hB hQ h (lv_sub hl [1, 2, 0] rfl)

set_option maxHeartbeats 4000000 in
set_option maxRecDepth 100000 in
theorem lp_cutC {p : Program} {l : Launch} {e : Env} {s : State} {m : MethodId} {args : Array Value} {below : List Frame} {meth : Method} {c : Code} {Q : State → Prop} {g : GD} {A : Nat → Prop} {H0 : Heap} (X : CallFix p m c b_D_cut 8 s args tb R_D) {N : Nat} (hN : N ≤ 10) {bt bb bs : Int32} {fp fe fm : Nat → Int32} {fr fc fq fb : Nat → Int32} {vis : Nat → Bool} (hB : lkB fb vis) (K0 : ∀ (K : Nat) (H : Heap) (locs : List Loc) (ls : Array Slot), bitsInv (fun w => !vis w) N K → WD g A H0 (nI N, fp, fe, fm, fr, fc, fq, fb, nI K, bt, bb, bs) s H locs → W p l e rm_D_cut s m args below meth c H locs 0 0 Q (F0 m 236 ls [])) :
    ∀ (k v : Nat) (K : Nat) (H : Heap) (locs : List Loc) (ls : Array Slot), v + k = N → bitsInv (fun w => !vis w) v K → WD g A H0 (nI N, fp, fe, fm, fr, fc, fq, fb, nI K, bt, bb, bs) s H locs → lv_has ls 8 [(0, .ref (g.2.1 0)), (5, .int (nI v))] → W p l e rm_D_cut s m args below meth c H locs 0 0 Q (F0 m 198 ls []) := by
  obtain ⟨hx, hb, hml, hown, htl⟩ := id X
  have htw : ∀ n : Nat, n ≤ 100000 → n < 2 ^ 31 := fun n h => by omega
  intro k
  induction k with
  | zero =>
    intro v K H locs ls hk hi h hl
    refine lv_iload hx hb d_D_cut_198 (lv_at hl 1 rfl) ?_
    refine lv_aload_n hx hb d_D_cut_200 rfl (lv_at hl 0 rfl) ?_
    refine gD_n X h.1 d_D_cut_201 ?_
    refine n_icmp_ge (tgt := 236) hx hb (by omega) (by omega) d_D_cut_204 (by decide) (fun c204 => ?_) (fun c204 => ?_)
    · obtain rfl : v = N := by omega
      exact K0 _ _ _ _ hi h
    · exact absurd c204 (by omega)
  | succ k ih =>
    intro v K H locs ls hk hi h hl
    refine lv_iload hx hb d_D_cut_198 (lv_at hl 1 rfl) ?_
    refine lv_aload_n hx hb d_D_cut_200 rfl (lv_at hl 0 rfl) ?_
    refine gD_n X h.1 d_D_cut_201 ?_
    refine n_icmp_ge (tgt := 236) hx hb (by omega) (by omega) d_D_cut_204 (by decide) (fun c204 => ?_) (fun c204 => ?_)
    · exact absurd c204 (by omega)
    · refine lv_aload_n hx hb d_D_cut_207 rfl (lv_at hl 0 rfl) ?_
      refine gD_reaches X h.1 d_D_cut_208 ?_
      refine lv_iload hx hb d_D_cut_211 (lv_at hl 1 rfl) ?_
      refine ld_fb (i := v) X h.1 (by omega) d_D_cut_213 ?_
      refine lv_if_ne (tgt := 230) hx hb d_D_cut_214 (by decide) (fun c214 => ?_) (fun c214 => ?_)
      · refine lv_iinc (v := nI (v + 1)) (lv' := [(5, .int (nI (v + 1))), (0, .ref (g.2.1 0))]) hx hb d_D_cut_230 hl (k := 1) rfl (inc1 v) (by decide) rfl (fun ls hl => ?_)
        refine lv_goto (tgt := 198) hx hb d_D_cut_233 (by decide) ?_
        exact ih _ _ _ _ _ (by omega) (bits_no hi (by rw [lkB_vis hB (by omega) c214]; rfl)) h (lv_sub hl [1, 0] rfl)
      · refine lv_aload_n hx hb d_D_cut_217 rfl (lv_at hl 0 rfl) ?_
        refine lv_dup hx hb d_D_cut_218 rfl ?_
        refine gD_cutSet X h.1 d_D_cut_219 ?_
        refine lv_iconst (v := nI 1) hx hb d_D_cut_222 (by decide) ?_
        refine lv_iload hx hb d_D_cut_223 (lv_at hl 1 rfl) ?_
        refine lv_ishl hx hb d_D_cut_225 ?_
        refine tp_i (y := nI (2 ^ v)) (shl1 v (by omega)) ?_
        refine lv_ior hx hb d_D_cut_226 ?_
        refine tp_i (y := nI (K ||| 2 ^ v)) (nI_or K (2 ^ v)) ?_
        refine pD_cutSet X h d_D_cut_227 (fun H locs h => ?_)
        refine lv_iinc (v := nI (v + 1)) (lv' := [(5, .int (nI (v + 1))), (0, .ref (g.2.1 0))]) hx hb d_D_cut_230 hl (k := 1) rfl (inc1 v) (by decide) rfl (fun ls hl => ?_)
        refine lv_goto (tgt := 198) hx hb d_D_cut_233 (by decide) ?_
        exact ih _ _ _ _ _ (by omega) (bits_yes hi (by rw [lkB_nvis hB (by omega) c214]; rfl)) h (lv_sub hl [1, 0] rfl)

set_option maxHeartbeats 4000000 in
set_option maxRecDepth 100000 in
theorem c_D_cut (l : Launch) (g : GD) {N : Nat} (hN : N ≤ 10) {cs bt bb bs : Int32} {fp fe fm fr fc fq fb : Nat → Int32} {P : Nat → Nat → Nat} {E Md : Nat → Nat} (hG : okG P E Md) (hD : okD P E Md fp fe fm) {a b : Nat} (ha : a ≤ 20) (hb2 : b ≤ 2000) : CVD l y_D_cut (.code y_D_cut b_D_cut 8 none) rm_D_cut g (nI N, fp, fe, fm, fr, fc, fq, fb, cs, bt, bb, bs) [.int (nI a), .int (nI b)] (fun u2 => ∃ fr2 fc2 fq2 fb2 k, cutSpec N P E Md a b k ∧ u2 = (nI N, fp, fe, fm, fr2, fc2, fq2, fb2, nI k, bt, bb, bs)) := by
  refine mkVD (by decide) (Nat.le_of_ble_eq_true rfl) ?_
  intro p e s m below meth c ls X hr hlk h hl
  obtain ⟨hx, hb, hml, hown, htl⟩ := id X
  have hl : lv_has ls 8 [(0, .ref (g.2.1 0)), (1, .int (nI a)), (2, .int (nI b))] := hl
  refine lv_aload_n hx hb d_D_cut_0 rfl (lv_at hl 0 rfl) ?_
  refine lv_iload_n hx hb d_D_cut_1 rfl (lv_at hl 1 rfl) ?_
  refine lv_iload_n hx hb d_D_cut_2 rfl (lv_at hl 2 rfl) ?_
  refine callVD (rest := []) X hl.1 (c_D_build l g hN ha hb2) e_ml_D_D_build e_im_D_build e_se_D_build e_co_D_build hd_D_build ⟨rfl, rfl⟩ ⟨Nat.le_of_ble_eq_true rfl, Nat.le_of_ble_eq_true rfl⟩ hA_of h rfl rfl (Nat.le_of_ble_eq_true rfl) ⟨Nat.zero_le _, Nat.zero_le _⟩ d_D_cut_3 (fun u3 H locs q3 h => ?_)
  obtain ⟨fr0, hnet, rfl⟩ := q3
  refine lv_aload_n hx hb d_D_cut_6 rfl (lv_at hl 0 rfl) ?_
  refine callWD (rest := []) X hl.1 (c_D_findWay l g hN) e_ml_D_D_findWay e_im_D_findWay e_se_D_findWay e_co_D_findWay hd_D_findWay ⟨rfl, rfl⟩ ⟨Nat.le_of_ble_eq_true rfl, Nat.le_of_ble_eq_true rfl⟩ hA_of h rfl rfl (Nat.le_of_ble_eq_true rfl) ⟨Nat.zero_le _, Nat.zero_le _⟩ d_D_cut_7 (fun r7 u7 H locs q7 h => ?_)
  obtain ⟨fc2, fq2, hfw, rfl⟩ := q7
  refine lv_istore_n (lv' := [(3, .int r7), (0, .ref (g.2.1 0)), (1, .int (nI a)), (2, .int (nI b))]) hx hb d_D_cut_10 rfl hl (by decide) rfl (fun ls hl => ?_)
  refine lv_iconst (v := nI 0) hx hb d_D_cut_11 (by decide) ?_
  refine lv_istore (lv' := [(4, .int (nI 0)), (3, .int r7), (0, .ref (g.2.1 0)), (1, .int (nI a)), (2, .int (nI b))]) hx hb d_D_cut_12 hl (by decide) rfl (fun ls hl => ?_)
  have hrz := net_rz hN hG hD ha hb2 hnet
  refine lp_cutA (cz := capZ N P E Md a b) hA_of X hN (fun x y _ _ => by have h1 := cap_b hN hG ha hb2 x y; have h2 := cap_b hN hG ha hb2 y x; omega) (fun fr fc fq visS levS prS H locs ls hf hE h11 h hl => ?_) 1740 0 _ _ _ _ _ _ _ (by omega) (flI_congr hrz (flI_0 hN hG ha hb2)) (pot_0 _) hfw h (lv_sub hl [2, 1, 0] rfl)
  refine lv_iconst (v := nI 0) hx hb d_D_cut_41 (by decide) ?_
  refine lv_istore (lv' := [(4, .int (nI 0)), (0, .ref (g.2.1 0))]) hx hb d_D_cut_42 hl (by decide) rfl (fun ls hl => ?_)
  refine lp_cutB X hN (fun fb H locs ls hfb h hl => ?_) 12 0 _ _ _ _ (by omega) lt_0 h (lv_sub hl [1, 0] rfl)
  refine lv_aload_n hx hb d_D_cut_76 rfl (lv_at hl 0 rfl) ?_
  refine gD_queue X h.1 d_D_cut_77 ?_
  refine lv_iconst (v := nI 0) hx hb d_D_cut_80 (by decide) ?_
  refine lv_bipush (v := nI 11) hx hb d_D_cut_81 (by decide) ?_
  refine st_fq (i := 0) X h (by omega) d_D_cut_83 (fun H locs h => ?_)
  refine lv_iconst (v := nI 1) hx hb d_D_cut_84 (by decide) ?_
  refine lv_istore (lv' := [(4, .int (nI 1)), (0, .ref (g.2.1 0))]) hx hb d_D_cut_85 hl (by decide) rfl (fun ls hl => ?_)
  refine lv_iconst (v := nI 0) hx hb d_D_cut_87 (by decide) ?_
  refine lv_istore (lv' := [(5, .int (nI 0)), (4, .int (nI 1)), (0, .ref (g.2.1 0))]) hx hb d_D_cut_88 hl (by decide) rfl (fun ls hl => ?_)
  refine lp_cut_out X hN (fun vis lev pr fb fq H locs ls hE2 hB h hl => ?_) 12 0 (fun a => decide (a = 11)) (fun _ => 11) (fun _ => 0) (fun _ => 11) 1 _ _ _ _ _ (by omega) (bfs_0 (by omega) (fun a _ => by simp) rfl rfl) (fun a ha => ?_) (fun j hj => ?_) h (lv_sub hl [2, 1, 0] rfl)
  · refine lv_aload_n hx hb d_D_cut_190 rfl (lv_at hl 0 rfl) ?_
    refine lv_iconst (v := nI 0) hx hb d_D_cut_191 (by decide) ?_
    refine pD_cutSet X h d_D_cut_192 (fun H locs h => ?_)
    refine lv_iconst (v := nI 0) hx hb d_D_cut_195 (by decide) ?_
    refine lv_istore (lv' := [(5, .int (nI 0)), (0, .ref (g.2.1 0))]) hx hb d_D_cut_196 hl (by decide) rfl (fun ls hl => ?_)
    refine lp_cutC X hN hB (fun K H locs ls hi h => ?_) N 0 0 _ _ _ (by omega) (bits_0 _) h (lv_sub hl [1, 0] rfl)
    refine endVD X hr hlk h ⟨_, _, _, _, K, cut_math (V := fun x => visS x = true) hN hG ha hb2 hf hE.1.2.1 (by rw [h11]; simp) (fun x y hx hy q1 q2 => (hE.2.2.2 x hx q1 y hy ⟨(hf.2.2.2 x y hx hy q2).2, pos_iff.mpr q2⟩).1) hE2 hi.1 hi.2, rfl⟩ d_D_cut_236
  · rw [hfb a ha]; by_cases he : a = 11 <;> simp [he]
  · rw [show j = 0 from by omega]; exact pk_us
end
section
/-! densities -/
section DINK
variable {N : Nat} {P : Nat → Nat → Nat} {E Md : Nat → Nat}
theorem bt_hi {N k v : Nat} (hk : k < 2 ^ N) (hv : N ≤ v) : bt (nI k) v = false := by
  rcases Nat.lt_or_ge v 32 with q | q
  · rw [bt_nI q]; exact Nat.testBit_lt_two_pow (Nat.lt_of_lt_of_le hk (Nat.pow_le_pow_right (by omega) hv))
  · exact b_big q
theorem mem10 (hN : N ≤ 10) {k : Nat} (hk : k < 2 ^ N) : membersI 10 (nI k) = nI (SJ N k) := by
  rw [membersI_eq (by omega)]
  congr 1
  have := sz_10 (N := N) (A := bt (nI k)) (fun v hv => bt_hi hk hv) (10 - N)
  rw [show N + (10 - N) = 10 from by omega] at this
  exact this
theorem sN_eq {n : Nat} {f g : Nat → Nat} (h : ∀ i, i < n → f i ≤ g i) (he : sN n f = sN n g) : ∀ i, i < n → f i = g i := by
  intro i hi
  have h1 := h i hi
  rcases Nat.lt_or_ge (f i) (g i) with q | q
  · have := sN_lt h hi q; omega
  · omega
/-- every denser allowed set is smaller -/
def DP (N : Nat) (P : Nat → Nat → Nat) (E Md : Nat → Nat) (k : Nat) : Prop := ∀ U : Nat → Bool, alw N Md U → WJ N P E k * sz N U < wt N P E U * SJ N k → sz N U < SJ N k
theorem dp_all {K : Nat} (hN : N ≤ 10) (h : bitsInv (fun v => decide (Md v ≠ 2)) N K) : AJ N Md K ∧ DP N P E Md K := by
  have hb : ∀ v, v < N → bt (nI K) v = decide (Md v ≠ 2) := fun v hv => by rw [bt_nI (by omega)]; exact h.2 v hv
  refine ⟨fun v hv => ?_, fun U hU hlt => ?_⟩
  · rw [hb v hv]
    exact ⟨fun q => by simpa using q, fun q => by
      have : Md v = 2 := by simpa using q
      omega⟩
  · have hle : ∀ v, v < N → (if U v = true then 1 else 0) ≤ (if bt (nI K) v = true then 1 else 0) := fun v hv => by
      by_cases q : U v = true
      · have q2 : bt (nI K) v = true := by rw [hb v hv]; simpa using (hU v hv).1 q
        rw [if_pos q, if_pos q2]; exact Nat.le_refl _
      · rw [if_neg q]; omega
    have h1 : sz N U ≤ SJ N K := sN_le hle
    rcases Nat.lt_or_ge (sz N U) (SJ N K) with q | q
    · exact q
    · exfalso
      have h2 : sz N U = SJ N K := by omega
      have h3 := sN_eq hle h2
      have h4 : ∀ v, v < N → U v = bt (nI K) v := fun v hv => by
        have := h3 v hv
        cases q1 : U v <;> cases q2 : bt (nI K) v <;> simp [q1, q2] at this <;> rfl
      have h5 : wt N P E U = WJ N P E K := wt_congr h4
      rw [h2, h5] at hlt
      omega
theorem red {w s : Nat} (hs : 1 ≤ s) : ∃ g, 1 ≤ g ∧ w = g * (w / Nat.gcd w s) ∧ s = g * (s / Nat.gcd w s) ∧ 1 ≤ s / Nat.gcd w s := by
  have hg : 0 < Nat.gcd w s := Nat.gcd_pos_of_pos_right w hs
  refine ⟨Nat.gcd w s, hg, (Nat.mul_div_cancel' (Nat.gcd_dvd_left w s)).symm, (Nat.mul_div_cancel' (Nat.gcd_dvd_right w s)).symm, ?_⟩
  exact Nat.div_pos (Nat.le_of_dvd hs (Nat.gcd_dvd_right w s)) hg
/-- the sign of a value at a set's own density -/
theorem vl_sgn {w s wU sU g t q : Nat} (hg : 1 ≤ g) (h1 : w = g * t) (h2 : s = g * q) : (0 < (q : Int) * (wU : Int) - (t : Int) * (sU : Int) ↔ w * sU < wU * s) ∧ ((q : Int) * (wU : Int) - (t : Int) * (sU : Int) = 0 ↔ w * sU = wU * s) := by
  have e1 : w * sU = g * (t * sU) := by rw [h1, Nat.mul_assoc]
  have e2 : wU * s = g * (q * wU) := by rw [h2, Nat.mul_comm wU, Nat.mul_assoc]
  have c1 : ((q * wU : Nat) : Int) = (q : Int) * (wU : Int) := Int.natCast_mul _ _
  have c2 : ((t * sU : Nat) : Int) = (t : Int) * (sU : Int) := Int.natCast_mul _ _
  rw [e1, e2]
  constructor
  · rw [Nat.mul_lt_mul_left (by omega)]; omega
  · constructor
    · intro h; rw [show t * sU = q * wU from by omega]
    · intro h; have := Nat.eq_of_mul_eq_mul_left (by omega) h; omega
theorem dp_step {k M0 t q : Nat} (hM : DP N P E Md M0) (hs : 1 ≤ SJ N M0) (ht : t = WJ N P E M0 / Nat.gcd (WJ N P E M0) (SJ N M0)) (hq : q = SJ N M0 / Nat.gcd (WJ N P E M0) (SJ N M0)) (hc : cutSpec N P E Md q t k) (hv : 0 < vl N P E q t (bt (nI k))) : SJ N k < SJ N M0 ∧ DP N P E Md k := by
  obtain ⟨g, g1, g2, g3, g4⟩ := red (w := WJ N P E M0) hs
  rw [← ht] at g2
  rw [← hq] at g3 g4
  refine ⟨hM _ hc.2.1 ((vl_sgn g1 g2 g3).1.mp hv), fun U hU hlt => ?_⟩
  have h1 := (hc.2.2 U hU).1
  unfold vl at h1 hv
  have h2 : ((WJ N P E k * sz N U : Nat) : Int) < ((wt N P E U * SJ N k : Nat) : Int) := by omega
  rw [Int.natCast_mul, Int.natCast_mul] at h2
  have e1 : (WJ N P E k : Int) = (wt N P E (bt (nI k)) : Int) := rfl
  have e2 : (SJ N k : Int) = (sz N (bt (nI k)) : Int) := rfl
  rw [e1, e2] at h2
  have e3 : SJ N k = sz N (bt (nI k)) := rfl
  rw [e3]
  generalize wt N P E (bt (nI k)) = W at h1 h2 hv
  generalize sz N (bt (nI k)) = K at h1 h2 hv ⊢
  generalize sz N U = S at h1 h2 ⊢
  generalize wt N P E U = X at h1 h2
  have q0 : (0 : Int) < (q : Int) := by omega
  have m1 : (q : Int) * ((W : Int) * (S : Int)) < (q : Int) * ((X : Int) * (K : Int)) := Int.mul_lt_mul_of_pos_left h2 q0
  have m2 : (K : Int) * ((q : Int) * (X : Int)) ≤ (K : Int) * (((q : Int) * (W : Int) - (t : Int) * (K : Int)) + (t : Int) * (S : Int)) := Int.mul_le_mul_of_nonneg_left (by omega) (by omega)
  have m3 : ((q : Int) * (W : Int) - (t : Int) * (K : Int)) * (S : Int) < ((q : Int) * (W : Int) - (t : Int) * (K : Int)) * (K : Int) := by
    have r1 : ((q : Int) * (W : Int) - (t : Int) * (K : Int)) * (S : Int) = (q : Int) * ((W : Int) * (S : Int)) - (t : Int) * (K : Int) * (S : Int) := by rw [Int.sub_mul, Int.mul_assoc]
    have r2 : (K : Int) * (((q : Int) * (W : Int) - (t : Int) * (K : Int)) + (t : Int) * (S : Int)) = ((q : Int) * (W : Int) - (t : Int) * (K : Int)) * (K : Int) + (t : Int) * (K : Int) * (S : Int) := by
      rw [Int.mul_add, Int.mul_comm (K : Int) ((q : Int) * (W : Int) - (t : Int) * (K : Int)), Int.mul_left_comm, Int.mul_assoc]
    have r3 : (q : Int) * ((X : Int) * (K : Int)) = (K : Int) * ((q : Int) * (X : Int)) := by rw [Int.mul_comm (X : Int), Int.mul_left_comm]
    omega
  have m4 := Int.lt_of_mul_lt_mul_left m3 (by omega)
  omega
theorem frac_eq {x y z w : Nat} (hy : 1 ≤ y) (hw : 1 ≤ w) (h : x * w = z * y) : x / Nat.gcd x y = z / Nat.gcd z w ∧ y / Nat.gcd x y = w / Nat.gcd z w := by
  have c1 : Nat.gcd (x / Nat.gcd x y) (y / Nat.gcd x y) = 1 := Nat.coprime_div_gcd_div_gcd (Nat.gcd_pos_of_pos_right x hy)
  have c2 : Nat.gcd (z / Nat.gcd z w) (w / Nat.gcd z w) = 1 := Nat.coprime_div_gcd_div_gcd (Nat.gcd_pos_of_pos_right z hw)
  obtain ⟨g, g1, g2, g3, g4⟩ := red (w := x) hy
  obtain ⟨f, f1, f2, f3, f4⟩ := red (w := z) hw
  generalize x / Nat.gcd x y = x1 at c1 g2 g3 g4 ⊢
  generalize y / Nat.gcd x y = y1 at c1 g2 g3 g4 ⊢
  generalize z / Nat.gcd z w = z1 at c2 f2 f3 f4 ⊢
  generalize w / Nat.gcd z w = w1 at c2 f2 f3 f4 ⊢
  subst g2 g3 f2 f3
  have e : x1 * w1 = z1 * y1 := by
    have h1 : (g * f) * (x1 * w1) = (g * f) * (z1 * y1) := by
      calc (g * f) * (x1 * w1) = g * x1 * (f * w1) := by rw [Nat.mul_mul_mul_comm]
        _ = f * z1 * (g * y1) := h
        _ = (g * f) * (z1 * y1) := by rw [Nat.mul_mul_mul_comm, Nat.mul_comm f g]
    exact Nat.eq_of_mul_eq_mul_left (Nat.mul_pos (by omega) (by omega)) h1
  have d1 : y1 ∣ w1 := by
    have : y1 ∣ x1 * w1 := ⟨z1, by rw [e, Nat.mul_comm]⟩
    exact Nat.Coprime.dvd_of_dvd_mul_left (show Nat.Coprime y1 x1 by rw [Nat.Coprime, Nat.gcd_comm]; exact c1) this
  have d2 : w1 ∣ y1 := by
    have : w1 ∣ z1 * y1 := ⟨x1, by rw [← e, Nat.mul_comm]⟩
    exact Nat.Coprime.dvd_of_dvd_mul_left (show Nat.Coprime w1 z1 by rw [Nat.Coprime, Nat.gcd_comm]; exact c2) this
  have ey : y1 = w1 := Nat.dvd_antisymm d1 d2
  subst ey
  exact ⟨Nat.eq_of_mul_eq_mul_right (by omega) e, rfl⟩
/-- what solve leaves: M0 of greatest density, k the union of all such sets -/
def solP (N : Nat) (P : Nat → Nat → Nat) (E Md : Nat → Nat) (M0 k : Nat) : Prop := 1 ≤ M0 ∧ M0 < 2 ^ N ∧ AJ N Md M0 ∧ cutSpec N P E Md (SJ N M0 / Nat.gcd (WJ N P E M0) (SJ N M0)) (WJ N P E M0 / Nat.gcd (WJ N P E M0) (SJ N M0)) k ∧ ¬ 0 < vl N P E (SJ N M0 / Nat.gcd (WJ N P E M0) (SJ N M0)) (WJ N P E M0 / Nat.gcd (WJ N P E M0) (SJ N M0)) (bt (nI k))
theorem sol_top {M0 k B T K : Nat} (hN : N ≤ 10) (h : solP N P E Md M0 k) (ho : oneInv N P E Md (2 ^ N) B T K) : B ≠ 0 ∧ 1 ≤ SJ N M0 ∧ 1 ≤ SJ N B ∧ AJ N Md B ∧ B < 2 ^ N ∧ WJ N P E M0 * SJ N B = WJ N P E B * SJ N M0 := by
  obtain ⟨h1, h2, h3, h4, h5⟩ := h
  have hs := SJ_pos hN h1 h2
  rcases ho with ⟨o1, o2, o3, o4⟩ | ⟨o1, o2, o3, o4, o5, o6, o7⟩
  · exact absurd h3 (o4 M0 h1 h2)
  · obtain ⟨g, g1, g2, g3, g4⟩ := red (w := WJ N P E M0) hs
    have k1 := o7 M0 h1 h2 h3
    rw [o4, o5] at k1
    have k2 := (h4.2.2 (bt (nI B)) o3).1
    have k3 : ¬ WJ N P E M0 * SJ N B < WJ N P E B * SJ N M0 := fun q => by
      have := (vl_sgn (wU := WJ N P E B) (sU := SJ N B) g1 g2 g3).1.mpr q
      have e : 0 < vl N P E (SJ N M0 / Nat.gcd (WJ N P E M0) (SJ N M0)) (WJ N P E M0 / Nat.gcd (WJ N P E M0) (SJ N M0)) (bt (nI B)) := this
      omega
    exact ⟨by omega, hs, by omega, o3, o2, by omega⟩
theorem sol_dens {M0 k B T K : Nat} (hN : N ≤ 10) (h : solP N P E Md M0 k) (ho : oneInv N P E Md (2 ^ N) B T K) : B ≠ 0 ∧ WJ N P E M0 / Nat.gcd (WJ N P E M0) (SJ N M0) = WJ N P E B / Nat.gcd (WJ N P E B) (SJ N B) ∧ SJ N M0 / Nat.gcd (WJ N P E M0) (SJ N M0) = SJ N B / Nat.gcd (WJ N P E B) (SJ N B) := by
  obtain ⟨a1, a2, a3, a4, a5, a6⟩ := sol_top hN h ho
  exact ⟨a1, frac_eq a2 a3 a6⟩
theorem mask_ext {x y : Nat} (hx : x < 2 ^ N) (hy : y < 2 ^ N) (h : ∀ v, v < N → (x.testBit v = true ↔ y.testBit v = true)) : x = y := by
  apply Nat.eq_of_testBit_eq
  intro v
  rcases Nat.lt_or_ge v N with q | q
  · have := h v q
    cases q1 : x.testBit v <;> cases q2 : y.testBit v <;> simp [q1, q2] at this <;> rfl
  · rw [Nat.testBit_lt_two_pow (Nat.lt_of_lt_of_le hx (Nat.pow_le_pow_right (by omega) q)), Nat.testBit_lt_two_pow (Nat.lt_of_lt_of_le hy (Nat.pow_le_pow_right (by omega) q))]
theorem sol_set {M0 k B T K R0 : Nat} (hN : N ≤ 10) (h : solP N P E Md M0 k) (ho : oneInv N P E Md (2 ^ N) B T K) (hr : orInv N (denC N P E Md B) (2 ^ N) R0) : R0 = k := by
  obtain ⟨a1, a2, a3, a4, a5, a6⟩ := sol_top hN h ho
  obtain ⟨h1, h2, h3, h4, h5⟩ := h
  obtain ⟨g, g1, g2, g3, g4⟩ := red (w := WJ N P E M0) a2
  have sgn := fun j : Nat => vl_sgn (wU := WJ N P E j) (sU := SJ N j) g1 g2 g3
  have v0 : vl N P E (SJ N M0 / Nat.gcd (WJ N P E M0) (SJ N M0)) (WJ N P E M0 / Nat.gcd (WJ N P E M0) (SJ N M0)) (bt (nI M0)) = 0 := (sgn M0).2.mpr rfl
  have vk : vl N P E (SJ N M0 / Nat.gcd (WJ N P E M0) (SJ N M0)) (WJ N P E M0 / Nat.gcd (WJ N P E M0) (SJ N M0)) (bt (nI k)) = 0 := by
    have := (h4.2.2 (bt (nI M0)) h3).1
    omega
  have sub : ∀ j, j < 2 ^ N → AJ N Md j → WJ N P E M0 * SJ N j = WJ N P E j * SJ N M0 → ∀ v, v < N → j.testBit v = true → k.testBit v = true := fun j hj hA he v hv hb => by
    have e0 : vl N P E (SJ N M0 / Nat.gcd (WJ N P E M0) (SJ N M0)) (WJ N P E M0 / Nat.gcd (WJ N P E M0) (SJ N M0)) (bt (nI j)) = 0 := (sgn j).2.mpr he
    exact (h4.2.2 (bt (nI j)) hA).2 (by rw [e0, vk]) v hv (by rw [bt_nI (by omega)]; exact hb)
  refine mask_ext hr.1 h4.1 (fun v hv => ?_)
  rw [hr.2 v]
  constructor
  · rintro ⟨j, j1, ⟨j2, j3, j4⟩, j5⟩
    refine sub j j1 j3 ?_ v hv j5
    refine Nat.eq_of_mul_eq_mul_right (show 0 < SJ N B by omega) ?_
    calc WJ N P E M0 * SJ N j * SJ N B = (WJ N P E M0 * SJ N B) * SJ N j := Nat.mul_right_comm _ _ _
      _ = (WJ N P E B * SJ N M0) * SJ N j := by rw [a6]
      _ = (WJ N P E B * SJ N j) * SJ N M0 := Nat.mul_right_comm _ _ _
      _ = (WJ N P E j * SJ N B) * SJ N M0 := by rw [j4]
      _ = WJ N P E j * SJ N M0 * SJ N B := Nat.mul_right_comm _ _ _
  · intro hb
    have ek : WJ N P E M0 * SJ N k = WJ N P E k * SJ N M0 := (sgn k).2.mp vk
    refine ⟨k, h4.1, ⟨?_, h4.2.1, ?_⟩, hb⟩
    · apply Classical.byContradiction
      intro q
      rw [show k = 0 from by omega, Nat.zero_testBit] at hb
      cases hb
    · refine Nat.eq_of_mul_eq_mul_right (show 0 < SJ N M0 by omega) ?_
      calc WJ N P E k * SJ N B * SJ N M0 = (WJ N P E k * SJ N M0) * SJ N B := Nat.mul_right_comm _ _ _
        _ = (WJ N P E M0 * SJ N k) * SJ N B := by rw [ek]
        _ = (WJ N P E M0 * SJ N B) * SJ N k := Nat.mul_right_comm _ _ _
        _ = (WJ N P E B * SJ N M0) * SJ N k := by rw [a6]
        _ = WJ N P E B * SJ N k * SJ N M0 := Nat.mul_right_comm _ _ _
theorem bit_of {j : Nat} (h1 : 1 ≤ j) (h2 : j < 2 ^ N) : ∃ v, v < N ∧ j.testBit v = true := by
  apply Classical.byContradiction
  intro hc
  have : j = 0 := mask_ext (N := N) h2 (Nat.two_pow_pos N) (fun v hv => ⟨fun q => absurd ⟨v, hv, q⟩ hc, fun q => by rw [Nat.zero_testBit] at q; cases q⟩)
  omega
theorem none_alw {j : Nat} (hN : N ≤ 10) (h : ∀ v, v < N → Md v = 2) (h1 : 1 ≤ j) (h2 : j < 2 ^ N) : ¬ AJ N Md j := by
  intro hA
  obtain ⟨v, hv, hb⟩ := bit_of h1 h2
  exact (hA v hv).1 (by rw [bt_nI (by omega)]; exact hb) (h v hv)
theorem none_one {B T K : Nat} (hN : N ≤ 10) (h : ∀ v, v < N → Md v = 2) (ho : oneInv N P E Md (2 ^ N) B T K) : B = 0 := by
  rcases ho with o | ⟨o1, o2, o3, -⟩
  · exact o.1
  · exact absurd o3 (none_alw hN h o1 o2)
theorem none_set {B R0 : Nat} (hN : N ≤ 10) (h : ∀ v, v < N → Md v = 2) (hr : orInv N (denC N P E Md B) (2 ^ N) R0) : R0 = 0 := by
  refine mask_ext (N := N) hr.1 (Nat.two_pow_pos N) (fun v hv => ?_)
  rw [hr.2 v, Nat.zero_testBit]
  exact ⟨fun ⟨j, j1, j2, _⟩ => absurd j2.2.1 (none_alw hN h j2.1 j1), fun q => by cases q⟩
theorem ex_eq {a b k : Nat} {best : Int32} (hN : N ≤ 10) (hG : okG P E Md) (ha : a ≤ 20) (hb : b ≤ 2000) (h : cutSpec N P E Md a b k) (he : exInv N P E Md a b (2 ^ N) best) : best = vI N P E a b k := by
  rcases he with ⟨e1, e2⟩ | ⟨j, j1, j2, j3, j4⟩
  · exact absurd h.2.1 (e2 k h.1)
  · rw [j3]
    apply Int32.toInt_inj.mp
    rw [vI_toInt hN hG ha hb, vI_toInt hN hG ha hb]
    have h1 := j4 k h.1 h.2.1
    have h2 := (h.2.2 (bt (nI j)) j2).1
    omega
theorem exset_eq {a b k R0 : Nat} {best : Int32} (hN : N ≤ 10) (hG : okG P E Md) (ha : a ≤ 20) (hb : b ≤ 2000) (h : cutSpec N P E Md a b k) (he : exInv N P E Md a b (2 ^ N) best) (hr : orInv N (exC N P E Md a b best) (2 ^ N) R0) : R0 = k := by
  have hbest := ex_eq hN hG ha hb h he
  refine mask_ext hr.1 h.1 (fun v hv => ?_)
  rw [hr.2 v]
  constructor
  · rintro ⟨j, j1, ⟨j2, j3⟩, j4⟩
    refine (h.2.2 (bt (nI j)) j2).2 ?_ v hv (by rw [bt_nI (by omega)]; exact j4)
    rw [← vI_toInt hN hG ha hb, ← vI_toInt hN hG ha hb, j3, hbest]
  · intro q
    exact ⟨k, h.1, ⟨h.2.1, hbest.symm⟩, q⟩
end DINK
end
section
set_option maxHeartbeats 4000000 in
set_option maxRecDepth 100000 in
theorem c_D_take (l : Launch) (g : GD) {N : Nat} (hN : N ≤ 10) {cs bt bb bs : Int32} {fp fe fm fr fc fq fb : Nat → Int32} {P : Nat → Nat → Nat} {E Md : Nat → Nat} (hG : okG P E Md) (hD : okD P E Md fp fe fm) {k : Nat} (hk : k < 2 ^ N) (hj : 1 ≤ SJ N k) : CVD l y_D_take (.code y_D_take b_D_take 5 none) rm_D_take g (nI N, fp, fe, fm, fr, fc, fq, fb, cs, bt, bb, bs) [.int (nI k)] (fun u2 => u2 = (nI N, fp, fe, fm, fr, fc, fq, fb, cs, nI (WJ N P E k / Nat.gcd (WJ N P E k) (SJ N k)), nI (SJ N k / Nat.gcd (WJ N P E k) (SJ N k)), nI k)) := by
  refine mkVD (by decide) (Nat.le_of_ble_eq_true rfl) ?_
  intro p e s m below meth c ls X hr hlk h hl
  obtain ⟨hx, hb, hml, hown, htl⟩ := id X
  have hl : lv_has ls 5 [(0, .ref (g.2.1 0)), (1, .int (nI k))] := hl
  have q1 : WJ N P E k ≤ 1100 := wt_le hN hG _
  have q2 : SJ N k ≤ 10 := Nat.le_trans (sz_le N _) hN
  have q3 : Nat.gcd (WJ N P E k) (SJ N k) ≤ SJ N k := Nat.le_of_dvd hj (Nat.gcd_dvd_right _ _)
  refine lv_aload_n hx hb d_D_take_0 rfl (lv_at hl 0 rfl) ?_
  refine lv_iload_n hx hb d_D_take_1 rfl (lv_at hl 1 rfl) ?_
  refine callRD (rest := []) X hl.1 (c_D_weight l g hN (nI k)) e_ml_D_D_weight e_im_D_weight e_se_D_weight e_co_D_weight hd_D_weight ⟨rfl, rfl⟩ ⟨Nat.le_of_ble_eq_true rfl, Nat.le_of_ble_eq_true rfl⟩ h.1 rfl rfl (Nat.le_of_ble_eq_true rfl) ⟨Nat.zero_le _, Nat.zero_le _⟩ d_D_take_2 (fun r2 hr2 => ?_)
  obtain rfl : r2 = nI (WJ N P E k) := hr2.trans (weightD_eq hN hG hD _)
  refine lv_istore_n (lv' := [(2, .int (nI (WJ N P E k))), (0, .ref (g.2.1 0)), (1, .int (nI k))]) hx hb d_D_take_5 rfl hl (by decide) rfl (fun ls hl => ?_)
  refine lv_iload_n hx hb d_D_take_6 rfl (lv_at hl 2 rfl) ?_
  refine callST (rest := []) X hl.1 (c_D_members l (nI k)) e_ml_D_D_members e_im_D_members e_in_D e_co_D_members hd_D_members ⟨rfl, rfl⟩ ⟨Nat.le_of_ble_eq_true rfl, Nat.le_of_ble_eq_true rfl⟩ rfl rfl (Nat.le_of_ble_eq_true rfl) ⟨Nat.zero_le _, Nat.zero_le _⟩ d_D_take_7 (fun r7 hr7 => ?_)
  obtain rfl : r7 = nI (SJ N k) := hr7.trans (mem10 hN hk)
  refine lv_istore_n (lv' := [(3, .int (nI (SJ N k))), (2, .int (nI (WJ N P E k))), (0, .ref (g.2.1 0)), (1, .int (nI k))]) hx hb d_D_take_10 rfl hl (by decide) rfl (fun ls hl => ?_)
  refine lv_iload_n hx hb d_D_take_11 rfl (lv_at hl 1 rfl) ?_
  refine lv_iload_n hx hb d_D_take_12 rfl (lv_at hl 0 rfl) ?_
  refine callST (rest := []) X hl.1 (c_D_gcd l (by omega) (by omega)) e_ml_D_D_gcd e_im_D_gcd e_in_D e_co_D_gcd hd_D_gcd ⟨rfl, rfl⟩ ⟨Nat.le_of_ble_eq_true rfl, Nat.le_of_ble_eq_true rfl⟩ rfl rfl (Nat.le_of_ble_eq_true rfl) ⟨Nat.zero_le _, Nat.zero_le _⟩ d_D_take_13 (fun r13 hr13 => ?_)
  subst hr13
  refine lv_istore (lv' := [(4, .int (nI (Nat.gcd (WJ N P E k) (SJ N k)))), (3, .int (nI (SJ N k))), (2, .int (nI (WJ N P E k))), (0, .ref (g.2.1 0)), (1, .int (nI k))]) hx hb d_D_take_16 hl (by decide) rfl (fun ls hl => ?_)
  refine lv_aload_n hx hb d_D_take_18 rfl (lv_at hl 3 rfl) ?_
  refine lv_iload_n hx hb d_D_take_19 rfl (lv_at hl 2 rfl) ?_
  refine pD_bestTop X h d_D_take_20 (fun H locs h => ?_)
  refine lv_aload_n hx hb d_D_take_23 rfl (lv_at hl 3 rfl) ?_
  refine lv_iload_n hx hb d_D_take_24 rfl (lv_at hl 1 rfl) ?_
  refine pD_bestBottom X h d_D_take_25 (fun H locs h => ?_)
  refine lv_iload hx hb d_D_take_28 (lv_at hl 0 rfl) ?_
  refine lv_iconst (v := nI 1) hx hb d_D_take_30 (by decide) ?_
  refine n_icmp_le (tgt := 50) hx hb (by omega) (by omega) d_D_take_31 (by decide) (fun c31 => ?_) (fun c31 => ?_)
  · refine lv_aload_n hx hb d_D_take_50 rfl (lv_at hl 3 rfl) ?_
    refine lv_iload_n hx hb d_D_take_51 rfl (lv_at hl 4 rfl) ?_
    refine pD_bestSet X h d_D_take_52 (fun H locs h => ?_)
    exact endVD X hr hlk h (by rw [(div_gcd1 c31 hj).1, (div_gcd1 c31 hj).2]) d_D_take_55
  · refine lv_aload_n hx hb d_D_take_34 rfl (lv_at hl 3 rfl) ?_
    refine lv_iload_n hx hb d_D_take_35 rfl (lv_at hl 2 rfl) ?_
    refine lv_iload hx hb d_D_take_36 (lv_at hl 0 rfl) ?_
    refine lv_idiv hx hb d_D_take_38 (nI_ne0 (by omega) (by omega)) ?_
    refine tp_i (y := nI (WJ N P E k / Nat.gcd (WJ N P E k) (SJ N k))) (pk_div (by omega) (by omega) (by omega)) ?_
    refine pD_bestTop X h d_D_take_39 (fun H locs h => ?_)
    refine lv_aload_n hx hb d_D_take_42 rfl (lv_at hl 3 rfl) ?_
    refine lv_iload_n hx hb d_D_take_43 rfl (lv_at hl 1 rfl) ?_
    refine lv_iload hx hb d_D_take_44 (lv_at hl 0 rfl) ?_
    refine lv_idiv hx hb d_D_take_46 (nI_ne0 (by omega) (by omega)) ?_
    refine tp_i (y := nI (SJ N k / Nat.gcd (WJ N P E k) (SJ N k))) (pk_div (by omega) (by omega) (by omega)) ?_
    refine pD_bestBottom X h d_D_take_47 (fun H locs h => ?_)
    refine lv_aload_n hx hb d_D_take_50 rfl (lv_at hl 3 rfl) ?_
    refine lv_iload_n hx hb d_D_take_51 rfl (lv_at hl 4 rfl) ?_
    refine pD_bestSet X h d_D_take_52 (fun H locs h => ?_)
    exact endVD X hr hlk h (rfl) d_D_take_55

set_option maxHeartbeats 4000000 in
set_option maxRecDepth 100000 in
theorem lp_solve1 {p : Program} {l : Launch} {e : Env} {s : State} {m : MethodId} {args : Array Value} {below : List Frame} {meth : Method} {c : Code} {Q : State → Prop} {g : GD} {H : Heap} {locs : List Loc} (X : CallFix p m c b_D_solve 5 s args tb R_D) {N : Nat} (hN : N ≤ 10) {cs bt bb bs : Int32} {fp fe fm fr fc fq fb : Nat → Int32} (h : RD g (nI N, fp, fe, fm, fr, fc, fq, fb, cs, bt, bb, bs) s H) {Md : Nat → Nat} (hmd : ∀ v, v < N → fm v = nI 2 → Md v = 2) (hmd2 : ∀ v, v < N → Md v = 2 → fm v = nI 2) (K0 : ∀ (K : Nat) (ls : Array Slot), bitsInv (fun w => decide (Md w ≠ 2)) N K → lv_has ls 5 [(0, .ref (g.2.1 0)), (1, .int (nI K))] → W p l e rm_D_solve s m args below meth c H locs 0 0 Q (F0 m 34 ls [])) :
    ∀ (k v K : Nat) (ls : Array Slot), v + k = N → bitsInv (fun w => decide (Md w ≠ 2)) v K → lv_has ls 5 [(0, .ref (g.2.1 0)), (1, .int (nI K)), (2, .int (nI v))] → W p l e rm_D_solve s m args below meth c H locs 0 0 Q (F0 m 4 ls []) := by
  obtain ⟨hx, hb, hml, hown, htl⟩ := id X
  have htw : ∀ n : Nat, n ≤ 100000 → n < 2 ^ 31 := fun n h => by omega
  intro k
  induction k with
  | zero =>
    intro v K ls hk hi hl
    refine lv_iload_n hx hb d_D_solve_4 rfl (lv_at hl 2 rfl) ?_
    refine lv_aload_n hx hb d_D_solve_5 rfl (lv_at hl 0 rfl) ?_
    refine gD_n X h d_D_solve_6 ?_
    refine n_icmp_ge (tgt := 34) hx hb (by omega) (by omega) d_D_solve_9 (by decide) (fun c9 => ?_) (fun c9 => ?_)
    · obtain rfl : v = N := by omega
      exact K0 _ _ hi (lv_sub hl [0, 1] rfl)
    · exact absurd c9 (by omega)
  | succ k ih =>
    intro v K ls hk hi hl
    refine lv_iload_n hx hb d_D_solve_4 rfl (lv_at hl 2 rfl) ?_
    refine lv_aload_n hx hb d_D_solve_5 rfl (lv_at hl 0 rfl) ?_
    refine gD_n X h d_D_solve_6 ?_
    refine n_icmp_ge (tgt := 34) hx hb (by omega) (by omega) d_D_solve_9 (by decide) (fun c9 => ?_) (fun c9 => ?_)
    · exact absurd c9 (by omega)
    · refine lv_aload_n hx hb d_D_solve_12 rfl (lv_at hl 0 rfl) ?_
      refine gD_modes X h d_D_solve_13 ?_
      refine lv_iload_n hx hb d_D_solve_16 rfl (lv_at hl 2 rfl) ?_
      refine ld_fm (i := v) X h (by omega) d_D_solve_17 ?_
      refine lv_iconst (v := nI 2) hx hb d_D_solve_18 (by decide) ?_
      refine lv_icmp_eq (tgt := 28) hx hb d_D_solve_19 (by decide) (fun c19 => ?_) (fun c19 => ?_)
      · refine lv_iinc (v := nI (v + 1)) (lv' := [(2, .int (nI (v + 1))), (0, .ref (g.2.1 0)), (1, .int (nI K))]) hx hb d_D_solve_28 hl (k := 2) rfl (inc1 v) (by decide) rfl (fun ls hl => ?_)
        refine lv_goto (tgt := 4) hx hb d_D_solve_31 (by decide) ?_
        exact ih _ _ _ (by omega) (bits_no hi (decide_eq_false (fun q => q (hmd v (by omega) c19)))) (lv_sub hl [1, 2, 0] rfl)
      · refine lv_iload_n hx hb d_D_solve_22 rfl (lv_at hl 1 rfl) ?_
        refine lv_iconst (v := nI 1) hx hb d_D_solve_23 (by decide) ?_
        refine lv_iload_n hx hb d_D_solve_24 rfl (lv_at hl 2 rfl) ?_
        refine lv_ishl hx hb d_D_solve_25 ?_
        refine tp_i (y := nI (2 ^ v)) (shl1 v (by omega)) ?_
        refine lv_ior hx hb d_D_solve_26 ?_
        refine tp_i (y := nI (K ||| 2 ^ v)) (nI_or K (2 ^ v)) ?_
        refine lv_istore_n (lv' := [(1, .int (nI (K ||| 2 ^ v))), (0, .ref (g.2.1 0)), (2, .int (nI v))]) hx hb d_D_solve_27 rfl hl (by decide) rfl (fun ls hl => ?_)
        refine lv_iinc (v := nI (v + 1)) (lv' := [(2, .int (nI (v + 1))), (1, .int (nI (K ||| 2 ^ v))), (0, .ref (g.2.1 0))]) hx hb d_D_solve_28 hl (k := 2) rfl (inc1 v) (by decide) rfl (fun ls hl => ?_)
        refine lv_goto (tgt := 4) hx hb d_D_solve_31 (by decide) ?_
        exact ih _ _ _ (by omega) (bits_yes hi (decide_eq_true (fun q => c19 (hmd2 v (by omega) q)))) (lv_sub hl [2, 1, 0] rfl)

set_option maxHeartbeats 4000000 in
set_option maxRecDepth 100000 in
theorem lp_solve2 {p : Program} {l : Launch} {e : Env} {s : State} {m : MethodId} {args : Array Value} {below : List Frame} {meth : Method} {c : Code} {Q : State → Prop} {g : GD} {A : Nat → Prop} {H0 : Heap} (hA : ∀ q, H0.size ≤ q → A q) (X : CallFix p m c b_D_solve 5 s args tb R_D) {N : Nat} (hN : N ≤ 10) {fp fe fm : Nat → Int32} {P : Nat → Nat → Nat} {E Md : Nat → Nat} (hG : okG P E Md) (hD : okD P E Md fp fe fm) (K0 : ∀ (M0 k : Nat) (fr fc fq fb : Nat → Int32) (H : Heap) (locs : List Loc) (ls : Array Slot), solP N P E Md M0 k → WD g A H0 (nI N, fp, fe, fm, fr, fc, fq, fb, nI k, nI (WJ N P E M0 / Nat.gcd (WJ N P E M0) (SJ N M0)), nI (SJ N M0 / Nat.gcd (WJ N P E M0) (SJ N M0)), nI k) s H locs → W p l e rm_D_solve s m args below meth c H locs 0 0 Q (F0 m 129 ls [])) :
    ∀ (n i : Nat) (M0 : Nat) (fr fc fq fb : Nat → Int32) (cs bs : Int32) (H : Heap) (locs : List Loc) (ls : Array Slot), SJ N M0 ≤ n → i + n ≤ 10 → 1 ≤ M0 → M0 < 2 ^ N → AJ N Md M0 → DP N P E Md M0 → WD g A H0 (nI N, fp, fe, fm, fr, fc, fq, fb, cs, nI (WJ N P E M0 / Nat.gcd (WJ N P E M0) (SJ N M0)), nI (SJ N M0 / Nat.gcd (WJ N P E M0) (SJ N M0)), bs) s H locs → lv_has ls 5 [(0, .ref (g.2.1 0)), (2, .int (nI 1)), (3, .int (nI i))] → W p l e rm_D_solve s m args below meth c H locs 0 0 Q (F0 m 49 ls []) := by
  obtain ⟨hx, hb, hml, hown, htl⟩ := id X
  have htw : ∀ n : Nat, n ≤ 100000 → n < 2 ^ 31 := fun n h => by omega
  intro n
  induction n with
  | zero =>
    intro i M0 fr fc fq fb cs bs H locs ls hn hi h1 h2 h3 hdp h hl
    have hj : 1 ≤ SJ N M0 := SJ_pos hN h1 h2
    omega
  | succ n ih =>
    intro i M0 fr fc fq fb cs bs H locs ls hn hi h1 h2 h3 hdp h hl
    refine lv_iload_n hx hb d_D_solve_49 rfl (lv_at hl 2 rfl) ?_
    refine lv_bipush (v := nI 64) hx hb d_D_solve_50 (by decide) ?_
    refine n_icmp_ge (tgt := 129) hx hb (by omega) (by omega) d_D_solve_52 (by decide) (fun c52 => ?_) (fun c52 => ?_)
    · exact absurd c52 (by omega)
    · refine lv_iload_n hx hb d_D_solve_55 rfl (lv_at hl 1 rfl) ?_
      refine lv_if_eq (tgt := 129) hx hb d_D_solve_56 (by decide) (fun c56 => ?_) (fun c56 => ?_)
      · exact absurd c56 (by decide)
      · have hj : 1 ≤ SJ N M0 := SJ_pos hN h1 h2
        have q1 : WJ N P E M0 ≤ 1100 := wt_le hN hG _
        have q2 : SJ N M0 ≤ 10 := Nat.le_trans (sz_le N _) hN
        have q3 := Nat.div_le_self (WJ N P E M0) (Nat.gcd (WJ N P E M0) (SJ N M0))
        have q4 := Nat.div_le_self (SJ N M0) (Nat.gcd (WJ N P E M0) (SJ N M0))
        refine lv_aload_n hx hb d_D_solve_59 rfl (lv_at hl 0 rfl) ?_
        refine lv_aload_n hx hb d_D_solve_60 rfl (lv_at hl 0 rfl) ?_
        refine gD_bestBottom X h.1 d_D_solve_61 ?_
        refine lv_aload_n hx hb d_D_solve_64 rfl (lv_at hl 0 rfl) ?_
        refine gD_bestTop X h.1 d_D_solve_65 ?_
        refine callVD (rest := []) X hl.1 (c_D_cut l g hN hG hD (a := SJ N M0 / Nat.gcd (WJ N P E M0) (SJ N M0)) (b := WJ N P E M0 / Nat.gcd (WJ N P E M0) (SJ N M0)) (by omega) (by omega)) e_ml_D_D_cut e_im_D_cut e_se_D_cut e_co_D_cut hd_D_cut ⟨rfl, rfl⟩ ⟨Nat.le_of_ble_eq_true rfl, Nat.le_of_ble_eq_true rfl⟩ hA h rfl rfl (Nat.le_of_ble_eq_true rfl) ⟨Nat.zero_le _, Nat.zero_le _⟩ d_D_solve_68 (fun u68 H locs q68 h => ?_)
        obtain ⟨fr2, fc2, fq2, fb2, k, hcs, rfl⟩ := q68
        refine lv_aload_n hx hb d_D_solve_71 rfl (lv_at hl 0 rfl) ?_
        refine lv_aload_n hx hb d_D_solve_72 rfl (lv_at hl 0 rfl) ?_
        refine gD_cutSet X h.1 d_D_solve_73 ?_
        refine lv_aload_n hx hb d_D_solve_76 rfl (lv_at hl 0 rfl) ?_
        refine gD_bestBottom X h.1 d_D_solve_77 ?_
        refine lv_aload_n hx hb d_D_solve_80 rfl (lv_at hl 0 rfl) ?_
        refine gD_bestTop X h.1 d_D_solve_81 ?_
        refine callRD (rest := []) X hl.1 (c_D_valueOf l g hN (nI k) (nI (SJ N M0 / Nat.gcd (WJ N P E M0) (SJ N M0))) (nI (WJ N P E M0 / Nat.gcd (WJ N P E M0) (SJ N M0)))) e_ml_D_D_valueOf e_im_D_valueOf e_se_D_valueOf e_co_D_valueOf hd_D_valueOf ⟨rfl, rfl⟩ ⟨Nat.le_of_ble_eq_true rfl, Nat.le_of_ble_eq_true rfl⟩ h.1 rfl rfl (Nat.le_of_ble_eq_true rfl) ⟨Nat.zero_le _, Nat.zero_le _⟩ d_D_solve_84 (fun r84 hr84 => ?_)
        obtain rfl : r84 = vI N P E (SJ N M0 / Nat.gcd (WJ N P E M0) (SJ N M0)) (WJ N P E M0 / Nat.gcd (WJ N P E M0) (SJ N M0)) k := by rw [hr84, weightD_eq hN hG hD, mem10 hN hcs.1, pk_mul, pk_mul]; rfl
        refine lv_istore (lv' := [(4, .int (vI N P E (SJ N M0 / Nat.gcd (WJ N P E M0) (SJ N M0)) (WJ N P E M0 / Nat.gcd (WJ N P E M0) (SJ N M0)) k)), (0, .ref (g.2.1 0)), (2, .int (nI 1)), (3, .int (nI i))]) hx hb d_D_solve_87 hl (by decide) rfl (fun ls hl => ?_)
        refine lv_iload hx hb d_D_solve_89 (lv_at hl 0 rfl) ?_
        refine lv_if_le (tgt := 98) hx hb d_D_solve_91 (by decide) (fun c91 => ?_) (fun c91 => ?_)
        · refine lv_iconst (v := nI 0) hx hb d_D_solve_98 (by decide) ?_
          refine lv_istore_n (lv' := [(2, .int (nI 0)), (4, .int (vI N P E (SJ N M0 / Nat.gcd (WJ N P E M0) (SJ N M0)) (WJ N P E M0 / Nat.gcd (WJ N P E M0) (SJ N M0)) k)), (0, .ref (g.2.1 0)), (3, .int (nI i))]) hx hb d_D_solve_99 rfl hl (by decide) rfl (fun ls hl => ?_)
          refine lv_iload_n hx hb d_D_solve_100 rfl (lv_at hl 0 rfl) ?_
          refine lv_if_eq (tgt := 115) hx hb d_D_solve_101 (by decide) (fun c101 => ?_) (fun c101 => ?_)
          · refine lv_aload_n hx hb d_D_solve_115 rfl (lv_at hl 2 rfl) ?_
            refine lv_aload_n hx hb d_D_solve_116 rfl (lv_at hl 2 rfl) ?_
            refine gD_cutSet X h.1 d_D_solve_117 ?_
            refine pD_bestSet X h d_D_solve_120 (fun H locs h => ?_)
            refine lv_iinc (v := nI (i + 1)) (lv' := [(3, .int (nI (i + 1))), (2, .int (nI 0)), (4, .int (vI N P E (SJ N M0 / Nat.gcd (WJ N P E M0) (SJ N M0)) (WJ N P E M0 / Nat.gcd (WJ N P E M0) (SJ N M0)) k)), (0, .ref (g.2.1 0))]) hx hb d_D_solve_123 hl (k := 3) rfl (inc1 i) (by decide) rfl (fun ls hl => ?_)
            refine lv_goto (tgt := 49) hx hb d_D_solve_126 (by decide) ?_
            refine lv_iload_n hx hb d_D_solve_49 rfl (lv_at hl 0 rfl) ?_
            refine lv_bipush (v := nI 64) hx hb d_D_solve_50 (by decide) ?_
            refine n_icmp_ge (tgt := 129) hx hb (by omega) (by omega) d_D_solve_52 (by decide) (fun c52 => ?_) (fun c52 => ?_)
            · exact absurd c52 (by omega)
            · refine lv_iload_n hx hb d_D_solve_55 rfl (lv_at hl 1 rfl) ?_
              refine lv_if_eq (tgt := 129) hx hb d_D_solve_56 (by decide) (fun c56 => ?_) (fun c56 => ?_)
              · exact K0 _ _ _ _ _ _ _ _ _ ⟨h1, h2, h3, hcs, fun q => by rw [← vI_toInt hN hG (by omega) (by omega)] at q; exact pos_iff.mpr q c91⟩ h
              · exact absurd c56 (by decide)
          · exact absurd c101 (by decide)
        · refine lv_iconst (v := nI 1) hx hb d_D_solve_94 (by decide) ?_
          refine lv_goto (tgt := 99) hx hb d_D_solve_95 (by decide) ?_
          refine lv_istore_n (lv' := [(2, .int (nI 1)), (4, .int (vI N P E (SJ N M0 / Nat.gcd (WJ N P E M0) (SJ N M0)) (WJ N P E M0 / Nat.gcd (WJ N P E M0) (SJ N M0)) k)), (0, .ref (g.2.1 0)), (3, .int (nI i))]) hx hb d_D_solve_99 rfl hl (by decide) rfl (fun ls hl => ?_)
          refine lv_iload_n hx hb d_D_solve_100 rfl (lv_at hl 0 rfl) ?_
          refine lv_if_eq (tgt := 115) hx hb d_D_solve_101 (by decide) (fun c101 => ?_) (fun c101 => ?_)
          · exact absurd c101 (by decide)
          · have hpos : 0 < vl N P E (SJ N M0 / Nat.gcd (WJ N P E M0) (SJ N M0)) (WJ N P E M0 / Nat.gcd (WJ N P E M0) (SJ N M0)) (bt (nI k)) := by rw [← vI_toInt hN hG (by omega) (by omega)]; exact pos_iff.mp c91
            obtain ⟨d1, d2⟩ := dp_step hdp hj rfl rfl hcs hpos
            have hk1 : 1 ≤ k := by
              rcases Nat.eq_zero_or_pos k with z | z
              · exfalso; rw [z] at hpos
                have e1 : ∀ v, v < N → bt (nI 0) v = false := fun v hv => by rw [bt_nI (by omega)]; exact Nat.zero_testBit v
                unfold vl at hpos
                rw [wt_zero e1, sz_zero e1] at hpos; simp at hpos
              · exact z
            have hkj : 1 ≤ SJ N k := SJ_pos hN hk1 hcs.1
            refine lv_aload_n hx hb d_D_solve_104 rfl (lv_at hl 2 rfl) ?_
            refine lv_aload_n hx hb d_D_solve_105 rfl (lv_at hl 2 rfl) ?_
            refine gD_cutSet X h.1 d_D_solve_106 ?_
            refine callVD (rest := []) X hl.1 (c_D_take l g hN hG hD (k := k) hcs.1 hkj) e_ml_D_D_take e_im_D_take e_se_D_take e_co_D_take hd_D_take ⟨rfl, rfl⟩ ⟨Nat.le_of_ble_eq_true rfl, Nat.le_of_ble_eq_true rfl⟩ hA h rfl rfl (Nat.le_of_ble_eq_true rfl) ⟨Nat.zero_le _, Nat.zero_le _⟩ d_D_solve_109 (fun u109 H locs q109 h => ?_)
            subst q109
            refine lv_goto (tgt := 123) hx hb d_D_solve_112 (by decide) ?_
            refine lv_iinc (v := nI (i + 1)) (lv' := [(3, .int (nI (i + 1))), (2, .int (nI 1)), (4, .int (vI N P E (SJ N M0 / Nat.gcd (WJ N P E M0) (SJ N M0)) (WJ N P E M0 / Nat.gcd (WJ N P E M0) (SJ N M0)) k)), (0, .ref (g.2.1 0))]) hx hb d_D_solve_123 hl (k := 3) rfl (inc1 i) (by decide) rfl (fun ls hl => ?_)
            refine lv_goto (tgt := 49) hx hb d_D_solve_126 (by decide) ?_
            exact ih _ _ _ _ _ _ _ _ _ _ _ (by omega) (by omega) hk1 hcs.1 hcs.2.1 d2 h (lv_sub hl [3, 1, 0] rfl)

set_option maxHeartbeats 4000000 in
set_option maxRecDepth 100000 in
theorem c_D_solve (l : Launch) (g : GD) {N : Nat} (hN : N ≤ 10) {cs bt bb bs : Int32} {fp fe fm fr fc fq fb : Nat → Int32} {P : Nat → Nat → Nat} {E Md : Nat → Nat} (hG : okG P E Md) (hD : okD P E Md fp fe fm) : CWD l y_D_solve (.code y_D_solve b_D_solve 5 (some .boolean)) rm_D_solve g (nI N, fp, fe, fm, fr, fc, fq, fb, cs, bt, bb, bs) [] (fun r u2 => ((∀ v, v < N → Md v = 2) ∧ r = nI 0 ∧ u2 = (nI N, fp, fe, fm, fr, fc, fq, fb, cs, bt, bb, bs)) ∨ (∃ (M0 k : Nat) (fr2 fc2 fq2 fb2 : Nat → Int32), solP N P E Md M0 k ∧ r = nI 1 ∧ u2 = (nI N, fp, fe, fm, fr2, fc2, fq2, fb2, nI k, nI (WJ N P E M0 / Nat.gcd (WJ N P E M0) (SJ N M0)), nI (SJ N M0 / Nat.gcd (WJ N P E M0) (SJ N M0)), nI k))) := by
  refine mkWD (by decide) (Nat.le_of_ble_eq_true rfl) ?_
  intro p e s m below meth c ls X hr hlk h hl
  obtain ⟨hx, hb, hml, hown, htl⟩ := id X
  have hl : lv_has ls 5 [(0, .ref (g.2.1 0))] := hl
  refine lv_iconst (v := nI 0) hx hb d_D_solve_0 (by decide) ?_
  refine lv_istore_n (lv' := [(1, .int (nI 0)), (0, .ref (g.2.1 0))]) hx hb d_D_solve_1 rfl hl (by decide) rfl (fun ls hl => ?_)
  refine lv_iconst (v := nI 0) hx hb d_D_solve_2 (by decide) ?_
  refine lv_istore_n (lv' := [(2, .int (nI 0)), (1, .int (nI 0)), (0, .ref (g.2.1 0))]) hx hb d_D_solve_3 rfl hl (by decide) rfl (fun ls hl => ?_)
  refine lp_solve1 X hN h.1 (Md := Md) (fun v hv q => by rw [hD.2.2 v (by omega)] at q; exact (nI_eq (by have := hG.2.2.2.2 v (by omega); omega) (by omega)).mp q) (fun v hv q => by rw [hD.2.2 v (by omega), q]) (fun K ls hi hl => ?_) N 0 0 _ (by omega) (bits_0 _) (lv_sub hl [2, 1, 0] rfl)
  have hp2 := pow10 N hN
  have hKl := hi.1
  refine lv_iload_n hx hb d_D_solve_34 rfl (lv_at hl 1 rfl) ?_
  refine lv_if_ne (tgt := 40) hx hb d_D_solve_35 (by decide) (fun c35 => ?_) (fun c35 => ?_)
  · have hK1 : 1 ≤ K := Nat.pos_of_ne_zero (fun q => c35 (by rw [q]; rfl))
    have hKj : 1 ≤ SJ N K := SJ_pos hN hK1 hi.1
    have dA := dp_all (P := P) (E := E) hN hi
    refine lv_aload_n hx hb d_D_solve_40 rfl (lv_at hl 0 rfl) ?_
    refine lv_iload_n hx hb d_D_solve_41 rfl (lv_at hl 1 rfl) ?_
    refine callVD (rest := []) X hl.1 (c_D_take l g hN hG hD (k := K) hi.1 hKj) e_ml_D_D_take e_im_D_take e_se_D_take e_co_D_take hd_D_take ⟨rfl, rfl⟩ ⟨Nat.le_of_ble_eq_true rfl, Nat.le_of_ble_eq_true rfl⟩ hA_of h rfl rfl (Nat.le_of_ble_eq_true rfl) ⟨Nat.zero_le _, Nat.zero_le _⟩ d_D_solve_42 (fun u42 H locs q42 h => ?_)
    subst q42
    refine lv_iconst (v := nI 1) hx hb d_D_solve_45 (by decide) ?_
    refine lv_istore_n (lv' := [(2, .int (nI 1)), (0, .ref (g.2.1 0)), (1, .int (nI K))]) hx hb d_D_solve_46 rfl hl (by decide) rfl (fun ls hl => ?_)
    refine lv_iconst (v := nI 0) hx hb d_D_solve_47 (by decide) ?_
    refine lv_istore_n (lv' := [(3, .int (nI 0)), (2, .int (nI 1)), (0, .ref (g.2.1 0)), (1, .int (nI K))]) hx hb d_D_solve_48 rfl hl (by decide) rfl (fun ls hl => ?_)
    refine lp_solve2 hA_of X hN hG hD (fun M0 k fr fc fq fb H locs ls hsol h => ?_) 10 0 K _ _ _ _ _ _ _ _ _ (Nat.le_trans (sz_le N _) hN) (by omega) hK1 hi.1 dA.1 dA.2 h (lv_sub hl [2, 1, 0] rfl)
    refine lv_iconst (v := nI 1) hx hb d_D_solve_129 (by decide) ?_
    exact endWDZ X hr hlk nz1 h (Or.inr ⟨M0, k, _, _, _, _, hsol, rfl, rfl⟩) d_D_solve_130
  · refine lv_iconst (v := nI 0) hx hb d_D_solve_38 (by decide) ?_
    obtain rfl : K = 0 := Classical.byContradiction (fun q => nI_ne0 (Nat.pos_of_ne_zero q) (by omega) c35)
    refine endWDZ X hr hlk nz0 h (Or.inl ⟨fun v hv => ?_, rfl, rfl⟩) d_D_solve_39
    have := hi.2 v hv
    rw [Nat.zero_testBit] at this
    simpa using this.symm

set_option maxHeartbeats 4000000 in
set_option maxRecDepth 100000 in
theorem c_D_dTop (l : Launch) (g : GD) {N : Nat} (hN : N ≤ 10) {cs bt bb bs : Int32} {fp fe fm fr fc fq fb : Nat → Int32} {P : Nat → Nat → Nat} {E Md : Nat → Nat} (hG : okG P E Md) (hD : okD P E Md fp fe fm) : CWD l y_D_dTop (.code y_D_dTop b_D_dTop 2 (some .int)) rm_D_dTop g (nI N, fp, fe, fm, fr, fc, fq, fb, cs, bt, bb, bs) [] (fun r u2 => ∃ (fr2 fc2 fq2 fb2 : Nat → Int32) (c2 t2 b2 s2 : Int32), (((∀ v, v < N → Md v = 2) ∧ r = (-5)) ∨ (∃ M0 k, solP N P E Md M0 k ∧ r = nI (WJ N P E M0 / Nat.gcd (WJ N P E M0) (SJ N M0)))) ∧ u2 = (nI N, fp, fe, fm, fr2, fc2, fq2, fb2, c2, t2, b2, s2)) := by
  refine mkWD (by decide) (Nat.le_of_ble_eq_true rfl) ?_
  intro p e s m below meth c ls X hr hlk h hl
  obtain ⟨hx, hb, hml, hown, htl⟩ := id X
  have hl : lv_has ls 2 [(0, .ref (g.2.1 0))] := hl
  refine lv_aload_n hx hb d_D_dTop_0 rfl (lv_at hl 0 rfl) ?_
  refine callWD (rest := []) X hl.1 (c_D_solve l g hN hG hD) e_ml_D_D_solve e_im_D_solve e_se_D_solve e_co_D_solve hd_D_solve ⟨rfl, rfl⟩ ⟨Nat.le_of_ble_eq_true rfl, Nat.le_of_ble_eq_true rfl⟩ hA_of h rfl rfl (Nat.le_of_ble_eq_true rfl) ⟨Nat.zero_le _, Nat.zero_le _⟩ d_D_dTop_1 (fun r1 u1 H locs q1 h => ?_)
  rcases q1 with ⟨hall, rfl, rfl⟩ | ⟨M0, k, fr2, fc2, fq2, fb2, hsol, rfl, rfl⟩
  · refine lv_istore_n (lv' := [(1, .int (nI 0)), (0, .ref (g.2.1 0))]) hx hb d_D_dTop_4 rfl hl (by decide) rfl (fun ls hl => ?_)
    refine lv_iload_n hx hb d_D_dTop_5 rfl (lv_at hl 0 rfl) ?_
    refine lv_if_eq (tgt := 16) hx hb d_D_dTop_6 (by decide) (fun c6 => ?_) (fun c6 => ?_)
    · refine lv_bipush (v := (-5)) hx hb d_D_dTop_16 (by decide) ?_
      exact endWD X hr hlk h ⟨_, _, _, _, _, _, _, _, Or.inl ⟨hall, rfl⟩, rfl⟩ d_D_dTop_18
    · exact absurd c6 (by decide)
  · refine lv_istore_n (lv' := [(1, .int (nI 1)), (0, .ref (g.2.1 0))]) hx hb d_D_dTop_4 rfl hl (by decide) rfl (fun ls hl => ?_)
    refine lv_iload_n hx hb d_D_dTop_5 rfl (lv_at hl 0 rfl) ?_
    refine lv_if_eq (tgt := 16) hx hb d_D_dTop_6 (by decide) (fun c6 => ?_) (fun c6 => ?_)
    · exact absurd c6 (by decide)
    · refine lv_aload_n hx hb d_D_dTop_9 rfl (lv_at hl 1 rfl) ?_
      refine gD_bestTop X h.1 d_D_dTop_10 ?_
      refine lv_goto (tgt := 18) hx hb d_D_dTop_13 (by decide) ?_
      exact endWD X hr hlk h ⟨_, _, _, _, _, _, _, _, Or.inr ⟨M0, k, hsol, rfl⟩, rfl⟩ d_D_dTop_18

set_option maxHeartbeats 4000000 in
set_option maxRecDepth 100000 in
theorem c_D_dBot (l : Launch) (g : GD) {N : Nat} (hN : N ≤ 10) {cs bt bb bs : Int32} {fp fe fm fr fc fq fb : Nat → Int32} {P : Nat → Nat → Nat} {E Md : Nat → Nat} (hG : okG P E Md) (hD : okD P E Md fp fe fm) : CWD l y_D_dBot (.code y_D_dBot b_D_dBot 2 (some .int)) rm_D_dBot g (nI N, fp, fe, fm, fr, fc, fq, fb, cs, bt, bb, bs) [] (fun r u2 => ∃ (fr2 fc2 fq2 fb2 : Nat → Int32) (c2 t2 b2 s2 : Int32), (((∀ v, v < N → Md v = 2) ∧ r = (-5)) ∨ (∃ M0 k, solP N P E Md M0 k ∧ r = nI (SJ N M0 / Nat.gcd (WJ N P E M0) (SJ N M0)))) ∧ u2 = (nI N, fp, fe, fm, fr2, fc2, fq2, fb2, c2, t2, b2, s2)) := by
  refine mkWD (by decide) (Nat.le_of_ble_eq_true rfl) ?_
  intro p e s m below meth c ls X hr hlk h hl
  obtain ⟨hx, hb, hml, hown, htl⟩ := id X
  have hl : lv_has ls 2 [(0, .ref (g.2.1 0))] := hl
  refine lv_aload_n hx hb d_D_dBot_0 rfl (lv_at hl 0 rfl) ?_
  refine callWD (rest := []) X hl.1 (c_D_solve l g hN hG hD) e_ml_D_D_solve e_im_D_solve e_se_D_solve e_co_D_solve hd_D_solve ⟨rfl, rfl⟩ ⟨Nat.le_of_ble_eq_true rfl, Nat.le_of_ble_eq_true rfl⟩ hA_of h rfl rfl (Nat.le_of_ble_eq_true rfl) ⟨Nat.zero_le _, Nat.zero_le _⟩ d_D_dBot_1 (fun r1 u1 H locs q1 h => ?_)
  rcases q1 with ⟨hall, rfl, rfl⟩ | ⟨M0, k, fr2, fc2, fq2, fb2, hsol, rfl, rfl⟩
  · refine lv_istore_n (lv' := [(1, .int (nI 0)), (0, .ref (g.2.1 0))]) hx hb d_D_dBot_4 rfl hl (by decide) rfl (fun ls hl => ?_)
    refine lv_iload_n hx hb d_D_dBot_5 rfl (lv_at hl 0 rfl) ?_
    refine lv_if_eq (tgt := 16) hx hb d_D_dBot_6 (by decide) (fun c6 => ?_) (fun c6 => ?_)
    · refine lv_bipush (v := (-5)) hx hb d_D_dBot_16 (by decide) ?_
      exact endWD X hr hlk h ⟨_, _, _, _, _, _, _, _, Or.inl ⟨hall, rfl⟩, rfl⟩ d_D_dBot_18
    · exact absurd c6 (by decide)
  · refine lv_istore_n (lv' := [(1, .int (nI 1)), (0, .ref (g.2.1 0))]) hx hb d_D_dBot_4 rfl hl (by decide) rfl (fun ls hl => ?_)
    refine lv_iload_n hx hb d_D_dBot_5 rfl (lv_at hl 0 rfl) ?_
    refine lv_if_eq (tgt := 16) hx hb d_D_dBot_6 (by decide) (fun c6 => ?_) (fun c6 => ?_)
    · exact absurd c6 (by decide)
    · refine lv_aload_n hx hb d_D_dBot_9 rfl (lv_at hl 1 rfl) ?_
      refine gD_bestBottom X h.1 d_D_dBot_10 ?_
      refine lv_goto (tgt := 18) hx hb d_D_dBot_13 (by decide) ?_
      exact endWD X hr hlk h ⟨_, _, _, _, _, _, _, _, Or.inr ⟨M0, k, hsol, rfl⟩, rfl⟩ d_D_dBot_18

set_option maxHeartbeats 4000000 in
set_option maxRecDepth 100000 in
theorem c_D_densest (l : Launch) (g : GD) {N : Nat} (hN : N ≤ 10) {cs bt bb bs : Int32} {fp fe fm fr fc fq fb : Nat → Int32} {P : Nat → Nat → Nat} {E Md : Nat → Nat} (hG : okG P E Md) (hD : okD P E Md fp fe fm) : CWD l y_D_densest (.code y_D_densest b_D_densest 2 (some .int)) rm_D_densest g (nI N, fp, fe, fm, fr, fc, fq, fb, cs, bt, bb, bs) [] (fun r u2 => ∃ (fr2 fc2 fq2 fb2 : Nat → Int32) (c2 t2 b2 s2 : Int32), (((∀ v, v < N → Md v = 2) ∧ r = nI 0) ∨ (∃ M0 k, solP N P E Md M0 k ∧ r = nI k)) ∧ u2 = (nI N, fp, fe, fm, fr2, fc2, fq2, fb2, c2, t2, b2, s2)) := by
  refine mkWD (by decide) (Nat.le_of_ble_eq_true rfl) ?_
  intro p e s m below meth c ls X hr hlk h hl
  obtain ⟨hx, hb, hml, hown, htl⟩ := id X
  have hl : lv_has ls 2 [(0, .ref (g.2.1 0))] := hl
  refine lv_aload_n hx hb d_D_densest_0 rfl (lv_at hl 0 rfl) ?_
  refine callWD (rest := []) X hl.1 (c_D_solve l g hN hG hD) e_ml_D_D_solve e_im_D_solve e_se_D_solve e_co_D_solve hd_D_solve ⟨rfl, rfl⟩ ⟨Nat.le_of_ble_eq_true rfl, Nat.le_of_ble_eq_true rfl⟩ hA_of h rfl rfl (Nat.le_of_ble_eq_true rfl) ⟨Nat.zero_le _, Nat.zero_le _⟩ d_D_densest_1 (fun r1 u1 H locs q1 h => ?_)
  rcases q1 with ⟨hall, rfl, rfl⟩ | ⟨M0, k, fr2, fc2, fq2, fb2, hsol, rfl, rfl⟩
  · refine lv_istore_n (lv' := [(1, .int (nI 0)), (0, .ref (g.2.1 0))]) hx hb d_D_densest_4 rfl hl (by decide) rfl (fun ls hl => ?_)
    refine lv_iload_n hx hb d_D_densest_5 rfl (lv_at hl 0 rfl) ?_
    refine lv_if_eq (tgt := 16) hx hb d_D_densest_6 (by decide) (fun c6 => ?_) (fun c6 => ?_)
    · refine lv_iconst (v := nI 0) hx hb d_D_densest_16 (by decide) ?_
      exact endWD X hr hlk h ⟨_, _, _, _, _, _, _, _, Or.inl ⟨hall, rfl⟩, rfl⟩ d_D_densest_17
    · exact absurd c6 (by decide)
  · refine lv_istore_n (lv' := [(1, .int (nI 1)), (0, .ref (g.2.1 0))]) hx hb d_D_densest_4 rfl hl (by decide) rfl (fun ls hl => ?_)
    refine lv_iload_n hx hb d_D_densest_5 rfl (lv_at hl 0 rfl) ?_
    refine lv_if_eq (tgt := 16) hx hb d_D_densest_6 (by decide) (fun c6 => ?_) (fun c6 => ?_)
    · exact absurd c6 (by decide)
    · refine lv_aload_n hx hb d_D_densest_9 rfl (lv_at hl 1 rfl) ?_
      refine gD_bestSet X h.1 d_D_densest_10 ?_
      refine lv_goto (tgt := 17) hx hb d_D_densest_13 (by decide) ?_
      exact endWD X hr hlk h ⟨_, _, _, _, _, _, _, _, Or.inr ⟨M0, k, hsol, rfl⟩, rfl⟩ d_D_densest_17

set_option maxHeartbeats 4000000 in
set_option maxRecDepth 100000 in
theorem c_D_excess (l : Launch) (g : GD) {N : Nat} (hN : N ≤ 10) {cs bt bb bs : Int32} {fp fe fm fr fc fq fb : Nat → Int32} {P : Nat → Nat → Nat} {E Md : Nat → Nat} (hG : okG P E Md) (hD : okD P E Md fp fe fm) (x y : Int32) : CWD l y_D_excess (.code y_D_excess b_D_excess 3 (some .int)) rm_D_excess g (nI N, fp, fe, fm, fr, fc, fq, fb, cs, bt, bb, bs) [.int x, .int y] (fun r u2 => ∃ (fr2 fc2 fq2 fb2 : Nat → Int32) (c2 : Int32), ((bpP x y ∧ r = (-4)) ∨ (∃ a b k : Nat, 1 ≤ a ∧ a ≤ 20 ∧ b ≤ 2000 ∧ x = nI a ∧ y = nI b ∧ cutSpec N P E Md a b k ∧ r = vI N P E a b k)) ∧ u2 = (nI N, fp, fe, fm, fr2, fc2, fq2, fb2, c2, bt, bb, bs)) := by
  refine mkWD (by decide) (Nat.le_of_ble_eq_true rfl) ?_
  intro p e s m below meth c ls X hr hlk h hl
  obtain ⟨hx, hb, hml, hown, htl⟩ := id X
  have hl : lv_has ls 3 [(0, .ref (g.2.1 0)), (1, .int x), (2, .int y)] := hl
  refine lv_iload_n hx hb d_D_excess_0 rfl (lv_at hl 1 rfl) ?_
  refine lv_iload_n hx hb d_D_excess_1 rfl (lv_at hl 2 rfl) ?_
  refine callST (rest := []) X hl.1 (c_D_badPrice l (x) (y)) e_ml_D_D_badPrice e_im_D_badPrice e_in_D e_co_D_badPrice hd_D_badPrice ⟨rfl, rfl⟩ ⟨Nat.le_of_ble_eq_true rfl, Nat.le_of_ble_eq_true rfl⟩ rfl rfl (Nat.le_of_ble_eq_true rfl) ⟨Nat.zero_le _, Nat.zero_le _⟩ d_D_excess_2 (fun r2 hr2 => ?_)
  rcases hr2 with ⟨br2, rfl⟩ | ⟨br2, rfl⟩
  · refine lv_if_eq (tgt := 11) hx hb d_D_excess_5 (by decide) (fun c5 => ?_) (fun c5 => ?_)
    · exact absurd c5 (by decide)
    · refine lv_bipush (v := (-4)) hx hb d_D_excess_8 (by decide) ?_
      exact endWD X hr hlk h ⟨_, _, _, _, _, Or.inl ⟨br2, rfl⟩, rfl⟩ d_D_excess_10
  · refine lv_if_eq (tgt := 11) hx hb d_D_excess_5 (by decide) (fun c5 => ?_) (fun c5 => ?_)
    · obtain ⟨a, b, ha1, ha, hb2, rfl, rfl⟩ := nbp br2
      refine lv_aload_n hx hb d_D_excess_11 rfl (lv_at hl 0 rfl) ?_
      refine lv_iload_n hx hb d_D_excess_12 rfl (lv_at hl 1 rfl) ?_
      refine lv_iload_n hx hb d_D_excess_13 rfl (lv_at hl 2 rfl) ?_
      refine callVD (rest := []) X hl.1 (c_D_cut l g hN hG hD ha hb2) e_ml_D_D_cut e_im_D_cut e_se_D_cut e_co_D_cut hd_D_cut ⟨rfl, rfl⟩ ⟨Nat.le_of_ble_eq_true rfl, Nat.le_of_ble_eq_true rfl⟩ hA_of h rfl rfl (Nat.le_of_ble_eq_true rfl) ⟨Nat.zero_le _, Nat.zero_le _⟩ d_D_excess_14 (fun u14 H locs q14 h => ?_)
      obtain ⟨fr2, fc2, fq2, fb2, k, hcs, rfl⟩ := q14
      refine lv_aload_n hx hb d_D_excess_17 rfl (lv_at hl 0 rfl) ?_
      refine lv_aload_n hx hb d_D_excess_18 rfl (lv_at hl 0 rfl) ?_
      refine gD_cutSet X h.1 d_D_excess_19 ?_
      refine lv_iload_n hx hb d_D_excess_22 rfl (lv_at hl 1 rfl) ?_
      refine lv_iload_n hx hb d_D_excess_23 rfl (lv_at hl 2 rfl) ?_
      refine callRD (rest := []) X hl.1 (c_D_valueOf l g hN (nI k) (nI a) (nI b)) e_ml_D_D_valueOf e_im_D_valueOf e_se_D_valueOf e_co_D_valueOf hd_D_valueOf ⟨rfl, rfl⟩ ⟨Nat.le_of_ble_eq_true rfl, Nat.le_of_ble_eq_true rfl⟩ h.1 rfl rfl (Nat.le_of_ble_eq_true rfl) ⟨Nat.zero_le _, Nat.zero_le _⟩ d_D_excess_24 (fun r24 hr24 => ?_)
      obtain rfl : r24 = vI N P E a b k := by rw [hr24, weightD_eq hN hG hD, mem10 hN hcs.1, pk_mul, pk_mul]; rfl
      exact endWD X hr hlk h ⟨_, _, _, _, _, Or.inr ⟨a, b, k, ha1, ha, hb2, rfl, rfl, hcs, rfl⟩, rfl⟩ d_D_excess_27
    · exact absurd c5 (by decide)

set_option maxHeartbeats 4000000 in
set_option maxRecDepth 100000 in
theorem c_D_exSet (l : Launch) (g : GD) {N : Nat} (hN : N ≤ 10) {cs bt bb bs : Int32} {fp fe fm fr fc fq fb : Nat → Int32} {P : Nat → Nat → Nat} {E Md : Nat → Nat} (hG : okG P E Md) (hD : okD P E Md fp fe fm) (x y : Int32) : CWD l y_D_exSet (.code y_D_exSet b_D_exSet 3 (some .int)) rm_D_exSet g (nI N, fp, fe, fm, fr, fc, fq, fb, cs, bt, bb, bs) [.int x, .int y] (fun r u2 => ∃ (fr2 fc2 fq2 fb2 : Nat → Int32) (c2 : Int32), ((bpP x y ∧ r = nI 0) ∨ (∃ a b k : Nat, 1 ≤ a ∧ a ≤ 20 ∧ b ≤ 2000 ∧ x = nI a ∧ y = nI b ∧ cutSpec N P E Md a b k ∧ r = nI k)) ∧ u2 = (nI N, fp, fe, fm, fr2, fc2, fq2, fb2, c2, bt, bb, bs)) := by
  refine mkWD (by decide) (Nat.le_of_ble_eq_true rfl) ?_
  intro p e s m below meth c ls X hr hlk h hl
  obtain ⟨hx, hb, hml, hown, htl⟩ := id X
  have hl : lv_has ls 3 [(0, .ref (g.2.1 0)), (1, .int x), (2, .int y)] := hl
  refine lv_iload_n hx hb d_D_exSet_0 rfl (lv_at hl 1 rfl) ?_
  refine lv_iload_n hx hb d_D_exSet_1 rfl (lv_at hl 2 rfl) ?_
  refine callST (rest := []) X hl.1 (c_D_badPrice l (x) (y)) e_ml_D_D_badPrice e_im_D_badPrice e_in_D e_co_D_badPrice hd_D_badPrice ⟨rfl, rfl⟩ ⟨Nat.le_of_ble_eq_true rfl, Nat.le_of_ble_eq_true rfl⟩ rfl rfl (Nat.le_of_ble_eq_true rfl) ⟨Nat.zero_le _, Nat.zero_le _⟩ d_D_exSet_2 (fun r2 hr2 => ?_)
  rcases hr2 with ⟨br2, rfl⟩ | ⟨br2, rfl⟩
  · refine lv_if_eq (tgt := 10) hx hb d_D_exSet_5 (by decide) (fun c5 => ?_) (fun c5 => ?_)
    · exact absurd c5 (by decide)
    · refine lv_iconst (v := nI 0) hx hb d_D_exSet_8 (by decide) ?_
      exact endWD X hr hlk h ⟨_, _, _, _, _, Or.inl ⟨br2, rfl⟩, rfl⟩ d_D_exSet_9
  · refine lv_if_eq (tgt := 10) hx hb d_D_exSet_5 (by decide) (fun c5 => ?_) (fun c5 => ?_)
    · obtain ⟨a, b, ha1, ha, hb2, rfl, rfl⟩ := nbp br2
      refine lv_aload_n hx hb d_D_exSet_10 rfl (lv_at hl 0 rfl) ?_
      refine lv_iload_n hx hb d_D_exSet_11 rfl (lv_at hl 1 rfl) ?_
      refine lv_iload_n hx hb d_D_exSet_12 rfl (lv_at hl 2 rfl) ?_
      refine callVD (rest := []) X hl.1 (c_D_cut l g hN hG hD ha hb2) e_ml_D_D_cut e_im_D_cut e_se_D_cut e_co_D_cut hd_D_cut ⟨rfl, rfl⟩ ⟨Nat.le_of_ble_eq_true rfl, Nat.le_of_ble_eq_true rfl⟩ hA_of h rfl rfl (Nat.le_of_ble_eq_true rfl) ⟨Nat.zero_le _, Nat.zero_le _⟩ d_D_exSet_13 (fun u13 H locs q13 h => ?_)
      obtain ⟨fr2, fc2, fq2, fb2, k, hcs, rfl⟩ := q13
      refine lv_aload_n hx hb d_D_exSet_16 rfl (lv_at hl 0 rfl) ?_
      refine gD_cutSet X h.1 d_D_exSet_17 ?_
      exact endWD X hr hlk h ⟨_, _, _, _, _, Or.inr ⟨a, b, k, ha1, ha, hb2, rfl, rfl, hcs, rfl⟩, rfl⟩ d_D_exSet_20
    · exact absurd c5 (by decide)
end
section
/-! the class's numbers and the model's stay the same -/
section REL
variable {N : Nat} {P : Nat → Nat → Nat} {E Md : Nat → Nat} {fp fe fm fw gm : Nat → Int32} {x y w r r2 : Int32} {f2 h2 : Nat → Int32}
theorem small {T : Nat} (hT : T < 100) (h : ¬ (w < 0 ∨ nI T < w)) : ∃ j, j ≤ T ∧ w = nI j := by
  have h1 : ¬ w < 0 := fun q => h (Or.inl q)
  have h2 : w ≤ nI T := Int32.not_lt.mp (fun q => h (Or.inr q))
  exact nI_of2 (nI_toInt (by omega)) h1 h2
theorem nbad_nI {a : Nat} (hN : N ≤ 10) (ha : a < N) : ¬ badP N (nI a) := by
  rintro (q | q)
  · exact nI_pos (by omega) q
  · exact nI_ge ha (by omega) q
theorem edge_rel (hN : N ≤ 10) (hG : okG P E Md) (hD : okD P E Md fp fe fm) (hM : okM P E Md fw gm) (e1 : edgeP N x y w fp r f2) (e2 : edgeP N x y w fw r2 h2) :
    r = r2 ∧ ∃ P2, okG P2 E Md ∧ okD P2 E Md f2 fe fm ∧ okM P2 E Md h2 gm := by
  rcases e1 with ⟨a1, a2, a3⟩ | ⟨a1, a2, a3, a4⟩ | ⟨a, b, a1, a2, a3, a4, a5, a6, a7, a8⟩
  · rcases e2 with ⟨b1, b2, b3⟩ | ⟨b1, b2, b3, b4⟩ | ⟨c, d, b1, b2, b3, b4, b5, b6, b7, b8⟩
    · subst a3; subst b3; exact ⟨a2.trans b2.symm, P, hG, hD, hM⟩
    · exact absurd a1 b1
    · exfalso
      rcases a1 with q | q | q
      · rw [b4] at q; exact nbad_nI hN b1 q
      · rw [b5] at q; exact nbad_nI hN b2 q
      · rw [b4, b5] at q; exact b3 ((nI_eq (by omega) (by omega)).mp q)
  · rcases e2 with ⟨b1, b2, b3⟩ | ⟨b1, b2, b3, b4⟩ | ⟨c, d, b1, b2, b3, b4, b5, b6, b7, b8⟩
    · exact absurd b1 a1
    · subst a4; subst b4; exact ⟨a3.trans b3.symm, P, hG, hD, hM⟩
    · exact absurd a2 b6
  · rcases e2 with ⟨b1, b2, b3⟩ | ⟨b1, b2, b3, b4⟩ | ⟨c, d, b1, b2, b3, b4, b5, b6, b7, b8⟩
    · exfalso
      rcases b1 with q | q | q
      · rw [a4] at q; exact nbad_nI hN a1 q
      · rw [a5] at q; exact nbad_nI hN a2 q
      · rw [a4, a5] at q; exact a3 ((nI_eq (by omega) (by omega)).mp q)
    · exact absurd b2 a6
    · obtain rfl : a = c := (nI_eq (by omega) (by omega)).mp (a4.symm.trans b4)
      obtain rfl : b = d := (nI_eq (by omega) (by omega)).mp (a5.symm.trans b5)
      obtain ⟨j, j1, rfl⟩ := small (by omega) a6
      refine ⟨by rw [a7, b7, hD.1 a b (by omega) (by omega), hM.1 a b (by omega) (by omega) a3], fun c d => if (c = a ∧ d = b) ∨ (c = b ∧ d = a) then j else P c d, ⟨fun c d hc hd => ?_, fun c d hc hd => ?_, fun c hc => ?_, hG.2.2.2⟩, ⟨fun c d hc hd => ?_, hD.2⟩, ⟨fun c d hc hd hn => ?_, fun c hc => ?_, hM.2.2⟩⟩
      all_goals (try dsimp only)
      · by_cases q : (c = a ∧ d = b) ∨ (c = b ∧ d = a)
        · rw [if_pos q]; exact j1
        · rw [if_neg q]; exact hG.1 c d hc hd
      · by_cases q : (c = a ∧ d = b) ∨ (c = b ∧ d = a)
        · rw [if_pos q, if_pos (by omega)]
        · rw [if_neg q, if_neg (by omega)]; exact hG.2.1 c d hc hd
      · rw [if_neg (by omega)]; exact hG.2.2.1 c hc
      · rw [a8]
        by_cases q1 : c = b ∧ d = a
        · obtain ⟨rfl, rfl⟩ := q1; rw [pk_us, if_pos (Or.inr ⟨rfl, rfl⟩)]
        · rw [pk_un (by omega)]
          by_cases q2 : c = a ∧ d = b
          · obtain ⟨rfl, rfl⟩ := q2; rw [pk_us, if_pos (Or.inl ⟨rfl, rfl⟩)]
          · rw [pk_un (by omega), if_neg (fun z => z.elim q2 q1)]; exact hD.1 c d hc hd
      · rw [b8]
        by_cases q1 : c = b ∧ d = a
        · obtain ⟨rfl, rfl⟩ := q1; rw [pk_us, if_pos (Or.inr ⟨rfl, rfl⟩)]
        · rw [pk_un (by omega)]
          by_cases q2 : c = a ∧ d = b
          · obtain ⟨rfl, rfl⟩ := q2; rw [pk_us, if_pos (Or.inl ⟨rfl, rfl⟩)]
          · rw [pk_un (by omega), if_neg (fun z => z.elim q2 q1)]; exact hM.1 c d hc hd hn
      · rw [b8, pk_un (by omega), pk_un (by omega)]; exact hM.2.1 c hc
theorem bonus_rel (hN : N ≤ 10) (hG : okG P E Md) (hD : okD P E Md fp fe fm) (hM : okM P E Md fw gm) (e1 : bonusP N 20 (fun a => a) (-2) x w fe r f2) (e2 : bonusP N 20 (fun a => a * 10 + a) (-2) x w fw r2 h2) :
    r = r2 ∧ ∃ E2, okG P E2 Md ∧ okD P E2 Md fp f2 fm ∧ okM P E2 Md h2 gm := by
  rcases e1 with ⟨a1, a2, a3⟩ | ⟨a1, a2, a3, a4⟩ | ⟨a, a1, a2, a3, a4, a5⟩
  · rcases e2 with ⟨b1, b2, b3⟩ | ⟨b1, b2, b3, b4⟩ | ⟨c, b1, b2, b3, b4, b5⟩
    · subst a3; subst b3; exact ⟨a2.trans b2.symm, E, hG, hD, hM⟩
    · exact absurd a1 b1
    · rw [b2] at a1; exact absurd a1 (nbad_nI hN b1)
  · rcases e2 with ⟨b1, b2, b3⟩ | ⟨b1, b2, b3, b4⟩ | ⟨c, b1, b2, b3, b4, b5⟩
    · exact absurd b1 a1
    · subst a4; subst b4; exact ⟨a3.trans b3.symm, E, hG, hD, hM⟩
    · exact absurd a2 b3
  · rcases e2 with ⟨b1, b2, b3⟩ | ⟨b1, b2, b3, b4⟩ | ⟨c, b1, b2, b3, b4, b5⟩
    · rw [a2] at b1; exact absurd b1 (nbad_nI hN a1)
    · exact absurd b2 a3
    · obtain rfl : a = c := (nI_eq (by omega) (by omega)).mp (a2.symm.trans b2)
      obtain ⟨j, j1, rfl⟩ := small (by omega) a3
      dsimp only at a4 a5 b4 b5
      refine ⟨by rw [a4, b4, hD.2.1 a (by omega), hM.2.1 a (by omega)], fun c => if c = a then j else E c, ⟨hG.1, hG.2.1, hG.2.2.1, fun c hc => ?_, hG.2.2.2.2⟩, ⟨hD.1, fun c hc => ?_, hD.2.2⟩, ⟨fun c d hc hd hn => ?_, fun c hc => ?_, hM.2.2⟩⟩
      all_goals (try dsimp only)
      · by_cases q : c = a
        · rw [if_pos q]; exact j1
        · rw [if_neg q]; exact hG.2.2.2.1 c hc
      · rw [a5]
        by_cases q : c = a
        · rw [if_pos q, q, pk_us]
        · rw [if_neg q, pk_un q]; exact hD.2.1 c hc
      · rw [b5, pk_un (by omega)]; exact hM.1 c d hc hd hn
      · rw [b5]
        by_cases q : c = a
        · rw [if_pos q, q, pk_us]
        · rw [if_neg q, pk_un (by omega)]; exact hM.2.1 c hc
theorem mode_rel (hN : N ≤ 10) (hG : okG P E Md) (hD : okD P E Md fp fe fm) (hM : okM P E Md fw gm) (e1 : bonusP N 2 (fun a => a) (-3) x w fm r f2) (e2 : bonusP N 2 (fun a => a) (-3) x w gm r2 h2) :
    r = r2 ∧ ∃ Md2, okG P E Md2 ∧ okD P E Md2 fp fe f2 ∧ okM P E Md2 fw h2 := by
  rcases e1 with ⟨a1, a2, a3⟩ | ⟨a1, a2, a3, a4⟩ | ⟨a, a1, a2, a3, a4, a5⟩
  · rcases e2 with ⟨b1, b2, b3⟩ | ⟨b1, b2, b3, b4⟩ | ⟨c, b1, b2, b3, b4, b5⟩
    · subst a3; subst b3; exact ⟨a2.trans b2.symm, Md, hG, hD, hM⟩
    · exact absurd a1 b1
    · rw [b2] at a1; exact absurd a1 (nbad_nI hN b1)
  · rcases e2 with ⟨b1, b2, b3⟩ | ⟨b1, b2, b3, b4⟩ | ⟨c, b1, b2, b3, b4, b5⟩
    · exact absurd b1 a1
    · subst a4; subst b4; exact ⟨a3.trans b3.symm, Md, hG, hD, hM⟩
    · exact absurd a2 b3
  · rcases e2 with ⟨b1, b2, b3⟩ | ⟨b1, b2, b3, b4⟩ | ⟨c, b1, b2, b3, b4, b5⟩
    · rw [a2] at b1; exact absurd b1 (nbad_nI hN a1)
    · exact absurd b2 a3
    · obtain rfl : a = c := (nI_eq (by omega) (by omega)).mp (a2.symm.trans b2)
      obtain ⟨j, j1, rfl⟩ := small (by omega) a3
      dsimp only at a4 a5 b4 b5
      refine ⟨by rw [a4, b4, hD.2.2 a (by omega), hM.2.2 a (by omega)], fun c => if c = a then j else Md c, ⟨hG.1, hG.2.1, hG.2.2.1, hG.2.2.2.1, fun c hc => ?_⟩, ⟨hD.1, hD.2.1, fun c hc => ?_⟩, ⟨hM.1, hM.2.1, fun c hc => ?_⟩⟩
      all_goals (try dsimp only)
      · by_cases q : c = a
        · rw [if_pos q]; exact j1
        · rw [if_neg q]; exact hG.2.2.2.2 c hc
      · rw [a5]
        by_cases q : c = a
        · rw [if_pos q, q, pk_us]
        · rw [if_neg q, pk_un q]; exact hD.2.2 c hc
      · rw [b5]
        by_cases q : c = a
        · rw [if_pos q, q, pk_us]
        · rw [if_neg q, pk_un q]; exact hM.2.2 c hc
theorem rel_0 : okG (fun _ _ => 0) (fun _ => 0) (fun _ => 0) ∧ okD (fun _ _ => 0) (fun _ => 0) (fun _ => 0) (fun _ => 0) (fun _ => 0) (fun _ => 0) ∧ okM (fun _ _ => 0) (fun _ => 0) (fun _ => 0) (fun _ => 0) (fun _ => 0) :=
  ⟨⟨fun _ _ _ _ => Nat.zero_le _, fun _ _ _ _ => rfl, fun _ _ => rfl, fun _ _ => Nat.zero_le _, fun _ _ => Nat.zero_le _⟩, ⟨fun _ _ _ _ => rfl, fun _ _ => rfl, fun _ _ => rfl⟩, ⟨fun _ _ _ _ _ => rfl, fun _ _ => rfl, fun _ _ => rfl⟩⟩
end REL
/-- the number of vertices that a constructor takes for k -/
def kc (x : Int32) : Int32 := if nI 1 ≤ x then (if x ≤ nI 10 then x else nI 10) else nI 1
theorem kc_ok (x : Int32) : ∃ N : Nat, 1 ≤ N ∧ N ≤ 10 ∧ kc x = nI N := by
  unfold kc
  by_cases h1 : nI 1 ≤ x
  · rw [if_pos h1]
    by_cases h2 : x ≤ nI 10
    · rw [if_pos h2]
      have h3 : ¬ x < 0 := fun q => by
        rw [Int32.le_iff_toInt_le, show (nI 1).toInt = 1 by decide] at h1
        rw [Int32.lt_iff_toInt_lt, Int32.toInt_zero] at q
        omega
      obtain ⟨j, j1, rfl⟩ := nI_of2 (M := nI 10) (n := 10) (nI_toInt (by omega)) h3 h2
      refine ⟨j, ?_, j1, rfl⟩
      exact (nI_leI (by omega) (by omega)).mp h1
    · rw [if_neg h2]; exact ⟨10, by omega, by omega, rfl⟩
  · rw [if_neg h1]; exact ⟨1, by omega, by omega, rfl⟩
end
section
set_option maxHeartbeats 4000000 in
set_option maxRecDepth 100000 in
theorem c_D_init (l : Launch) (dC : Nat → ClassId) (dI : Nat → Nat → Nat) (h0 : Nat) (sz : Nat) (x : Int32) : Met l y_D_init w_D_init rm_D_init (va_Pc [.ref h0, .int x] (fun U => U.heap.size = sz ∧ va_P (dC, dI) classes [(h0, .inr (0, [.int 0, .null, .null, .null, .null, .null, .null, .null, .int 0, .int 0, .int 0, .int 0]))] U.heap ∧ va_K (dC, dI) classes [] U ∧ va_D (fun _ => True) [(h0, .inr (0, [.int 0, .null, .null, .null, .null, .null, .null, .null, .int 0, .int 0, .int 0, .int 0]))])) (va_Qv (fun g : GD => g.1 = (dC, dI) ∧ g.2.1 0 = h0) (fun g t => RD g (kc x, (fun _ => 0), (fun _ => 0), (fun _ => 0), (fun _ => 0), (fun _ => 0), (fun _ => 0), (fun _ => 0), 0, 0, 0, 0) t t.heap ∧ va_D (va_A [(h0, .inr (0, [.int 0, .null, .null, .null, .null, .null, .null, .null, .int 0, .int 0, .int 0, .int 0]))] sz) (wD g (kc x, (fun _ => 0), (fun _ => 0), (fun _ => 0), (fun _ => 0), (fun _ => 0), (fun _ => 0), (fun _ => 0), 0, 0, 0, 0))) (va_A [(h0, .inr (0, [.int 0, .null, .null, .null, .null, .null, .null, .null, .int 0, .int 0, .int 0, .int 0]))] sz)) 7 300 (va_A [(h0, .inr (0, [.int 0, .null, .null, .null, .null, .null, .null, .null, .int 0, .int 0, .int 0, .int 0]))] sz) := by
  refine Met.ofW (cc := b_D_init) (maxL := 3) (ret := none) (by decide) rfl ?_
  intro p e s m args below meth c s₁ B hml hv
  obtain ⟨rfl, hsz, hP, hK, hD0⟩ := hv
  have hx := B.exec
  have hb := B.bytes
  have hr := B.returns
  have htl := htl_of (atoms_spec (ws := w_D_init) B.pre)
  have hown : s.vm.findClass R_D = some m.cls := findClass_of_methodNamed B.named
  have hlocks := B.notSynchronized
  have hin : meth.name = "<init>" := (name_of_methodNamed B.named B.method).1
  subst hsz
  have hD := hD0.self (sz := s.heap.size)
  generalize hAe : va_A [(h0, .inr (0, [.int 0, .null, .null, .null, .null, .null, .null, .null, .int 0, .int 0, .int 0, .int 0]))] s.heap.size = A at hD ⊢
  have hA : ∀ q : Nat, s.heap.size ≤ q → A q := fun q h => by rw [← hAe]; exact Or.inr h
  have hS : va_S A s.heap s.heap [] := va_S.rf
  have hP : va_P (dC, dI) classes [(h0, .inr (0, [.int 0, .null, .null, .null, .null, .null, .null, .null, .int 0, .int 0, .int 0, .int 0]))] s.heap := hP
  have hl := lv_entry ([.ref h0, .int x]) (n := 3) (Nat.le_of_ble_eq_true rfl)
  rw [lg_entry_eq]
  generalize (lg_sl ([.ref h0, .int x]) ++ List.replicate (3 - (lg_sl ([.ref h0, .int x])).length) Slot.unset).toArray = ls at hl ⊢
  have hl : lv_has ls 3 [(0, .ref h0), (1, .int x)] := hl
  refine lv_aload_n hx hb d_D_init_0 rfl (lv_at hl 0 rfl) ?_
  refine W.objInit hx hb hown (htl _ e_ml_D_obj) (htl _ e_im_obj) (htl _ e_co_obj) rfl (by rw [hml]; exact hl.1) rfl d_D_init_1 (Nat.le_of_ble_eq_true rfl) (Nat.le_of_ble_eq_true rfl) ?_
  refine W.eq (g2 := F0 m 4 ls []) rfl ?_
  refine lv_aload_n hx hb d_D_init_4 rfl (lv_at hl 0 rfl) ?_
  refine lv_bipush (v := nI 100) hx hb d_D_init_5 (by decide) ?_
  refine va_newa (atype := .int) (ty := .int) (N' := 100) (a0 := (100, .inl (fun _ => 0))) hx hb (htl (.arrayClass .int) e_ac_int) rfl hK hP hD hS hA (fun _ => rfl) (by decide) (by decide) (by decide) (Nat.le_of_ble_eq_true rfl) (Nat.le_of_ble_eq_true rfl) d_D_init_7 (fun q1 c1 H hK hP hD hS => ?_)
  have hK : va_K (dC, dI) classes [(c1, .int)] s := hK
  have hP : va_P (dC, dI) classes [(h0, .inr (0, [.int 0, .null, .null, .null, .null, .null, .null, .null, .int 0, .int 0, .int 0, .int 0])), (q1, .inl (c1, 100, .inl (fun _ => 0)))] H := hP
  have hD : va_D A [(h0, .inr (0, [.int 0, .null, .null, .null, .null, .null, .null, .null, .int 0, .int 0, .int 0, .int 0])), (q1, .inl (c1, 100, .inl (fun _ => 0)))] := hD
  refine va_putF (D := (dC, dI)) (ci := 0) (v := .ref q1) (ty := .array .int) (C := R_D) (T := F_D) (N := 12) hx hb htl i_D t_D t_D_ok n_D hown hK hP hD hS 0 rfl rfl 1 (by decide) (htl _ e_fl_D_pair) (fun _ h9 => h9) rfl hin rfl (by decide +kernel) rfl rfl (Nat.le_of_ble_eq_true rfl) d_D_init_9 (fun H locs hP hD hS => ?_)
  have hP : va_P (dC, dI) classes [(h0, .inr (0, [.int 0, .ref q1, .null, .null, .null, .null, .null, .null, .int 0, .int 0, .int 0, .int 0])), (q1, .inl (c1, 100, .inl (fun _ => 0)))] H := hP
  have hD : va_D A [(h0, .inr (0, [.int 0, .ref q1, .null, .null, .null, .null, .null, .null, .int 0, .int 0, .int 0, .int 0])), (q1, .inl (c1, 100, .inl (fun _ => 0)))] := hD
  refine lv_aload_n hx hb d_D_init_12 rfl (lv_at hl 0 rfl) ?_
  refine lv_bipush (v := nI 10) hx hb d_D_init_13 (by decide) ?_
  refine va_newa (atype := .int) (ty := .int) (N' := 10) (a0 := (10, .inl (fun _ => 0))) hx hb (htl (.arrayClass .int) e_ac_int) rfl hK hP hD hS hA (fun _ => rfl) (by decide) (by decide) (by decide) (Nat.le_of_ble_eq_true rfl) (Nat.le_of_ble_eq_true rfl) d_D_init_15 (fun q2 c2 H hK hP hD hS => ?_)
  have hK : va_K (dC, dI) classes [(c1, .int), (c2, .int)] s := hK
  have hP : va_P (dC, dI) classes [(h0, .inr (0, [.int 0, .ref q1, .null, .null, .null, .null, .null, .null, .int 0, .int 0, .int 0, .int 0])), (q1, .inl (c1, 100, .inl (fun _ => 0))), (q2, .inl (c2, 10, .inl (fun _ => 0)))] H := hP
  have hD : va_D A [(h0, .inr (0, [.int 0, .ref q1, .null, .null, .null, .null, .null, .null, .int 0, .int 0, .int 0, .int 0])), (q1, .inl (c1, 100, .inl (fun _ => 0))), (q2, .inl (c2, 10, .inl (fun _ => 0)))] := hD
  refine va_putF (D := (dC, dI)) (ci := 0) (v := .ref q2) (ty := .array .int) (C := R_D) (T := F_D) (N := 12) hx hb htl i_D t_D t_D_ok n_D hown hK hP hD hS 0 rfl rfl 2 (by decide) (htl _ e_fl_D_extra) (fun _ h9 => h9) rfl hin rfl (by decide +kernel) rfl rfl (Nat.le_of_ble_eq_true rfl) d_D_init_17 (fun H locs hP hD hS => ?_)
  have hP : va_P (dC, dI) classes [(h0, .inr (0, [.int 0, .ref q1, .ref q2, .null, .null, .null, .null, .null, .int 0, .int 0, .int 0, .int 0])), (q1, .inl (c1, 100, .inl (fun _ => 0))), (q2, .inl (c2, 10, .inl (fun _ => 0)))] H := hP
  have hD : va_D A [(h0, .inr (0, [.int 0, .ref q1, .ref q2, .null, .null, .null, .null, .null, .int 0, .int 0, .int 0, .int 0])), (q1, .inl (c1, 100, .inl (fun _ => 0))), (q2, .inl (c2, 10, .inl (fun _ => 0)))] := hD
  refine lv_aload_n hx hb d_D_init_20 rfl (lv_at hl 0 rfl) ?_
  refine lv_bipush (v := nI 10) hx hb d_D_init_21 (by decide) ?_
  refine va_newa (atype := .int) (ty := .int) (N' := 10) (a0 := (10, .inl (fun _ => 0))) hx hb (htl (.arrayClass .int) e_ac_int) rfl hK hP hD hS hA (fun _ => rfl) (by decide) (by decide) (by decide) (Nat.le_of_ble_eq_true rfl) (Nat.le_of_ble_eq_true rfl) d_D_init_23 (fun q3 c3 H hK hP hD hS => ?_)
  have hK : va_K (dC, dI) classes [(c1, .int), (c2, .int), (c3, .int)] s := hK
  have hP : va_P (dC, dI) classes [(h0, .inr (0, [.int 0, .ref q1, .ref q2, .null, .null, .null, .null, .null, .int 0, .int 0, .int 0, .int 0])), (q1, .inl (c1, 100, .inl (fun _ => 0))), (q2, .inl (c2, 10, .inl (fun _ => 0))), (q3, .inl (c3, 10, .inl (fun _ => 0)))] H := hP
  have hD : va_D A [(h0, .inr (0, [.int 0, .ref q1, .ref q2, .null, .null, .null, .null, .null, .int 0, .int 0, .int 0, .int 0])), (q1, .inl (c1, 100, .inl (fun _ => 0))), (q2, .inl (c2, 10, .inl (fun _ => 0))), (q3, .inl (c3, 10, .inl (fun _ => 0)))] := hD
  refine va_putF (D := (dC, dI)) (ci := 0) (v := .ref q3) (ty := .array .int) (C := R_D) (T := F_D) (N := 12) hx hb htl i_D t_D t_D_ok n_D hown hK hP hD hS 0 rfl rfl 3 (by decide) (htl _ e_fl_D_modes) (fun _ h9 => h9) rfl hin rfl (by decide +kernel) rfl rfl (Nat.le_of_ble_eq_true rfl) d_D_init_25 (fun H locs hP hD hS => ?_)
  have hP : va_P (dC, dI) classes [(h0, .inr (0, [.int 0, .ref q1, .ref q2, .ref q3, .null, .null, .null, .null, .int 0, .int 0, .int 0, .int 0])), (q1, .inl (c1, 100, .inl (fun _ => 0))), (q2, .inl (c2, 10, .inl (fun _ => 0))), (q3, .inl (c3, 10, .inl (fun _ => 0)))] H := hP
  have hD : va_D A [(h0, .inr (0, [.int 0, .ref q1, .ref q2, .ref q3, .null, .null, .null, .null, .int 0, .int 0, .int 0, .int 0])), (q1, .inl (c1, 100, .inl (fun _ => 0))), (q2, .inl (c2, 10, .inl (fun _ => 0))), (q3, .inl (c3, 10, .inl (fun _ => 0)))] := hD
  refine lv_aload_n hx hb d_D_init_28 rfl (lv_at hl 0 rfl) ?_
  refine lv_sipush (v := nI 144) hx hb d_D_init_29 (by decide) ?_
  refine va_newa (atype := .int) (ty := .int) (N' := 144) (a0 := (144, .inl (fun _ => 0))) hx hb (htl (.arrayClass .int) e_ac_int) rfl hK hP hD hS hA (fun _ => rfl) (by decide) (by decide) (by decide) (Nat.le_of_ble_eq_true rfl) (Nat.le_of_ble_eq_true rfl) d_D_init_32 (fun q4 c4 H hK hP hD hS => ?_)
  have hK : va_K (dC, dI) classes [(c1, .int), (c2, .int), (c3, .int), (c4, .int)] s := hK
  have hP : va_P (dC, dI) classes [(h0, .inr (0, [.int 0, .ref q1, .ref q2, .ref q3, .null, .null, .null, .null, .int 0, .int 0, .int 0, .int 0])), (q1, .inl (c1, 100, .inl (fun _ => 0))), (q2, .inl (c2, 10, .inl (fun _ => 0))), (q3, .inl (c3, 10, .inl (fun _ => 0))), (q4, .inl (c4, 144, .inl (fun _ => 0)))] H := hP
  have hD : va_D A [(h0, .inr (0, [.int 0, .ref q1, .ref q2, .ref q3, .null, .null, .null, .null, .int 0, .int 0, .int 0, .int 0])), (q1, .inl (c1, 100, .inl (fun _ => 0))), (q2, .inl (c2, 10, .inl (fun _ => 0))), (q3, .inl (c3, 10, .inl (fun _ => 0))), (q4, .inl (c4, 144, .inl (fun _ => 0)))] := hD
  refine va_putF (D := (dC, dI)) (ci := 0) (v := .ref q4) (ty := .array .int) (C := R_D) (T := F_D) (N := 12) hx hb htl i_D t_D t_D_ok n_D hown hK hP hD hS 0 rfl rfl 4 (by decide) (htl _ e_fl_D_residual) (fun _ h9 => h9) rfl hin rfl (by decide +kernel) rfl rfl (Nat.le_of_ble_eq_true rfl) d_D_init_34 (fun H locs hP hD hS => ?_)
  have hP : va_P (dC, dI) classes [(h0, .inr (0, [.int 0, .ref q1, .ref q2, .ref q3, .ref q4, .null, .null, .null, .int 0, .int 0, .int 0, .int 0])), (q1, .inl (c1, 100, .inl (fun _ => 0))), (q2, .inl (c2, 10, .inl (fun _ => 0))), (q3, .inl (c3, 10, .inl (fun _ => 0))), (q4, .inl (c4, 144, .inl (fun _ => 0)))] H := hP
  have hD : va_D A [(h0, .inr (0, [.int 0, .ref q1, .ref q2, .ref q3, .ref q4, .null, .null, .null, .int 0, .int 0, .int 0, .int 0])), (q1, .inl (c1, 100, .inl (fun _ => 0))), (q2, .inl (c2, 10, .inl (fun _ => 0))), (q3, .inl (c3, 10, .inl (fun _ => 0))), (q4, .inl (c4, 144, .inl (fun _ => 0)))] := hD
  refine lv_aload_n hx hb d_D_init_37 rfl (lv_at hl 0 rfl) ?_
  refine lv_bipush (v := nI 12) hx hb d_D_init_38 (by decide) ?_
  refine va_newa (atype := .int) (ty := .int) (N' := 12) (a0 := (12, .inl (fun _ => 0))) hx hb (htl (.arrayClass .int) e_ac_int) rfl hK hP hD hS hA (fun _ => rfl) (by decide) (by decide) (by decide) (Nat.le_of_ble_eq_true rfl) (Nat.le_of_ble_eq_true rfl) d_D_init_40 (fun q5 c5 H hK hP hD hS => ?_)
  have hK : va_K (dC, dI) classes [(c1, .int), (c2, .int), (c3, .int), (c4, .int), (c5, .int)] s := hK
  have hP : va_P (dC, dI) classes [(h0, .inr (0, [.int 0, .ref q1, .ref q2, .ref q3, .ref q4, .null, .null, .null, .int 0, .int 0, .int 0, .int 0])), (q1, .inl (c1, 100, .inl (fun _ => 0))), (q2, .inl (c2, 10, .inl (fun _ => 0))), (q3, .inl (c3, 10, .inl (fun _ => 0))), (q4, .inl (c4, 144, .inl (fun _ => 0))), (q5, .inl (c5, 12, .inl (fun _ => 0)))] H := hP
  have hD : va_D A [(h0, .inr (0, [.int 0, .ref q1, .ref q2, .ref q3, .ref q4, .null, .null, .null, .int 0, .int 0, .int 0, .int 0])), (q1, .inl (c1, 100, .inl (fun _ => 0))), (q2, .inl (c2, 10, .inl (fun _ => 0))), (q3, .inl (c3, 10, .inl (fun _ => 0))), (q4, .inl (c4, 144, .inl (fun _ => 0))), (q5, .inl (c5, 12, .inl (fun _ => 0)))] := hD
  refine va_putF (D := (dC, dI)) (ci := 0) (v := .ref q5) (ty := .array .int) (C := R_D) (T := F_D) (N := 12) hx hb htl i_D t_D t_D_ok n_D hown hK hP hD hS 0 rfl rfl 5 (by decide) (htl _ e_fl_D_cameFrom) (fun _ h9 => h9) rfl hin rfl (by decide +kernel) rfl rfl (Nat.le_of_ble_eq_true rfl) d_D_init_42 (fun H locs hP hD hS => ?_)
  have hP : va_P (dC, dI) classes [(h0, .inr (0, [.int 0, .ref q1, .ref q2, .ref q3, .ref q4, .ref q5, .null, .null, .int 0, .int 0, .int 0, .int 0])), (q1, .inl (c1, 100, .inl (fun _ => 0))), (q2, .inl (c2, 10, .inl (fun _ => 0))), (q3, .inl (c3, 10, .inl (fun _ => 0))), (q4, .inl (c4, 144, .inl (fun _ => 0))), (q5, .inl (c5, 12, .inl (fun _ => 0)))] H := hP
  have hD : va_D A [(h0, .inr (0, [.int 0, .ref q1, .ref q2, .ref q3, .ref q4, .ref q5, .null, .null, .int 0, .int 0, .int 0, .int 0])), (q1, .inl (c1, 100, .inl (fun _ => 0))), (q2, .inl (c2, 10, .inl (fun _ => 0))), (q3, .inl (c3, 10, .inl (fun _ => 0))), (q4, .inl (c4, 144, .inl (fun _ => 0))), (q5, .inl (c5, 12, .inl (fun _ => 0)))] := hD
  refine lv_aload_n hx hb d_D_init_45 rfl (lv_at hl 0 rfl) ?_
  refine lv_bipush (v := nI 12) hx hb d_D_init_46 (by decide) ?_
  refine va_newa (atype := .int) (ty := .int) (N' := 12) (a0 := (12, .inl (fun _ => 0))) hx hb (htl (.arrayClass .int) e_ac_int) rfl hK hP hD hS hA (fun _ => rfl) (by decide) (by decide) (by decide) (Nat.le_of_ble_eq_true rfl) (Nat.le_of_ble_eq_true rfl) d_D_init_48 (fun q6 c6 H hK hP hD hS => ?_)
  have hK : va_K (dC, dI) classes [(c1, .int), (c2, .int), (c3, .int), (c4, .int), (c5, .int), (c6, .int)] s := hK
  have hP : va_P (dC, dI) classes [(h0, .inr (0, [.int 0, .ref q1, .ref q2, .ref q3, .ref q4, .ref q5, .null, .null, .int 0, .int 0, .int 0, .int 0])), (q1, .inl (c1, 100, .inl (fun _ => 0))), (q2, .inl (c2, 10, .inl (fun _ => 0))), (q3, .inl (c3, 10, .inl (fun _ => 0))), (q4, .inl (c4, 144, .inl (fun _ => 0))), (q5, .inl (c5, 12, .inl (fun _ => 0))), (q6, .inl (c6, 12, .inl (fun _ => 0)))] H := hP
  have hD : va_D A [(h0, .inr (0, [.int 0, .ref q1, .ref q2, .ref q3, .ref q4, .ref q5, .null, .null, .int 0, .int 0, .int 0, .int 0])), (q1, .inl (c1, 100, .inl (fun _ => 0))), (q2, .inl (c2, 10, .inl (fun _ => 0))), (q3, .inl (c3, 10, .inl (fun _ => 0))), (q4, .inl (c4, 144, .inl (fun _ => 0))), (q5, .inl (c5, 12, .inl (fun _ => 0))), (q6, .inl (c6, 12, .inl (fun _ => 0)))] := hD
  refine va_putF (D := (dC, dI)) (ci := 0) (v := .ref q6) (ty := .array .int) (C := R_D) (T := F_D) (N := 12) hx hb htl i_D t_D t_D_ok n_D hown hK hP hD hS 0 rfl rfl 6 (by decide) (htl _ e_fl_D_queue) (fun _ h9 => h9) rfl hin rfl (by decide +kernel) rfl rfl (Nat.le_of_ble_eq_true rfl) d_D_init_50 (fun H locs hP hD hS => ?_)
  have hP : va_P (dC, dI) classes [(h0, .inr (0, [.int 0, .ref q1, .ref q2, .ref q3, .ref q4, .ref q5, .ref q6, .null, .int 0, .int 0, .int 0, .int 0])), (q1, .inl (c1, 100, .inl (fun _ => 0))), (q2, .inl (c2, 10, .inl (fun _ => 0))), (q3, .inl (c3, 10, .inl (fun _ => 0))), (q4, .inl (c4, 144, .inl (fun _ => 0))), (q5, .inl (c5, 12, .inl (fun _ => 0))), (q6, .inl (c6, 12, .inl (fun _ => 0)))] H := hP
  have hD : va_D A [(h0, .inr (0, [.int 0, .ref q1, .ref q2, .ref q3, .ref q4, .ref q5, .ref q6, .null, .int 0, .int 0, .int 0, .int 0])), (q1, .inl (c1, 100, .inl (fun _ => 0))), (q2, .inl (c2, 10, .inl (fun _ => 0))), (q3, .inl (c3, 10, .inl (fun _ => 0))), (q4, .inl (c4, 144, .inl (fun _ => 0))), (q5, .inl (c5, 12, .inl (fun _ => 0))), (q6, .inl (c6, 12, .inl (fun _ => 0)))] := hD
  refine lv_aload_n hx hb d_D_init_53 rfl (lv_at hl 0 rfl) ?_
  refine lv_bipush (v := nI 12) hx hb d_D_init_54 (by decide) ?_
  refine va_newa (atype := .boolean) (ty := .boolean) (N' := 12) (a0 := (12, .inl (fun _ => 0))) hx hb (htl (.arrayClass .boolean) e_ac_boolean) rfl hK hP hD hS hA (fun _ => rfl) (by decide) (by decide) (by decide) (Nat.le_of_ble_eq_true rfl) (Nat.le_of_ble_eq_true rfl) d_D_init_56 (fun q7 c7 H hK hP hD hS => ?_)
  have hK : va_K (dC, dI) classes [(c1, .int), (c2, .int), (c3, .int), (c4, .int), (c5, .int), (c6, .int), (c7, .boolean)] s := hK
  have hP : va_P (dC, dI) classes [(h0, .inr (0, [.int 0, .ref q1, .ref q2, .ref q3, .ref q4, .ref q5, .ref q6, .null, .int 0, .int 0, .int 0, .int 0])), (q1, .inl (c1, 100, .inl (fun _ => 0))), (q2, .inl (c2, 10, .inl (fun _ => 0))), (q3, .inl (c3, 10, .inl (fun _ => 0))), (q4, .inl (c4, 144, .inl (fun _ => 0))), (q5, .inl (c5, 12, .inl (fun _ => 0))), (q6, .inl (c6, 12, .inl (fun _ => 0))), (q7, .inl (c7, 12, .inl (fun _ => 0)))] H := hP
  have hD : va_D A [(h0, .inr (0, [.int 0, .ref q1, .ref q2, .ref q3, .ref q4, .ref q5, .ref q6, .null, .int 0, .int 0, .int 0, .int 0])), (q1, .inl (c1, 100, .inl (fun _ => 0))), (q2, .inl (c2, 10, .inl (fun _ => 0))), (q3, .inl (c3, 10, .inl (fun _ => 0))), (q4, .inl (c4, 144, .inl (fun _ => 0))), (q5, .inl (c5, 12, .inl (fun _ => 0))), (q6, .inl (c6, 12, .inl (fun _ => 0))), (q7, .inl (c7, 12, .inl (fun _ => 0)))] := hD
  refine va_putF (D := (dC, dI)) (ci := 0) (v := .ref q7) (ty := .array .boolean) (C := R_D) (T := F_D) (N := 12) hx hb htl i_D t_D t_D_ok n_D hown hK hP hD hS 0 rfl rfl 7 (by decide) (htl _ e_fl_D_reaches) (fun _ h9 => h9) rfl hin rfl (by decide +kernel) rfl rfl (Nat.le_of_ble_eq_true rfl) d_D_init_58 (fun H locs hP hD hS => ?_)
  have hP : va_P (dC, dI) classes [(h0, .inr (0, [.int 0, .ref q1, .ref q2, .ref q3, .ref q4, .ref q5, .ref q6, .ref q7, .int 0, .int 0, .int 0, .int 0])), (q1, .inl (c1, 100, .inl (fun _ => 0))), (q2, .inl (c2, 10, .inl (fun _ => 0))), (q3, .inl (c3, 10, .inl (fun _ => 0))), (q4, .inl (c4, 144, .inl (fun _ => 0))), (q5, .inl (c5, 12, .inl (fun _ => 0))), (q6, .inl (c6, 12, .inl (fun _ => 0))), (q7, .inl (c7, 12, .inl (fun _ => 0)))] H := hP
  have hD : va_D A [(h0, .inr (0, [.int 0, .ref q1, .ref q2, .ref q3, .ref q4, .ref q5, .ref q6, .ref q7, .int 0, .int 0, .int 0, .int 0])), (q1, .inl (c1, 100, .inl (fun _ => 0))), (q2, .inl (c2, 10, .inl (fun _ => 0))), (q3, .inl (c3, 10, .inl (fun _ => 0))), (q4, .inl (c4, 144, .inl (fun _ => 0))), (q5, .inl (c5, 12, .inl (fun _ => 0))), (q6, .inl (c6, 12, .inl (fun _ => 0))), (q7, .inl (c7, 12, .inl (fun _ => 0)))] := hD
  have r1 : s.vm.findClass ("[" ++ FieldType.int.toString) = some c1 := (hK.2 0 (c1, .int) rfl).2
  have r2 : s.vm.findClass ("[" ++ FieldType.int.toString) = some c2 := (hK.2 1 (c2, .int) rfl).2
  obtain rfl : c1 = c2 := Option.some.inj (r1.symm.trans r2)
  have r3 : s.vm.findClass ("[" ++ FieldType.int.toString) = some c3 := (hK.2 2 (c3, .int) rfl).2
  obtain rfl : c1 = c3 := Option.some.inj (r1.symm.trans r3)
  have r4 : s.vm.findClass ("[" ++ FieldType.int.toString) = some c4 := (hK.2 3 (c4, .int) rfl).2
  obtain rfl : c1 = c4 := Option.some.inj (r1.symm.trans r4)
  have r5 : s.vm.findClass ("[" ++ FieldType.int.toString) = some c5 := (hK.2 4 (c5, .int) rfl).2
  obtain rfl : c1 = c5 := Option.some.inj (r1.symm.trans r5)
  have r6 : s.vm.findClass ("[" ++ FieldType.int.toString) = some c6 := (hK.2 5 (c6, .int) rfl).2
  obtain rfl : c1 = c6 := Option.some.inj (r1.symm.trans r6)
  refine lv_iload_n hx hb d_D_init_61 rfl (lv_at hl 1 rfl) ?_
  refine lv_istore_n (lv' := [(2, .int x), (0, .ref (h0)), (1, .int x)]) hx hb d_D_init_62 rfl hl (by decide) rfl (fun ls hl => ?_)
  refine lv_iload_n hx hb d_D_init_63 rfl (lv_at hl 0 rfl) ?_
  refine lv_iconst (v := nI 1) hx hb d_D_init_64 (by decide) ?_
  refine lv_icmp_ge (tgt := 70) hx hb d_D_init_65 (by decide) (fun c65 => ?_) (fun c65 => ?_)
  · refine lv_iload_n hx hb d_D_init_70 rfl (lv_at hl 0 rfl) ?_
    refine lv_bipush (v := nI 10) hx hb d_D_init_71 (by decide) ?_
    refine lv_icmp_le (tgt := 79) hx hb d_D_init_73 (by decide) (fun c73 => ?_) (fun c73 => ?_)
    · refine lv_aload_n hx hb d_D_init_79 rfl (lv_at hl 1 rfl) ?_
      refine lv_iload_n hx hb d_D_init_80 rfl (lv_at hl 0 rfl) ?_
      refine tp_i (y := kc x) (by unfold kc; first | rw [if_pos c65, if_pos c73] | rw [if_pos c65, if_neg c73] | rw [if_neg c65]) ?_
      refine va_putF (D := (dC, dI)) (ci := 0) (v := .int (kc x)) (ty := .int) (C := R_D) (T := F_D) (N := 12) hx hb htl i_D t_D t_D_ok n_D hown hK hP hD hS 0 rfl rfl 0 (by decide) (htl _ e_fl_D_n) (fun _ h9 => h9) rfl hin rfl (by decide +kernel) rfl rfl (Nat.le_of_ble_eq_true rfl) d_D_init_81 (fun H locs hP hD hS => ?_)
      have hP : va_P (dC, dI) classes [(h0, .inr (0, [.int (kc x), .ref q1, .ref q2, .ref q3, .ref q4, .ref q5, .ref q6, .ref q7, .int 0, .int 0, .int 0, .int 0])), (q1, .inl (c1, 100, .inl (fun _ => 0))), (q2, .inl (c1, 10, .inl (fun _ => 0))), (q3, .inl (c1, 10, .inl (fun _ => 0))), (q4, .inl (c1, 144, .inl (fun _ => 0))), (q5, .inl (c1, 12, .inl (fun _ => 0))), (q6, .inl (c1, 12, .inl (fun _ => 0))), (q7, .inl (c7, 12, .inl (fun _ => 0)))] H := hP
      have hD : va_D A [(h0, .inr (0, [.int (kc x), .ref q1, .ref q2, .ref q3, .ref q4, .ref q5, .ref q6, .ref q7, .int 0, .int 0, .int 0, .int 0])), (q1, .inl (c1, 100, .inl (fun _ => 0))), (q2, .inl (c1, 10, .inl (fun _ => 0))), (q3, .inl (c1, 10, .inl (fun _ => 0))), (q4, .inl (c1, 144, .inl (fun _ => 0))), (q5, .inl (c1, 12, .inl (fun _ => 0))), (q6, .inl (c1, 12, .inl (fun _ => 0))), (q7, .inl (c7, 12, .inl (fun _ => 0)))] := hD
      refine W.widen (k := 7) (n := 300) (by decide) (by decide) ?_
      exact W.vret hx hb hr (fun t ht hW => ⟨⟨((dC, dI), (fun k => match k with | 0 => h0 | 1 => q1 | 2 => q2 | 3 => q3 | 4 => q4 | 5 => q5 | 6 => q6 | _ => q7), c1, c7), rfl, ⟨rfl, rfl⟩, ⟨va_K.moved hW.alike (hK.sub [0, 6] rfl), by rw [ht]; exact hP⟩, hD⟩, hS.F ht⟩) hS.2.2 d_D_init_84
    · refine lv_bipush (v := nI 10) hx hb d_D_init_76 (by decide) ?_
      refine lv_istore_n (lv' := [(2, .int (nI 10)), (0, .ref (h0)), (1, .int x)]) hx hb d_D_init_78 rfl hl (by decide) rfl (fun ls hl => ?_)
      refine lv_aload_n hx hb d_D_init_79 rfl (lv_at hl 1 rfl) ?_
      refine lv_iload_n hx hb d_D_init_80 rfl (lv_at hl 0 rfl) ?_
      refine tp_i (y := kc x) (by unfold kc; first | rw [if_pos c65, if_pos c73] | rw [if_pos c65, if_neg c73] | rw [if_neg c65]) ?_
      refine va_putF (D := (dC, dI)) (ci := 0) (v := .int (kc x)) (ty := .int) (C := R_D) (T := F_D) (N := 12) hx hb htl i_D t_D t_D_ok n_D hown hK hP hD hS 0 rfl rfl 0 (by decide) (htl _ e_fl_D_n) (fun _ h9 => h9) rfl hin rfl (by decide +kernel) rfl rfl (Nat.le_of_ble_eq_true rfl) d_D_init_81 (fun H locs hP hD hS => ?_)
      have hP : va_P (dC, dI) classes [(h0, .inr (0, [.int (kc x), .ref q1, .ref q2, .ref q3, .ref q4, .ref q5, .ref q6, .ref q7, .int 0, .int 0, .int 0, .int 0])), (q1, .inl (c1, 100, .inl (fun _ => 0))), (q2, .inl (c1, 10, .inl (fun _ => 0))), (q3, .inl (c1, 10, .inl (fun _ => 0))), (q4, .inl (c1, 144, .inl (fun _ => 0))), (q5, .inl (c1, 12, .inl (fun _ => 0))), (q6, .inl (c1, 12, .inl (fun _ => 0))), (q7, .inl (c7, 12, .inl (fun _ => 0)))] H := hP
      have hD : va_D A [(h0, .inr (0, [.int (kc x), .ref q1, .ref q2, .ref q3, .ref q4, .ref q5, .ref q6, .ref q7, .int 0, .int 0, .int 0, .int 0])), (q1, .inl (c1, 100, .inl (fun _ => 0))), (q2, .inl (c1, 10, .inl (fun _ => 0))), (q3, .inl (c1, 10, .inl (fun _ => 0))), (q4, .inl (c1, 144, .inl (fun _ => 0))), (q5, .inl (c1, 12, .inl (fun _ => 0))), (q6, .inl (c1, 12, .inl (fun _ => 0))), (q7, .inl (c7, 12, .inl (fun _ => 0)))] := hD
      refine W.widen (k := 7) (n := 300) (by decide) (by decide) ?_
      exact W.vret hx hb hr (fun t ht hW => ⟨⟨((dC, dI), (fun k => match k with | 0 => h0 | 1 => q1 | 2 => q2 | 3 => q3 | 4 => q4 | 5 => q5 | 6 => q6 | _ => q7), c1, c7), rfl, ⟨rfl, rfl⟩, ⟨va_K.moved hW.alike (hK.sub [0, 6] rfl), by rw [ht]; exact hP⟩, hD⟩, hS.F ht⟩) hS.2.2 d_D_init_84
  · refine lv_iconst (v := nI 1) hx hb d_D_init_68 (by decide) ?_
    refine lv_istore_n (lv' := [(2, .int (nI 1)), (0, .ref (h0)), (1, .int x)]) hx hb d_D_init_69 rfl hl (by decide) rfl (fun ls hl => ?_)
    refine lv_iload_n hx hb d_D_init_70 rfl (lv_at hl 0 rfl) ?_
    refine lv_bipush (v := nI 10) hx hb d_D_init_71 (by decide) ?_
    refine n_icmp_le (tgt := 79) hx hb (by omega) (by omega) d_D_init_73 (by decide) (fun c73 => ?_) (fun c73 => ?_)
    · refine lv_aload_n hx hb d_D_init_79 rfl (lv_at hl 1 rfl) ?_
      refine lv_iload_n hx hb d_D_init_80 rfl (lv_at hl 0 rfl) ?_
      refine tp_i (y := kc x) (by unfold kc; first | rw [if_pos c65, if_pos c73] | rw [if_pos c65, if_neg c73] | rw [if_neg c65]) ?_
      refine va_putF (D := (dC, dI)) (ci := 0) (v := .int (kc x)) (ty := .int) (C := R_D) (T := F_D) (N := 12) hx hb htl i_D t_D t_D_ok n_D hown hK hP hD hS 0 rfl rfl 0 (by decide) (htl _ e_fl_D_n) (fun _ h9 => h9) rfl hin rfl (by decide +kernel) rfl rfl (Nat.le_of_ble_eq_true rfl) d_D_init_81 (fun H locs hP hD hS => ?_)
      have hP : va_P (dC, dI) classes [(h0, .inr (0, [.int (kc x), .ref q1, .ref q2, .ref q3, .ref q4, .ref q5, .ref q6, .ref q7, .int 0, .int 0, .int 0, .int 0])), (q1, .inl (c1, 100, .inl (fun _ => 0))), (q2, .inl (c1, 10, .inl (fun _ => 0))), (q3, .inl (c1, 10, .inl (fun _ => 0))), (q4, .inl (c1, 144, .inl (fun _ => 0))), (q5, .inl (c1, 12, .inl (fun _ => 0))), (q6, .inl (c1, 12, .inl (fun _ => 0))), (q7, .inl (c7, 12, .inl (fun _ => 0)))] H := hP
      have hD : va_D A [(h0, .inr (0, [.int (kc x), .ref q1, .ref q2, .ref q3, .ref q4, .ref q5, .ref q6, .ref q7, .int 0, .int 0, .int 0, .int 0])), (q1, .inl (c1, 100, .inl (fun _ => 0))), (q2, .inl (c1, 10, .inl (fun _ => 0))), (q3, .inl (c1, 10, .inl (fun _ => 0))), (q4, .inl (c1, 144, .inl (fun _ => 0))), (q5, .inl (c1, 12, .inl (fun _ => 0))), (q6, .inl (c1, 12, .inl (fun _ => 0))), (q7, .inl (c7, 12, .inl (fun _ => 0)))] := hD
      refine W.widen (k := 7) (n := 300) (by decide) (by decide) ?_
      exact W.vret hx hb hr (fun t ht hW => ⟨⟨((dC, dI), (fun k => match k with | 0 => h0 | 1 => q1 | 2 => q2 | 3 => q3 | 4 => q4 | 5 => q5 | 6 => q6 | _ => q7), c1, c7), rfl, ⟨rfl, rfl⟩, ⟨va_K.moved hW.alike (hK.sub [0, 6] rfl), by rw [ht]; exact hP⟩, hD⟩, hS.F ht⟩) hS.2.2 d_D_init_84
    · exact absurd c73 (by decide)
set_option maxHeartbeats 4000000 in
set_option maxRecDepth 100000 in
theorem c_M_init (l : Launch) (dC : Nat → ClassId) (dI : Nat → Nat → Nat) (h0 : Nat) (sz : Nat) (x : Int32) : Met l y_M_init w_M_init rm_M_init (va_Pc [.ref h0, .int x] (fun U => U.heap.size = sz ∧ va_P (dC, dI) classes [(h0, .inr (1, [.int 0, .null, .null]))] U.heap ∧ va_K (dC, dI) classes [] U ∧ va_D (fun _ => True) [(h0, .inr (1, [.int 0, .null, .null]))])) (va_Qv (fun g : GD => g.1 = (dC, dI) ∧ g.2.1 0 = h0) (fun g t => RM g (kc x, (fun _ => 0), (fun _ => 0)) t t.heap ∧ va_D (va_A [(h0, .inr (1, [.int 0, .null, .null]))] sz) (wM g (kc x, (fun _ => 0), (fun _ => 0)))) (va_A [(h0, .inr (1, [.int 0, .null, .null]))] sz)) 2 110 (va_A [(h0, .inr (1, [.int 0, .null, .null]))] sz) := by
  refine Met.ofW (cc := b_M_init) (maxL := 3) (ret := none) (by decide) rfl ?_
  intro p e s m args below meth c s₁ B hml hv
  obtain ⟨rfl, hsz, hP, hK, hD0⟩ := hv
  have hx := B.exec
  have hb := B.bytes
  have hr := B.returns
  have htl := htl_of (atoms_spec (ws := w_M_init) B.pre)
  have hown : s.vm.findClass R_M = some m.cls := findClass_of_methodNamed B.named
  have hlocks := B.notSynchronized
  have hin : meth.name = "<init>" := (name_of_methodNamed B.named B.method).1
  subst hsz
  have hD := hD0.self (sz := s.heap.size)
  generalize hAe : va_A [(h0, .inr (1, [.int 0, .null, .null]))] s.heap.size = A at hD ⊢
  have hA : ∀ q : Nat, s.heap.size ≤ q → A q := fun q h => by rw [← hAe]; exact Or.inr h
  have hS : va_S A s.heap s.heap [] := va_S.rf
  have hP : va_P (dC, dI) classes [(h0, .inr (1, [.int 0, .null, .null]))] s.heap := hP
  have hl := lv_entry ([.ref h0, .int x]) (n := 3) (Nat.le_of_ble_eq_true rfl)
  rw [lg_entry_eq]
  generalize (lg_sl ([.ref h0, .int x]) ++ List.replicate (3 - (lg_sl ([.ref h0, .int x])).length) Slot.unset).toArray = ls at hl ⊢
  have hl : lv_has ls 3 [(0, .ref h0), (1, .int x)] := hl
  refine lv_aload_n hx hb d_M_init_0 rfl (lv_at hl 0 rfl) ?_
  refine W.objInit hx hb hown (htl _ e_ml_M_obj) (htl _ e_im_obj) (htl _ e_co_obj) rfl (by rw [hml]; exact hl.1) rfl d_M_init_1 (Nat.le_of_ble_eq_true rfl) (Nat.le_of_ble_eq_true rfl) ?_
  refine W.eq (g2 := F0 m 4 ls []) rfl ?_
  refine lv_aload_n hx hb d_M_init_4 rfl (lv_at hl 0 rfl) ?_
  refine lv_bipush (v := nI 100) hx hb d_M_init_5 (by decide) ?_
  refine va_newa (atype := .int) (ty := .int) (N' := 100) (a0 := (100, .inl (fun _ => 0))) hx hb (htl (.arrayClass .int) e_ac_int) rfl hK hP hD hS hA (fun _ => rfl) (by decide) (by decide) (by decide) (Nat.le_of_ble_eq_true rfl) (Nat.le_of_ble_eq_true rfl) d_M_init_7 (fun q1 c1 H hK hP hD hS => ?_)
  have hK : va_K (dC, dI) classes [(c1, .int)] s := hK
  have hP : va_P (dC, dI) classes [(h0, .inr (1, [.int 0, .null, .null])), (q1, .inl (c1, 100, .inl (fun _ => 0)))] H := hP
  have hD : va_D A [(h0, .inr (1, [.int 0, .null, .null])), (q1, .inl (c1, 100, .inl (fun _ => 0)))] := hD
  refine va_putF (D := (dC, dI)) (ci := 1) (v := .ref q1) (ty := .array .int) (C := R_M) (T := F_M) (N := 3) hx hb htl i_M t_M t_M_ok n_M hown hK hP hD hS 0 rfl rfl 1 (by decide) (htl _ e_fl_M_w) (fun _ h9 => h9) rfl hin rfl (by decide +kernel) rfl rfl (Nat.le_of_ble_eq_true rfl) d_M_init_9 (fun H locs hP hD hS => ?_)
  have hP : va_P (dC, dI) classes [(h0, .inr (1, [.int 0, .ref q1, .null])), (q1, .inl (c1, 100, .inl (fun _ => 0)))] H := hP
  have hD : va_D A [(h0, .inr (1, [.int 0, .ref q1, .null])), (q1, .inl (c1, 100, .inl (fun _ => 0)))] := hD
  refine lv_aload_n hx hb d_M_init_12 rfl (lv_at hl 0 rfl) ?_
  refine lv_bipush (v := nI 10) hx hb d_M_init_13 (by decide) ?_
  refine va_newa (atype := .int) (ty := .int) (N' := 10) (a0 := (10, .inl (fun _ => 0))) hx hb (htl (.arrayClass .int) e_ac_int) rfl hK hP hD hS hA (fun _ => rfl) (by decide) (by decide) (by decide) (Nat.le_of_ble_eq_true rfl) (Nat.le_of_ble_eq_true rfl) d_M_init_15 (fun q2 c2 H hK hP hD hS => ?_)
  have hK : va_K (dC, dI) classes [(c1, .int), (c2, .int)] s := hK
  have hP : va_P (dC, dI) classes [(h0, .inr (1, [.int 0, .ref q1, .null])), (q1, .inl (c1, 100, .inl (fun _ => 0))), (q2, .inl (c2, 10, .inl (fun _ => 0)))] H := hP
  have hD : va_D A [(h0, .inr (1, [.int 0, .ref q1, .null])), (q1, .inl (c1, 100, .inl (fun _ => 0))), (q2, .inl (c2, 10, .inl (fun _ => 0)))] := hD
  refine va_putF (D := (dC, dI)) (ci := 1) (v := .ref q2) (ty := .array .int) (C := R_M) (T := F_M) (N := 3) hx hb htl i_M t_M t_M_ok n_M hown hK hP hD hS 0 rfl rfl 2 (by decide) (htl _ e_fl_M_modes) (fun _ h9 => h9) rfl hin rfl (by decide +kernel) rfl rfl (Nat.le_of_ble_eq_true rfl) d_M_init_17 (fun H locs hP hD hS => ?_)
  have hP : va_P (dC, dI) classes [(h0, .inr (1, [.int 0, .ref q1, .ref q2])), (q1, .inl (c1, 100, .inl (fun _ => 0))), (q2, .inl (c2, 10, .inl (fun _ => 0)))] H := hP
  have hD : va_D A [(h0, .inr (1, [.int 0, .ref q1, .ref q2])), (q1, .inl (c1, 100, .inl (fun _ => 0))), (q2, .inl (c2, 10, .inl (fun _ => 0)))] := hD
  have r1 : s.vm.findClass ("[" ++ FieldType.int.toString) = some c1 := (hK.2 0 (c1, .int) rfl).2
  have r2 : s.vm.findClass ("[" ++ FieldType.int.toString) = some c2 := (hK.2 1 (c2, .int) rfl).2
  obtain rfl : c1 = c2 := Option.some.inj (r1.symm.trans r2)
  refine lv_iload_n hx hb d_M_init_20 rfl (lv_at hl 1 rfl) ?_
  refine lv_istore_n (lv' := [(2, .int x), (0, .ref (h0)), (1, .int x)]) hx hb d_M_init_21 rfl hl (by decide) rfl (fun ls hl => ?_)
  refine lv_iload_n hx hb d_M_init_22 rfl (lv_at hl 0 rfl) ?_
  refine lv_iconst (v := nI 1) hx hb d_M_init_23 (by decide) ?_
  refine lv_icmp_ge (tgt := 29) hx hb d_M_init_24 (by decide) (fun c24 => ?_) (fun c24 => ?_)
  · refine lv_iload_n hx hb d_M_init_29 rfl (lv_at hl 0 rfl) ?_
    refine lv_bipush (v := nI 10) hx hb d_M_init_30 (by decide) ?_
    refine lv_icmp_le (tgt := 38) hx hb d_M_init_32 (by decide) (fun c32 => ?_) (fun c32 => ?_)
    · refine lv_aload_n hx hb d_M_init_38 rfl (lv_at hl 1 rfl) ?_
      refine lv_iload_n hx hb d_M_init_39 rfl (lv_at hl 0 rfl) ?_
      refine tp_i (y := kc x) (by unfold kc; first | rw [if_pos c24, if_pos c32] | rw [if_pos c24, if_neg c32] | rw [if_neg c24]) ?_
      refine va_putF (D := (dC, dI)) (ci := 1) (v := .int (kc x)) (ty := .int) (C := R_M) (T := F_M) (N := 3) hx hb htl i_M t_M t_M_ok n_M hown hK hP hD hS 0 rfl rfl 0 (by decide) (htl _ e_fl_M_n) (fun _ h9 => h9) rfl hin rfl (by decide +kernel) rfl rfl (Nat.le_of_ble_eq_true rfl) d_M_init_40 (fun H locs hP hD hS => ?_)
      have hP : va_P (dC, dI) classes [(h0, .inr (1, [.int (kc x), .ref q1, .ref q2])), (q1, .inl (c1, 100, .inl (fun _ => 0))), (q2, .inl (c1, 10, .inl (fun _ => 0)))] H := hP
      have hD : va_D A [(h0, .inr (1, [.int (kc x), .ref q1, .ref q2])), (q1, .inl (c1, 100, .inl (fun _ => 0))), (q2, .inl (c1, 10, .inl (fun _ => 0)))] := hD
      refine W.widen (k := 2) (n := 110) (by decide) (by decide) ?_
      exact W.vret hx hb hr (fun t ht hW => ⟨⟨((dC, dI), (fun k => match k with | 0 => h0 | 1 => q1 | _ => q2), c1, c1), rfl, ⟨rfl, rfl⟩, ⟨va_K.moved hW.alike (hK.sub [0] rfl), by rw [ht]; exact hP⟩, hD⟩, hS.F ht⟩) hS.2.2 d_M_init_43
    · refine lv_bipush (v := nI 10) hx hb d_M_init_35 (by decide) ?_
      refine lv_istore_n (lv' := [(2, .int (nI 10)), (0, .ref (h0)), (1, .int x)]) hx hb d_M_init_37 rfl hl (by decide) rfl (fun ls hl => ?_)
      refine lv_aload_n hx hb d_M_init_38 rfl (lv_at hl 1 rfl) ?_
      refine lv_iload_n hx hb d_M_init_39 rfl (lv_at hl 0 rfl) ?_
      refine tp_i (y := kc x) (by unfold kc; first | rw [if_pos c24, if_pos c32] | rw [if_pos c24, if_neg c32] | rw [if_neg c24]) ?_
      refine va_putF (D := (dC, dI)) (ci := 1) (v := .int (kc x)) (ty := .int) (C := R_M) (T := F_M) (N := 3) hx hb htl i_M t_M t_M_ok n_M hown hK hP hD hS 0 rfl rfl 0 (by decide) (htl _ e_fl_M_n) (fun _ h9 => h9) rfl hin rfl (by decide +kernel) rfl rfl (Nat.le_of_ble_eq_true rfl) d_M_init_40 (fun H locs hP hD hS => ?_)
      have hP : va_P (dC, dI) classes [(h0, .inr (1, [.int (kc x), .ref q1, .ref q2])), (q1, .inl (c1, 100, .inl (fun _ => 0))), (q2, .inl (c1, 10, .inl (fun _ => 0)))] H := hP
      have hD : va_D A [(h0, .inr (1, [.int (kc x), .ref q1, .ref q2])), (q1, .inl (c1, 100, .inl (fun _ => 0))), (q2, .inl (c1, 10, .inl (fun _ => 0)))] := hD
      refine W.widen (k := 2) (n := 110) (by decide) (by decide) ?_
      exact W.vret hx hb hr (fun t ht hW => ⟨⟨((dC, dI), (fun k => match k with | 0 => h0 | 1 => q1 | _ => q2), c1, c1), rfl, ⟨rfl, rfl⟩, ⟨va_K.moved hW.alike (hK.sub [0] rfl), by rw [ht]; exact hP⟩, hD⟩, hS.F ht⟩) hS.2.2 d_M_init_43
  · refine lv_iconst (v := nI 1) hx hb d_M_init_27 (by decide) ?_
    refine lv_istore_n (lv' := [(2, .int (nI 1)), (0, .ref (h0)), (1, .int x)]) hx hb d_M_init_28 rfl hl (by decide) rfl (fun ls hl => ?_)
    refine lv_iload_n hx hb d_M_init_29 rfl (lv_at hl 0 rfl) ?_
    refine lv_bipush (v := nI 10) hx hb d_M_init_30 (by decide) ?_
    refine n_icmp_le (tgt := 38) hx hb (by omega) (by omega) d_M_init_32 (by decide) (fun c32 => ?_) (fun c32 => ?_)
    · refine lv_aload_n hx hb d_M_init_38 rfl (lv_at hl 1 rfl) ?_
      refine lv_iload_n hx hb d_M_init_39 rfl (lv_at hl 0 rfl) ?_
      refine tp_i (y := kc x) (by unfold kc; first | rw [if_pos c24, if_pos c32] | rw [if_pos c24, if_neg c32] | rw [if_neg c24]) ?_
      refine va_putF (D := (dC, dI)) (ci := 1) (v := .int (kc x)) (ty := .int) (C := R_M) (T := F_M) (N := 3) hx hb htl i_M t_M t_M_ok n_M hown hK hP hD hS 0 rfl rfl 0 (by decide) (htl _ e_fl_M_n) (fun _ h9 => h9) rfl hin rfl (by decide +kernel) rfl rfl (Nat.le_of_ble_eq_true rfl) d_M_init_40 (fun H locs hP hD hS => ?_)
      have hP : va_P (dC, dI) classes [(h0, .inr (1, [.int (kc x), .ref q1, .ref q2])), (q1, .inl (c1, 100, .inl (fun _ => 0))), (q2, .inl (c1, 10, .inl (fun _ => 0)))] H := hP
      have hD : va_D A [(h0, .inr (1, [.int (kc x), .ref q1, .ref q2])), (q1, .inl (c1, 100, .inl (fun _ => 0))), (q2, .inl (c1, 10, .inl (fun _ => 0)))] := hD
      refine W.widen (k := 2) (n := 110) (by decide) (by decide) ?_
      exact W.vret hx hb hr (fun t ht hW => ⟨⟨((dC, dI), (fun k => match k with | 0 => h0 | 1 => q1 | _ => q2), c1, c1), rfl, ⟨rfl, rfl⟩, ⟨va_K.moved hW.alike (hK.sub [0] rfl), by rw [ht]; exact hP⟩, hD⟩, hS.F ht⟩) hS.2.2 d_M_init_43
    · exact absurd c32 (by decide)
end
section
def lw_P (b : Addr) (xs : List Int32) (args : Array Value) (s : State) : Prop := args = #[.ref b] ∧ s.IntsAt b xs ∧ xs.length ≤ 2049 ∧ (Jvm.Cond.and given_1 narrow_1).before args s = true
def lw_Q (_ : Array Value) (s : State) (o : Outcome) (t : State) : Prop := o = .returned (some (.int 1)) ∧ Framed s o t [] 11 425
def lw_Z (below : List Frame) (a : Array Value) (s : State) : State → Prop := fun t => ∃ o, t.status = .running ∧ Ended t below o ∧ lw_Q a s o t
/-- the law's own end, with 1 on the stack, nothing written that was there before, its room as the claim has it -/
theorem lw_ret {p : Program} {l : Launch} {e : Env} {s : State} {m : MethodId} {below : List Frame} {meth : Method} {c : Code} {b : Nat} (hx : p.tables.exec = Jvm.exec) (hb : c.code = code) (hr : meth.sig.returnType = ret) (hlocks : meth.locks = false) {pc : Nat} {H : Heap} {ls : Array Slot} (hdg : decode code pc = .ok (.ireturn, 1)) : W p l e room_1 s m #[Value.ref b] below meth c H [] 11 425 (lw_Z below #[Value.ref b] s) (F0 m pc ls [.int 1]) := by
  intro T hT X
  obtain ⟨fs, hret, hrun, hended, hW, hframe⟩ := X.leave (v := some (.int 1)) (hlocks := hlocks) (fun h => by rw [hr] at h; cases h)
  have hmeth' : T.vm.method? m = some meth := X.method'
  refine ⟨T.setFrames fs, ?_, .returned (some (.int 1)), hrun, hended, rfl, ⟨_, rfl⟩, hW, hframe⟩
  jvm_step X.here [X.here.top, hx, hb, hdg, hmeth', hr, ret, narrow_b1]
  (try refine ⟨rfl, ?_⟩); (try refine ⟨rfl, ?_⟩)
  first | (intro acts; rw [hret _ acts rfl rfl rfl]) | rw [hret _ _ rfl rfl rfl]
  exact Steps.refl _
/-- what holds at the law's entry: the machine, the code, the tables' words (any of lw_tbl by 'hts w (by decide +kernel)'), the script of L ints xs at the cell b, what the Statement gives of the start (any of its parts by flat_of_before) -/
def lw_At (p : Program) (s : State) (m : MethodId) (meth : Method) (c : Code) (b L : Nat) (xs : Nat → Int32) : Prop :=
  p.tables.exec = Jvm.exec ∧ c.code = code ∧ meth.sig.returnType = ret ∧ c.maxLocals = 4 ∧ s.vm.findClass R_law = some m.cls ∧ (∀ w ∈ lw_tbl, w.before #[Value.ref b] s = true) ∧ va_X b L xs s s.heap ∧ b < s.heap.size ∧ meth.locks = false ∧ (Jvm.Cond.and given_1 narrow_1).before #[Value.ref b] s = true
section REL2
variable {N : Nat} {P : Nat → Nat → Nat} {E Md : Nat → Nat} {fp fe fm fw gm : Nat → Int32} {x y r r2 : Int32}
theorem top_rel (hN : N ≤ 10) (h1 : ((∀ v, v < N → Md v = 2) ∧ r = (-5)) ∨ (∃ M0 k, solP N P E Md M0 k ∧ r = nI (WJ N P E M0 / Nat.gcd (WJ N P E M0) (SJ N M0)))) (h2 : ∃ B T K, oneInv N P E Md (2 ^ N) B T K ∧ ((B = 0 ∧ r2 = (-5)) ∨ (B ≠ 0 ∧ r2 = nI (WJ N P E B / Nat.gcd (WJ N P E B) (SJ N B))))) : r = r2 := by
  obtain ⟨B, T, K, ho, h2⟩ := h2
  rcases h1 with ⟨a1, a2⟩ | ⟨M0, k, a1, a2⟩
  · have hB := none_one hN a1 ho
    rcases h2 with ⟨b1, b2⟩ | ⟨b1, b2⟩
    · exact a2.trans b2.symm
    · exact absurd hB b1
  · obtain ⟨s1, s2, s3⟩ := sol_dens hN a1 ho
    rcases h2 with ⟨b1, b2⟩ | ⟨b1, b2⟩
    · exact absurd b1 s1
    · rw [a2, b2, s2]
theorem bot_rel (hN : N ≤ 10) (h1 : ((∀ v, v < N → Md v = 2) ∧ r = (-5)) ∨ (∃ M0 k, solP N P E Md M0 k ∧ r = nI (SJ N M0 / Nat.gcd (WJ N P E M0) (SJ N M0)))) (h2 : ∃ B T K, oneInv N P E Md (2 ^ N) B T K ∧ ((B = 0 ∧ r2 = (-5)) ∨ (B ≠ 0 ∧ r2 = nI (SJ N B / Nat.gcd (WJ N P E B) (SJ N B))))) : r = r2 := by
  obtain ⟨B, T, K, ho, h2⟩ := h2
  rcases h1 with ⟨a1, a2⟩ | ⟨M0, k, a1, a2⟩
  · have hB := none_one hN a1 ho
    rcases h2 with ⟨b1, b2⟩ | ⟨b1, b2⟩
    · exact a2.trans b2.symm
    · exact absurd hB b1
  · obtain ⟨s1, s2, s3⟩ := sol_dens hN a1 ho
    rcases h2 with ⟨b1, b2⟩ | ⟨b1, b2⟩
    · exact absurd b1 s1
    · rw [a2, b2, s3]
theorem den_rel (hN : N ≤ 10) (h1 : ((∀ v, v < N → Md v = 2) ∧ r = nI 0) ∨ (∃ M0 k, solP N P E Md M0 k ∧ r = nI k)) (h2 : ∃ B T K R0, oneInv N P E Md (2 ^ N) B T K ∧ orInv N (denC N P E Md B) (2 ^ N) R0 ∧ r2 = nI R0) : r = r2 := by
  obtain ⟨B, T, K, R0, ho, h2, h3⟩ := h2
  rcases h1 with ⟨a1, a2⟩ | ⟨M0, k, a1, a2⟩
  · rw [a2, h3, none_set hN a1 h2]
  · rw [a2, h3, sol_set hN a1 ho h2]
theorem ex_rel (hN : N ≤ 10) (hG : okG P E Md) (h1 : (bpP x y ∧ r = (-4)) ∨ (∃ a b k : Nat, 1 ≤ a ∧ a ≤ 20 ∧ b ≤ 2000 ∧ x = nI a ∧ y = nI b ∧ cutSpec N P E Md a b k ∧ r = vI N P E a b k)) (h2 : (bpP x y ∧ r2 = (-4)) ∨ (∃ a b : Nat, 1 ≤ a ∧ a ≤ 20 ∧ b ≤ 2000 ∧ x = nI a ∧ y = nI b ∧ exInv N P E Md a b (2 ^ N) r2)) : r = r2 := by
  rcases h1 with ⟨a1, a2⟩ | ⟨a, b, k, a1, a2, a3, a4, a5, a6, a7⟩
  · rcases h2 with ⟨b1, b2⟩ | ⟨c, d, b1, b2, b3, b4, b5, b6⟩
    · exact a2.trans b2.symm
    · rw [b4, b5] at a1; exact absurd a1 (bp_no b1 b2 b3)
  · rcases h2 with ⟨b1, b2⟩ | ⟨c, d, b1, b2, b3, b4, b5, b6⟩
    · rw [a4, a5] at b1; exact absurd b1 (bp_no a1 a2 a3)
    · obtain rfl : a = c := (nI_eq (by omega) (by omega)).mp (a4.symm.trans b4)
      obtain rfl : b = d := (nI_eq (by omega) (by omega)).mp (a5.symm.trans b5)
      rw [a7, ex_eq hN hG a2 a3 a6 b6]
theorem exs_rel (hN : N ≤ 10) (hG : okG P E Md) (h1 : (bpP x y ∧ r = nI 0) ∨ (∃ a b k : Nat, 1 ≤ a ∧ a ≤ 20 ∧ b ≤ 2000 ∧ x = nI a ∧ y = nI b ∧ cutSpec N P E Md a b k ∧ r = nI k)) (h2 : (bpP x y ∧ r2 = nI 0) ∨ (∃ (a b : Nat) (best : Int32) (R0 : Nat), 1 ≤ a ∧ a ≤ 20 ∧ b ≤ 2000 ∧ x = nI a ∧ y = nI b ∧ exInv N P E Md a b (2 ^ N) best ∧ orInv N (exC N P E Md a b best) (2 ^ N) R0 ∧ r2 = nI R0)) : r = r2 := by
  rcases h1 with ⟨a1, a2⟩ | ⟨a, b, k, a1, a2, a3, a4, a5, a6, a7⟩
  · rcases h2 with ⟨b1, b2⟩ | ⟨c, d, best, R0, b1, b2, b3, b4, b5, b6, b7, b8⟩
    · exact a2.trans b2.symm
    · rw [b4, b5] at a1; exact absurd a1 (bp_no b1 b2 b3)
  · rcases h2 with ⟨b1, b2⟩ | ⟨c, d, best, R0, b1, b2, b3, b4, b5, b6, b7, b8⟩
    · rw [a4, a5] at b1; exact absurd b1 (bp_no a1 a2 a3)
    · obtain rfl : a = c := (nI_eq (by omega) (by omega)).mp (a4.symm.trans b4)
      obtain rfl : b = d := (nI_eq (by omega) (by omega)).mp (a5.symm.trans b5)
      rw [a7, b8, exset_eq hN hG a2 a3 a6 b6 b7]
end REL2
/-- both objects, apart -/
def JW (gD gM : GD) (A : Nat → Prop) (H0 : Heap) (u : DS) (v : MS) (s : State) (H : Heap) (locs : List Loc) : Prop := gM.1 = gD.1 ∧ RD gD u s H ∧ RM gM v s H ∧ va_D A (wD gD u ++ wM gM v) ∧ va_S A H0 H locs
section JWS
variable {p : Program} {l : Launch} {e : Env} {R : Room} {s : State} {m : MethodId} {args : Array Value} {below : List Frame} {meth : Method} {c : Code} {H : Heap} {locs : List Loc} {cells slots : Nat} {Q : State → Prop} {cc : ByteArray} {pc nL : Nat} {ls : Array Slot} {rest : List Value} {own : String} {gD gM : GD} {A : Nat → Prop} {H0 : Heap}
theorem callWDJ {y : MethodName} {bytes : ByteArray} {maxL n idx : Nat} {ret : Option FieldType} {rm : Room} {u : DS} {v : MS} {As st0 : List Value} {post : Int32 → DS → Prop} (X : CallFix p m c cc nL s args tb own) (hls : ls.size = nL) (hM : CWD l y (.code y bytes maxL ret) rm gD u As post)
    (h1 : Cond.methodLink own idx y ∈ tb) (h2 : Cond.instanceMethod y ∈ tb) (h3 : Cond.selects R_D y y ∈ tb) (h5 : Cond.code y bytes maxL ret ∈ tb) (hd : y.cls = R_D ∧ y.cls ≠ "java/lang/invoke/MethodHandle" ∧ y.cls ≠ "java/lang/invoke/VarHandle" ∧ (parseMethodDescriptor y.desc).map (fun d => d.parameters.length) = some n)
    (hr0 : rm.cells = 0 ∧ rm.slots = 0) (hR : rm.frames + 1 ≤ R.frames ∧ 8 + (maxL + 11) + rm.locals ≤ R.locals) (hA : ∀ q, H0.size ≤ q → A q) (h : JW gD gM A H0 u v s H locs) (hn : As.length = n) (hst : st0 = As.reverse ++ .ref (gD.2.1 0) :: rest) (hcat : (rest.map fun v => v.category).sum ≤ 8) (hc : cells ≤ R.cells ∧ slots ≤ R.slots) (hdg : decode cc pc = .ok (.invokevirtual idx, 3))
    (kk : ∀ (r : Int32) (u2 : DS) (H1 : Heap) (locs1 : List Loc), post r u2 → JW gD gM A H0 u2 v s H1 locs1 → W p l e R s m args below meth c H1 locs1 cells slots Q (F0 m (pc + 3) ls (.int r :: rest))) : W p l e R s m args below meth c H locs cells slots Q (F0 m pc ls st0) := by
  obtain ⟨e0, hRD, hRM, hD, hS⟩ := h
  have hP : va_P gD.1 classes (wD gD u ++ wM gM v) H := va_P.app hRD.2 (e0 ▸ hRM.2)
  have hF : ∀ q, va_A (wD gD u) H.size q → A q := va_free (wc := wD gD u) hD hS hA [0, 1, 2, 3, 4, 5, 6, 7] rfl
  refine va_calli (va_runV (As := As) (rest := rest) X (hM H.size) (cwV n X.2.2.2.2 (good_V h1 h2 h3 e_in_D h5) rfl hr0.1 hr0.2 hd hR) ⟨fun a U f9 mk q => ⟨q.1, q.2.1, q.2.2.1.moved (Vm.Alike.refl U.vm) rfl, q.2.2.2⟩, va_recv hRD.1 hRD.2 (ci := 0) (q0 := 0) rfl rfl, fun U hU hW => ⟨rfl, by rw [hU], hRD.moved hW.alike hU, (hD.sub (ws' := wD gD u) [0, 1, 2, 3, 4, 5, 6, 7] (by decide) rfl).weaken (fun _ _ _ _ => trivial)⟩⟩ rfl hn hls hst (lv_room hcat) hdg hc) hS (fun q _ hq => hF q hq) hF (fun r u2 t H1 locs1 ht hvm hw hB _ hk hS1 => ?_)
  obtain ⟨hR1, hD1⟩ := hB
  subst ht
  obtain ⟨hP2, hD2⟩ := va_join (wr := wM gM v) (w1 := wD gD u2) hP hD [0, 1, 2, 3, 4, 5, 6, 7] [8, 9, 10] rfl rfl (by decide) (by decide) hk hF hR1.2 hD1
  exact kk r u2 t.heap locs1 hw ⟨e0, ⟨va_K.moved hvm.symm hR1.1, hR1.2⟩, ⟨hRM.1, by rw [e0]; exact hP2.sub [0, 1, 2] rfl⟩, hD2.sub [3, 4, 5, 6, 7, 8, 9, 10, 0, 1, 2] (by decide) rfl, hS1⟩
theorem callWMJ {y : MethodName} {bytes : ByteArray} {maxL n idx : Nat} {ret : Option FieldType} {rm : Room} {u : DS} {v : MS} {As st0 : List Value} {post : Int32 → MS → Prop} (X : CallFix p m c cc nL s args tb own) (hls : ls.size = nL) (hM : CWM l y (.code y bytes maxL ret) rm gM v As post)
    (h1 : Cond.methodLink own idx y ∈ tb) (h2 : Cond.instanceMethod y ∈ tb) (h3 : Cond.selects R_M y y ∈ tb) (h5 : Cond.code y bytes maxL ret ∈ tb) (hd : y.cls = R_M ∧ y.cls ≠ "java/lang/invoke/MethodHandle" ∧ y.cls ≠ "java/lang/invoke/VarHandle" ∧ (parseMethodDescriptor y.desc).map (fun d => d.parameters.length) = some n)
    (hr0 : rm.cells = 0 ∧ rm.slots = 0) (hR : rm.frames + 1 ≤ R.frames ∧ 8 + (maxL + 11) + rm.locals ≤ R.locals) (hA : ∀ q, H0.size ≤ q → A q) (h : JW gD gM A H0 u v s H locs) (hn : As.length = n) (hst : st0 = As.reverse ++ .ref (gM.2.1 0) :: rest) (hcat : (rest.map fun v => v.category).sum ≤ 8) (hc : cells ≤ R.cells ∧ slots ≤ R.slots) (hdg : decode cc pc = .ok (.invokevirtual idx, 3))
    (kk : ∀ (r : Int32) (v2 : MS) (H1 : Heap) (locs1 : List Loc), post r v2 → JW gD gM A H0 u v2 s H1 locs1 → W p l e R s m args below meth c H1 locs1 cells slots Q (F0 m (pc + 3) ls (.int r :: rest))) : W p l e R s m args below meth c H locs cells slots Q (F0 m pc ls st0) := by
  obtain ⟨e0, hRD, hRM, hD, hS⟩ := h
  have hP : va_P gD.1 classes (wD gD u ++ wM gM v) H := va_P.app hRD.2 (e0 ▸ hRM.2)
  have hF : ∀ q, va_A (wM gM v) H.size q → A q := va_free (wc := wM gM v) hD hS hA [8, 9, 10] rfl
  refine va_calli (va_runV (As := As) (rest := rest) X (hM H.size) (cwV n X.2.2.2.2 (good_V h1 h2 h3 e_in_M h5) rfl hr0.1 hr0.2 hd hR) ⟨fun a U f9 mk q => ⟨q.1, q.2.1, q.2.2.1.moved (Vm.Alike.refl U.vm) rfl, q.2.2.2⟩, va_recv hRM.1 hRM.2 (ci := 1) (q0 := 0) rfl rfl, fun U hU hW => ⟨rfl, by rw [hU], hRM.moved hW.alike hU, (hD.sub (ws' := wM gM v) [8, 9, 10] (by decide) rfl).weaken (fun _ _ _ _ => trivial)⟩⟩ rfl hn hls hst (lv_room hcat) hdg hc) hS (fun q _ hq => hF q hq) hF (fun r v2 t H1 locs1 ht hvm hw hB _ hk hS1 => ?_)
  obtain ⟨hR1, hD1⟩ := hB
  subst ht
  obtain ⟨hP2, hD2⟩ := va_join (wr := wD gD u) (w1 := wM gM v2) hP hD [8, 9, 10] [0, 1, 2, 3, 4, 5, 6, 7] rfl rfl (by decide) (by decide) hk hF (by rw [← e0]; exact hR1.2) hD1
  exact kk r v2 t.heap locs1 hw ⟨e0, ⟨hRD.1, hP2.sub [0, 1, 2, 3, 4, 5, 6, 7] rfl⟩, ⟨va_K.moved hvm.symm hR1.1, hR1.2⟩, hD2, hS1⟩
end JWS
set_option maxHeartbeats 4000000 in
set_option maxRecDepth 100000 in
theorem c_L_cell (l : Launch) {b L : Nat} {xs : Nat → Int32} (hL : L ≤ 2049) : Met l y_L_cell w_L_cell rm_L_cell (va_Pc [.ref b, .int (nI 0)] (fun U => va_X b L xs U U.heap)) (vp_Si (fun r => r = if 0 < L then xs 0 else nI 0)) 0 0 (fun _ => False) := by
  refine Met.ofW (cc := b_L_cell) (maxL := 2) (ret := some .int) (by decide) rfl ?_
  intro p e s m args below meth c s₁ B hml hv
  obtain ⟨rfl, hX⟩ := hv
  have X : CallFix p m c b_L_cell 2 s #[Value.ref b, Value.int (nI 0)] tb R_law := ⟨B.exec, B.bytes, hml, findClass_of_methodNamed B.named, htl_of (atoms_spec (ws := w_L_cell) B.pre)⟩
  obtain ⟨hx, hb, -, hown, htl⟩ := id X
  have hr := B.returns
  have hlk := B.notSynchronized
  have hbl : b < s.heap.size := by obtain ⟨scr, h1, -⟩ := id hX; exact (Array.getElem?_eq_some_iff.mp h1).1
  have hbA : ¬ (fun _ : Nat => False) b := fun q => q
  have hS : va_S (fun _ => False) s.heap s.heap [] := va_S.rf
  have hl := lv_entry ([.ref b, .int (nI 0)]) (n := 2) (Nat.le_of_ble_eq_true rfl)
  rw [lg_entry_eq]
  generalize (lg_sl ([.ref b, .int (nI 0)]) ++ List.replicate (2 - (lg_sl ([.ref b, .int (nI 0)])).length) Slot.unset).toArray = ls at hl ⊢
  have hl : lv_has ls 2 [(0, .ref b), (1, .int (nI 0))] := hl
  refine lv_iload_n hx hb d_L_cell_0 rfl (lv_at hl 1 rfl) ?_
  refine lv_aload_n hx hb d_L_cell_1 rfl (lv_at hl 0 rfl) ?_
  refine va_slen hx hb hX hbl hbA hS d_L_cell_2 ?_
  refine tp_i (y := nI L) rfl ?_
  refine n_icmp_ge (tgt := 12) hx hb (by omega) (by omega) d_L_cell_3 (by decide) (fun c3 => ?_) (fun c3 => ?_)
  · refine lv_iconst (v := nI 0) hx hb d_L_cell_12 (by decide) ?_
    exact endRI X hr hlk (by first | exact (if_pos (by omega)).symm | exact (if_neg (by omega)).symm) d_L_cell_13
  · refine lv_aload_n hx hb d_L_cell_6 rfl (lv_at hl 0 rfl) ?_
    refine lv_iload_n hx hb d_L_cell_7 rfl (lv_at hl 1 rfl) ?_
    refine va_sld hx hb hX hbl hbA hS (vp_in_nI (by omega) (by omega)) d_L_cell_8 ?_
    refine tp_i (y := xs 0) (by rw [nI_clamp (by omega)]) ?_
    refine lv_goto (tgt := 13) hx hb d_L_cell_9 (by decide) ?_
    exact endRI X hr hlk (by first | exact (if_pos (by omega)).symm | exact (if_neg (by omega)).symm) d_L_cell_13
set_option maxHeartbeats 4000000 in
set_option maxRecDepth 100000 in
theorem law_loop {p : Program} {l : Launch} {e : Env} {s : State} {m : MethodId} {below : List Frame} {meth : Method} {c : Code} {b L : Nat} {xs : Nat → Int32} (hL : L ≤ 2049) (C0 : lw_At p s m meth c b L xs) {gD gM : GD} {N : Nat} (hN : N ≤ 10) :
    ∀ (k i : Nat) (P : Nat → Nat → Nat) (E Md : Nat → Nat) (fp fe fm fr fc fq fb fw gm : Nat → Int32) (cs bt bb bs : Int32) (H : Heap) (locs : List Loc) (ls : Array Slot), L < i + 4 + k → 1 ≤ i → i ≤ L + 4 → okG P E Md → okD P E Md fp fe fm → okM P E Md fw gm → JW gD gM (fun q : Nat => s.heap.size ≤ q) s.heap (nI N, fp, fe, fm, fr, fc, fq, fb, cs, bt, bb, bs) (nI N, fw, gm) s H locs → lv_has ls 4 [(0, .ref b), (1, .ref (gD.2.1 0)), (2, .ref (gM.2.1 0)), (3, .int (nI i))] → W p l e room_1 s m #[Value.ref b] below meth c H locs 11 425 (lw_Z below #[Value.ref b] s) (F0 m 28 ls []) := by
  obtain ⟨hx, hb, hr, hml, hown, hts, hX, hbl, hlocks, hgv⟩ := C0
  have htl : ∀ w ∈ tb, w.before #[Value.ref b] s = true := fun w h => hts w (List.mem_filter.mp h).1
  have X : CallFix p m c b_L_law 4 s #[Value.ref b] tb R_law := ⟨hx, hb, hml, hown, htl⟩
  have hA : ∀ q : Nat, s.heap.size ≤ q → (fun q : Nat => s.heap.size ≤ q) q := fun _ h => h
  have hbA : ¬ (fun q : Nat => s.heap.size ≤ q) b := Nat.not_le.mpr hbl
  intro k
  induction k with
  | zero =>
    intro i P E Md fp fe fm fr fc fq fb fw gm cs bt bb bs H locs ls hk h1 h2 hG hD hM h hl
    have lt : ((nI L) - (nI 4)).toInt = (L : Int) - 4 := pk_sub_toInt (by omega) (by omega)
    have li : (nI i).toInt = (i : Int) := nI_toInt (by omega)
    have hS := h.2.2.2.2
    refine lv_iload_n hx hb d_L_law_28 rfl (lv_at hl 3 rfl) ?_
    refine lv_aload_n hx hb d_L_law_29 rfl (lv_at hl 0 rfl) ?_
    refine va_slen hx hb hX hbl hbA hS d_L_law_30 ?_
    refine tp_i (y := nI L) rfl ?_
    refine lv_iconst (v := nI 4) hx hb d_L_law_31 (by decide) ?_
    refine lv_isub hx hb d_L_law_32 ?_
    refine lv_icmp_gt (tgt := 335) hx hb d_L_law_33 (by decide) (fun c33 => ?_) (fun c33 => ?_)
    · refine lv_iconst (v := 1) hx hb d_L_law_335 (by decide) ?_
      refine va_forget (fun q hq => h.2.2.2.2.2.2 q hq) ?_
      exact lw_ret hx hb hr hlocks d_L_law_336
    · exfalso; rw [Int32.lt_iff_toInt_lt, lt, li] at c33; omega
  | succ k ih =>
    intro i P E Md fp fe fm fr fc fq fb fw gm cs bt bb bs H locs ls hk h1 h2 hG hD hM h hl
    have lt : ((nI L) - (nI 4)).toInt = (L : Int) - 4 := pk_sub_toInt (by omega) (by omega)
    have li : (nI i).toInt = (i : Int) := nI_toInt (by omega)
    have hS := h.2.2.2.2
    refine lv_iload_n hx hb d_L_law_28 rfl (lv_at hl 3 rfl) ?_
    refine lv_aload_n hx hb d_L_law_29 rfl (lv_at hl 0 rfl) ?_
    refine va_slen hx hb hX hbl hbA hS d_L_law_30 ?_
    refine tp_i (y := nI L) rfl ?_
    refine lv_iconst (v := nI 4) hx hb d_L_law_31 (by decide) ?_
    refine lv_isub hx hb d_L_law_32 ?_
    refine lv_icmp_gt (tgt := 335) hx hb d_L_law_33 (by decide) (fun c33 => ?_) (fun c33 => ?_)
    · refine lv_iconst (v := 1) hx hb d_L_law_335 (by decide) ?_
      refine va_forget (fun q hq => h.2.2.2.2.2.2 q hq) ?_
      exact lw_ret hx hb hr hlocks d_L_law_336
    · have h4 : i + 4 ≤ L := by rw [Int32.lt_iff_toInt_lt, lt, li] at c33; omega
      refine lv_aload_n hx hb d_L_law_36 rfl (lv_at hl 0 rfl) ?_
      refine lv_iload_n hx hb d_L_law_37 rfl (lv_at hl 3 rfl) ?_
      refine va_sld hx hb hX hbl hbA hS (vp_in_nI (by omega) (by omega)) d_L_law_38 ?_
      refine tp_i (y := xs i) (by rw [nI_clamp (by omega)]) ?_
      refine lv_bipush (v := nI 15) hx hb d_L_law_39 (by decide) ?_
      refine lv_iand hx hb d_L_law_41 ?_
      obtain ⟨j, hj, ej⟩ := pk_andE (xs i) (m := nI 15) 4 (by decide)
      refine tp_i (y := nI j) ej ?_
      rcases (show j = 0 ∨ j = 1 ∨ j = 2 ∨ j = 3 ∨ j = 4 ∨ j = 5 ∨ j = 6 ∨ j = 7 ∨ j = 8 ∨ 9 ≤ j by omega) with rfl | rfl | rfl | rfl | rfl | rfl | rfl | rfl | rfl | hj9
      · refine lv_tableIn (off := 50) (tgt := 92) hx hb d_L_law_42 (by decide) (by decide) (by decide) (by decide) ?_
        refine lv_aload_n hx hb d_L_law_92 rfl (lv_at hl 1 rfl) ?_
        refine lv_aload_n hx hb d_L_law_93 rfl (lv_at hl 0 rfl) ?_
        refine lv_iload_n hx hb d_L_law_94 rfl (lv_at hl 3 rfl) ?_
        refine lv_iconst (v := nI 1) hx hb d_L_law_95 (by decide) ?_
        refine n_iadd hx hb d_L_law_96 ?_
        refine va_sld hx hb hX hbl hbA hS (vp_in_nI (by omega) (by omega)) d_L_law_97 ?_
        refine tp_i (y := xs (i + 1)) (by rw [nI_clamp (by omega)]) ?_
        refine lv_aload_n hx hb d_L_law_98 rfl (lv_at hl 0 rfl) ?_
        refine lv_iload_n hx hb d_L_law_99 rfl (lv_at hl 3 rfl) ?_
        refine lv_iconst (v := nI 2) hx hb d_L_law_100 (by decide) ?_
        refine n_iadd hx hb d_L_law_101 ?_
        refine va_sld hx hb hX hbl hbA hS (vp_in_nI (by omega) (by omega)) d_L_law_102 ?_
        refine tp_i (y := xs (i + 2)) (by rw [nI_clamp (by omega)]) ?_
        refine lv_aload_n hx hb d_L_law_103 rfl (lv_at hl 0 rfl) ?_
        refine lv_iload_n hx hb d_L_law_104 rfl (lv_at hl 3 rfl) ?_
        refine lv_iconst (v := nI 3) hx hb d_L_law_105 (by decide) ?_
        refine n_iadd hx hb d_L_law_106 ?_
        refine va_sld hx hb hX hbl hbA hS (vp_in_nI (by omega) (by omega)) d_L_law_107 ?_
        refine tp_i (y := xs (i + 3)) (by rw [nI_clamp (by omega)]) ?_
        refine callWDJ (rest := []) X hl.1 (c_D_edge l gD hN (xs (i + 1)) (xs (i + 2)) (xs (i + 3))) e_ml_L_D_edge e_im_D_edge e_se_D_edge e_co_D_edge hd_D_edge ⟨rfl, rfl⟩ ⟨Nat.le_of_ble_eq_true rfl, Nat.le_of_ble_eq_true rfl⟩ hA h rfl rfl (Nat.le_of_ble_eq_true rfl) ⟨Nat.le_of_ble_eq_true rfl, Nat.le_of_ble_eq_true rfl⟩ d_L_law_108 (fun r108 u108 H locs q108 h => ?_)
        have hS := h.2.2.2.2
        obtain ⟨f2, e1, rfl⟩ := q108
        refine lv_aload_n hx hb d_L_law_111 rfl (lv_at hl 2 rfl) ?_
        refine lv_aload_n hx hb d_L_law_112 rfl (lv_at hl 0 rfl) ?_
        refine lv_iload_n hx hb d_L_law_113 rfl (lv_at hl 3 rfl) ?_
        refine lv_iconst (v := nI 1) hx hb d_L_law_114 (by decide) ?_
        refine n_iadd hx hb d_L_law_115 ?_
        refine va_sld hx hb hX hbl hbA hS (vp_in_nI (by omega) (by omega)) d_L_law_116 ?_
        refine tp_i (y := xs (i + 1)) (by rw [nI_clamp (by omega)]) ?_
        refine lv_aload_n hx hb d_L_law_117 rfl (lv_at hl 0 rfl) ?_
        refine lv_iload_n hx hb d_L_law_118 rfl (lv_at hl 3 rfl) ?_
        refine lv_iconst (v := nI 2) hx hb d_L_law_119 (by decide) ?_
        refine n_iadd hx hb d_L_law_120 ?_
        refine va_sld hx hb hX hbl hbA hS (vp_in_nI (by omega) (by omega)) d_L_law_121 ?_
        refine tp_i (y := xs (i + 2)) (by rw [nI_clamp (by omega)]) ?_
        refine lv_aload_n hx hb d_L_law_122 rfl (lv_at hl 0 rfl) ?_
        refine lv_iload_n hx hb d_L_law_123 rfl (lv_at hl 3 rfl) ?_
        refine lv_iconst (v := nI 3) hx hb d_L_law_124 (by decide) ?_
        refine n_iadd hx hb d_L_law_125 ?_
        refine va_sld hx hb hX hbl hbA hS (vp_in_nI (by omega) (by omega)) d_L_law_126 ?_
        refine tp_i (y := xs (i + 3)) (by rw [nI_clamp (by omega)]) ?_
        refine callWMJ (rest := [.int r108]) X hl.1 (c_M_edge l gM hN (xs (i + 1)) (xs (i + 2)) (xs (i + 3))) e_ml_L_M_edge e_im_M_edge e_se_M_edge e_co_M_edge hd_M_edge ⟨rfl, rfl⟩ ⟨Nat.le_of_ble_eq_true rfl, Nat.le_of_ble_eq_true rfl⟩ hA h rfl rfl (Nat.le_of_ble_eq_true rfl) ⟨Nat.le_of_ble_eq_true rfl, Nat.le_of_ble_eq_true rfl⟩ d_L_law_127 (fun r127 u127 H locs q127 h => ?_)
        have hS := h.2.2.2.2
        obtain ⟨h2, e2, rfl⟩ := q127
        obtain ⟨er, P2, hG, hD, hM⟩ := edge_rel hN hG hD hM e1 e2
        refine lv_icmp_eq (tgt := 329) hx hb d_L_law_130 (by decide) (fun c130 => ?_) (fun c130 => ?_)
        · refine lv_iinc (v := nI (i + 4)) (lv' := [(3, .int (nI (i + 4))), (0, .ref (b)), (1, .ref (gD.2.1 0)), (2, .ref (gM.2.1 0))]) hx hb d_L_law_329 hl (k := 3) rfl (nI_add i 4) (by decide) rfl (fun ls hl => ?_)
          refine lv_goto (tgt := 28) hx hb d_L_law_332 (by decide) ?_
          exact ih _ _ _ _ _ _ _ _ _ _ _ _ _ _ _ _ _ _ _ _ (by omega) (by omega) (by omega) hG hD hM h (lv_sub hl [1, 2, 3, 0] rfl)
        · exact absurd er c130
      · refine lv_tableIn (off := 93) (tgt := 135) hx hb d_L_law_42 (by decide) (by decide) (by decide) (by decide) ?_
        refine lv_aload_n hx hb d_L_law_135 rfl (lv_at hl 1 rfl) ?_
        refine lv_aload_n hx hb d_L_law_136 rfl (lv_at hl 0 rfl) ?_
        refine lv_iload_n hx hb d_L_law_137 rfl (lv_at hl 3 rfl) ?_
        refine lv_iconst (v := nI 1) hx hb d_L_law_138 (by decide) ?_
        refine n_iadd hx hb d_L_law_139 ?_
        refine va_sld hx hb hX hbl hbA hS (vp_in_nI (by omega) (by omega)) d_L_law_140 ?_
        refine tp_i (y := xs (i + 1)) (by rw [nI_clamp (by omega)]) ?_
        refine lv_aload_n hx hb d_L_law_141 rfl (lv_at hl 0 rfl) ?_
        refine lv_iload_n hx hb d_L_law_142 rfl (lv_at hl 3 rfl) ?_
        refine lv_iconst (v := nI 2) hx hb d_L_law_143 (by decide) ?_
        refine n_iadd hx hb d_L_law_144 ?_
        refine va_sld hx hb hX hbl hbA hS (vp_in_nI (by omega) (by omega)) d_L_law_145 ?_
        refine tp_i (y := xs (i + 2)) (by rw [nI_clamp (by omega)]) ?_
        refine callWDJ (rest := []) X hl.1 (c_D_bonus l gD hN (xs (i + 1)) (xs (i + 2))) e_ml_L_D_bonus e_im_D_bonus e_se_D_bonus e_co_D_bonus hd_D_bonus ⟨rfl, rfl⟩ ⟨Nat.le_of_ble_eq_true rfl, Nat.le_of_ble_eq_true rfl⟩ hA h rfl rfl (Nat.le_of_ble_eq_true rfl) ⟨Nat.le_of_ble_eq_true rfl, Nat.le_of_ble_eq_true rfl⟩ d_L_law_146 (fun r146 u146 H locs q146 h => ?_)
        have hS := h.2.2.2.2
        obtain ⟨f2, e1, rfl⟩ := q146
        refine lv_aload_n hx hb d_L_law_149 rfl (lv_at hl 2 rfl) ?_
        refine lv_aload_n hx hb d_L_law_150 rfl (lv_at hl 0 rfl) ?_
        refine lv_iload_n hx hb d_L_law_151 rfl (lv_at hl 3 rfl) ?_
        refine lv_iconst (v := nI 1) hx hb d_L_law_152 (by decide) ?_
        refine n_iadd hx hb d_L_law_153 ?_
        refine va_sld hx hb hX hbl hbA hS (vp_in_nI (by omega) (by omega)) d_L_law_154 ?_
        refine tp_i (y := xs (i + 1)) (by rw [nI_clamp (by omega)]) ?_
        refine lv_aload_n hx hb d_L_law_155 rfl (lv_at hl 0 rfl) ?_
        refine lv_iload_n hx hb d_L_law_156 rfl (lv_at hl 3 rfl) ?_
        refine lv_iconst (v := nI 2) hx hb d_L_law_157 (by decide) ?_
        refine n_iadd hx hb d_L_law_158 ?_
        refine va_sld hx hb hX hbl hbA hS (vp_in_nI (by omega) (by omega)) d_L_law_159 ?_
        refine tp_i (y := xs (i + 2)) (by rw [nI_clamp (by omega)]) ?_
        refine callWMJ (rest := [.int r146]) X hl.1 (c_M_bonus l gM hN (xs (i + 1)) (xs (i + 2))) e_ml_L_M_bonus e_im_M_bonus e_se_M_bonus e_co_M_bonus hd_M_bonus ⟨rfl, rfl⟩ ⟨Nat.le_of_ble_eq_true rfl, Nat.le_of_ble_eq_true rfl⟩ hA h rfl rfl (Nat.le_of_ble_eq_true rfl) ⟨Nat.le_of_ble_eq_true rfl, Nat.le_of_ble_eq_true rfl⟩ d_L_law_160 (fun r160 u160 H locs q160 h => ?_)
        have hS := h.2.2.2.2
        obtain ⟨h2, e2, rfl⟩ := q160
        obtain ⟨er, E2, hG, hD, hM⟩ := bonus_rel hN hG hD hM e1 e2
        refine lv_icmp_eq (tgt := 329) hx hb d_L_law_163 (by decide) (fun c163 => ?_) (fun c163 => ?_)
        · refine lv_iinc (v := nI (i + 4)) (lv' := [(3, .int (nI (i + 4))), (0, .ref (b)), (1, .ref (gD.2.1 0)), (2, .ref (gM.2.1 0))]) hx hb d_L_law_329 hl (k := 3) rfl (nI_add i 4) (by decide) rfl (fun ls hl => ?_)
          refine lv_goto (tgt := 28) hx hb d_L_law_332 (by decide) ?_
          exact ih _ _ _ _ _ _ _ _ _ _ _ _ _ _ _ _ _ _ _ _ (by omega) (by omega) (by omega) hG hD hM h (lv_sub hl [1, 2, 3, 0] rfl)
        · exact absurd er c163
      · refine lv_tableIn (off := 126) (tgt := 168) hx hb d_L_law_42 (by decide) (by decide) (by decide) (by decide) ?_
        refine lv_aload_n hx hb d_L_law_168 rfl (lv_at hl 1 rfl) ?_
        refine lv_aload_n hx hb d_L_law_169 rfl (lv_at hl 0 rfl) ?_
        refine lv_iload_n hx hb d_L_law_170 rfl (lv_at hl 3 rfl) ?_
        refine lv_iconst (v := nI 1) hx hb d_L_law_171 (by decide) ?_
        refine n_iadd hx hb d_L_law_172 ?_
        refine va_sld hx hb hX hbl hbA hS (vp_in_nI (by omega) (by omega)) d_L_law_173 ?_
        refine tp_i (y := xs (i + 1)) (by rw [nI_clamp (by omega)]) ?_
        refine lv_aload_n hx hb d_L_law_174 rfl (lv_at hl 0 rfl) ?_
        refine lv_iload_n hx hb d_L_law_175 rfl (lv_at hl 3 rfl) ?_
        refine lv_iconst (v := nI 2) hx hb d_L_law_176 (by decide) ?_
        refine n_iadd hx hb d_L_law_177 ?_
        refine va_sld hx hb hX hbl hbA hS (vp_in_nI (by omega) (by omega)) d_L_law_178 ?_
        refine tp_i (y := xs (i + 2)) (by rw [nI_clamp (by omega)]) ?_
        refine callWDJ (rest := []) X hl.1 (c_D_mode l gD hN (xs (i + 1)) (xs (i + 2))) e_ml_L_D_mode e_im_D_mode e_se_D_mode e_co_D_mode hd_D_mode ⟨rfl, rfl⟩ ⟨Nat.le_of_ble_eq_true rfl, Nat.le_of_ble_eq_true rfl⟩ hA h rfl rfl (Nat.le_of_ble_eq_true rfl) ⟨Nat.le_of_ble_eq_true rfl, Nat.le_of_ble_eq_true rfl⟩ d_L_law_179 (fun r179 u179 H locs q179 h => ?_)
        have hS := h.2.2.2.2
        obtain ⟨f2, e1, rfl⟩ := q179
        refine lv_aload_n hx hb d_L_law_182 rfl (lv_at hl 2 rfl) ?_
        refine lv_aload_n hx hb d_L_law_183 rfl (lv_at hl 0 rfl) ?_
        refine lv_iload_n hx hb d_L_law_184 rfl (lv_at hl 3 rfl) ?_
        refine lv_iconst (v := nI 1) hx hb d_L_law_185 (by decide) ?_
        refine n_iadd hx hb d_L_law_186 ?_
        refine va_sld hx hb hX hbl hbA hS (vp_in_nI (by omega) (by omega)) d_L_law_187 ?_
        refine tp_i (y := xs (i + 1)) (by rw [nI_clamp (by omega)]) ?_
        refine lv_aload_n hx hb d_L_law_188 rfl (lv_at hl 0 rfl) ?_
        refine lv_iload_n hx hb d_L_law_189 rfl (lv_at hl 3 rfl) ?_
        refine lv_iconst (v := nI 2) hx hb d_L_law_190 (by decide) ?_
        refine n_iadd hx hb d_L_law_191 ?_
        refine va_sld hx hb hX hbl hbA hS (vp_in_nI (by omega) (by omega)) d_L_law_192 ?_
        refine tp_i (y := xs (i + 2)) (by rw [nI_clamp (by omega)]) ?_
        refine callWMJ (rest := [.int r179]) X hl.1 (c_M_mode l gM hN (xs (i + 1)) (xs (i + 2))) e_ml_L_M_mode e_im_M_mode e_se_M_mode e_co_M_mode hd_M_mode ⟨rfl, rfl⟩ ⟨Nat.le_of_ble_eq_true rfl, Nat.le_of_ble_eq_true rfl⟩ hA h rfl rfl (Nat.le_of_ble_eq_true rfl) ⟨Nat.le_of_ble_eq_true rfl, Nat.le_of_ble_eq_true rfl⟩ d_L_law_193 (fun r193 u193 H locs q193 h => ?_)
        have hS := h.2.2.2.2
        obtain ⟨h2, e2, rfl⟩ := q193
        obtain ⟨er, Md2, hG, hD, hM⟩ := mode_rel hN hG hD hM e1 e2
        refine lv_icmp_eq (tgt := 329) hx hb d_L_law_196 (by decide) (fun c196 => ?_) (fun c196 => ?_)
        · refine lv_iinc (v := nI (i + 4)) (lv' := [(3, .int (nI (i + 4))), (0, .ref (b)), (1, .ref (gD.2.1 0)), (2, .ref (gM.2.1 0))]) hx hb d_L_law_329 hl (k := 3) rfl (nI_add i 4) (by decide) rfl (fun ls hl => ?_)
          refine lv_goto (tgt := 28) hx hb d_L_law_332 (by decide) ?_
          exact ih _ _ _ _ _ _ _ _ _ _ _ _ _ _ _ _ _ _ _ _ (by omega) (by omega) (by omega) hG hD hM h (lv_sub hl [1, 2, 3, 0] rfl)
        · exact absurd er c196
      · refine lv_tableIn (off := 159) (tgt := 201) hx hb d_L_law_42 (by decide) (by decide) (by decide) (by decide) ?_
        refine lv_aload_n hx hb d_L_law_201 rfl (lv_at hl 1 rfl) ?_
        refine lv_aload_n hx hb d_L_law_202 rfl (lv_at hl 0 rfl) ?_
        refine lv_iload_n hx hb d_L_law_203 rfl (lv_at hl 3 rfl) ?_
        refine lv_iconst (v := nI 1) hx hb d_L_law_204 (by decide) ?_
        refine n_iadd hx hb d_L_law_205 ?_
        refine va_sld hx hb hX hbl hbA hS (vp_in_nI (by omega) (by omega)) d_L_law_206 ?_
        refine tp_i (y := xs (i + 1)) (by rw [nI_clamp (by omega)]) ?_
        refine callRD (rest := []) X hl.1 (c_D_weight l gD hN (xs (i + 1))) e_ml_L_D_weight e_im_D_weight e_se_D_weight e_co_D_weight hd_D_weight ⟨rfl, rfl⟩ ⟨Nat.le_of_ble_eq_true rfl, Nat.le_of_ble_eq_true rfl⟩ (h.2.1) rfl rfl (Nat.le_of_ble_eq_true rfl) ⟨Nat.le_of_ble_eq_true rfl, Nat.le_of_ble_eq_true rfl⟩ d_L_law_207 (fun r207 q207 => ?_)
        refine lv_aload_n hx hb d_L_law_210 rfl (lv_at hl 2 rfl) ?_
        refine lv_aload_n hx hb d_L_law_211 rfl (lv_at hl 0 rfl) ?_
        refine lv_iload_n hx hb d_L_law_212 rfl (lv_at hl 3 rfl) ?_
        refine lv_iconst (v := nI 1) hx hb d_L_law_213 (by decide) ?_
        refine n_iadd hx hb d_L_law_214 ?_
        refine va_sld hx hb hX hbl hbA hS (vp_in_nI (by omega) (by omega)) d_L_law_215 ?_
        refine tp_i (y := xs (i + 1)) (by rw [nI_clamp (by omega)]) ?_
        refine callRM (rest := [.int r207]) X hl.1 (c_M_weight l gM hN (xs (i + 1))) e_ml_L_M_weight e_im_M_weight e_se_M_weight e_co_M_weight hd_M_weight ⟨rfl, rfl⟩ ⟨Nat.le_of_ble_eq_true rfl, Nat.le_of_ble_eq_true rfl⟩ (h.2.2.1) rfl rfl (Nat.le_of_ble_eq_true rfl) ⟨Nat.le_of_ble_eq_true rfl, Nat.le_of_ble_eq_true rfl⟩ d_L_law_216 (fun r216 q216 => ?_)
        have er : r207 = r216 := by rw [q207, q216, weightD_eq hN hG hD, weightM_eq hN hM]
        refine lv_icmp_eq (tgt := 329) hx hb d_L_law_219 (by decide) (fun c219 => ?_) (fun c219 => ?_)
        · refine lv_iinc (v := nI (i + 4)) (lv' := [(3, .int (nI (i + 4))), (0, .ref (b)), (1, .ref (gD.2.1 0)), (2, .ref (gM.2.1 0))]) hx hb d_L_law_329 hl (k := 3) rfl (nI_add i 4) (by decide) rfl (fun ls hl => ?_)
          refine lv_goto (tgt := 28) hx hb d_L_law_332 (by decide) ?_
          exact ih _ _ _ _ _ _ _ _ _ _ _ _ _ _ _ _ _ _ _ _ (by omega) (by omega) (by omega) hG hD hM h (lv_sub hl [1, 2, 3, 0] rfl)
        · exact absurd er c219
      · refine lv_tableIn (off := 182) (tgt := 224) hx hb d_L_law_42 (by decide) (by decide) (by decide) (by decide) ?_
        refine lv_aload_n hx hb d_L_law_224 rfl (lv_at hl 1 rfl) ?_
        refine callWDJ (rest := []) X hl.1 (c_D_dTop l gD hN hG hD) e_ml_L_D_dTop e_im_D_dTop e_se_D_dTop e_co_D_dTop hd_D_dTop ⟨rfl, rfl⟩ ⟨Nat.le_of_ble_eq_true rfl, Nat.le_of_ble_eq_true rfl⟩ hA h rfl rfl (Nat.le_of_ble_eq_true rfl) ⟨Nat.le_of_ble_eq_true rfl, Nat.le_of_ble_eq_true rfl⟩ d_L_law_225 (fun r225 u225 H locs q225 h => ?_)
        have hS := h.2.2.2.2
        obtain ⟨fr2, fc2, fq2, fb2, c2, t2, b2, s2, e1, rfl⟩ := q225
        refine lv_aload_n hx hb d_L_law_228 rfl (lv_at hl 2 rfl) ?_
        refine callRM (rest := [.int r225]) X hl.1 (c_M_dTop l gM hN hG hM) e_ml_L_M_dTop e_im_M_dTop e_se_M_dTop e_co_M_dTop hd_M_dTop ⟨rfl, rfl⟩ ⟨Nat.le_of_ble_eq_true rfl, Nat.le_of_ble_eq_true rfl⟩ (h.2.2.1) rfl rfl (Nat.le_of_ble_eq_true rfl) ⟨Nat.le_of_ble_eq_true rfl, Nat.le_of_ble_eq_true rfl⟩ d_L_law_229 (fun r229 q229 => ?_)
        have er : r225 = r229 := top_rel hN e1 q229
        refine lv_icmp_eq (tgt := 329) hx hb d_L_law_232 (by decide) (fun c232 => ?_) (fun c232 => ?_)
        · refine lv_iinc (v := nI (i + 4)) (lv' := [(3, .int (nI (i + 4))), (0, .ref (b)), (1, .ref (gD.2.1 0)), (2, .ref (gM.2.1 0))]) hx hb d_L_law_329 hl (k := 3) rfl (nI_add i 4) (by decide) rfl (fun ls hl => ?_)
          refine lv_goto (tgt := 28) hx hb d_L_law_332 (by decide) ?_
          exact ih _ _ _ _ _ _ _ _ _ _ _ _ _ _ _ _ _ _ _ _ (by omega) (by omega) (by omega) hG hD hM h (lv_sub hl [1, 2, 3, 0] rfl)
        · exact absurd er c232
      · refine lv_tableIn (off := 195) (tgt := 237) hx hb d_L_law_42 (by decide) (by decide) (by decide) (by decide) ?_
        refine lv_aload_n hx hb d_L_law_237 rfl (lv_at hl 1 rfl) ?_
        refine callWDJ (rest := []) X hl.1 (c_D_dBot l gD hN hG hD) e_ml_L_D_dBot e_im_D_dBot e_se_D_dBot e_co_D_dBot hd_D_dBot ⟨rfl, rfl⟩ ⟨Nat.le_of_ble_eq_true rfl, Nat.le_of_ble_eq_true rfl⟩ hA h rfl rfl (Nat.le_of_ble_eq_true rfl) ⟨Nat.le_of_ble_eq_true rfl, Nat.le_of_ble_eq_true rfl⟩ d_L_law_238 (fun r238 u238 H locs q238 h => ?_)
        have hS := h.2.2.2.2
        obtain ⟨fr2, fc2, fq2, fb2, c2, t2, b2, s2, e1, rfl⟩ := q238
        refine lv_aload_n hx hb d_L_law_241 rfl (lv_at hl 2 rfl) ?_
        refine callRM (rest := [.int r238]) X hl.1 (c_M_dBot l gM hN hG hM) e_ml_L_M_dBot e_im_M_dBot e_se_M_dBot e_co_M_dBot hd_M_dBot ⟨rfl, rfl⟩ ⟨Nat.le_of_ble_eq_true rfl, Nat.le_of_ble_eq_true rfl⟩ (h.2.2.1) rfl rfl (Nat.le_of_ble_eq_true rfl) ⟨Nat.le_of_ble_eq_true rfl, Nat.le_of_ble_eq_true rfl⟩ d_L_law_242 (fun r242 q242 => ?_)
        have er : r238 = r242 := bot_rel hN e1 q242
        refine lv_icmp_eq (tgt := 329) hx hb d_L_law_245 (by decide) (fun c245 => ?_) (fun c245 => ?_)
        · refine lv_iinc (v := nI (i + 4)) (lv' := [(3, .int (nI (i + 4))), (0, .ref (b)), (1, .ref (gD.2.1 0)), (2, .ref (gM.2.1 0))]) hx hb d_L_law_329 hl (k := 3) rfl (nI_add i 4) (by decide) rfl (fun ls hl => ?_)
          refine lv_goto (tgt := 28) hx hb d_L_law_332 (by decide) ?_
          exact ih _ _ _ _ _ _ _ _ _ _ _ _ _ _ _ _ _ _ _ _ (by omega) (by omega) (by omega) hG hD hM h (lv_sub hl [1, 2, 3, 0] rfl)
        · exact absurd er c245
      · refine lv_tableIn (off := 208) (tgt := 250) hx hb d_L_law_42 (by decide) (by decide) (by decide) (by decide) ?_
        refine lv_aload_n hx hb d_L_law_250 rfl (lv_at hl 1 rfl) ?_
        refine callWDJ (rest := []) X hl.1 (c_D_densest l gD hN hG hD) e_ml_L_D_densest e_im_D_densest e_se_D_densest e_co_D_densest hd_D_densest ⟨rfl, rfl⟩ ⟨Nat.le_of_ble_eq_true rfl, Nat.le_of_ble_eq_true rfl⟩ hA h rfl rfl (Nat.le_of_ble_eq_true rfl) ⟨Nat.le_of_ble_eq_true rfl, Nat.le_of_ble_eq_true rfl⟩ d_L_law_251 (fun r251 u251 H locs q251 h => ?_)
        have hS := h.2.2.2.2
        obtain ⟨fr2, fc2, fq2, fb2, c2, t2, b2, s2, e1, rfl⟩ := q251
        refine lv_aload_n hx hb d_L_law_254 rfl (lv_at hl 2 rfl) ?_
        refine callRM (rest := [.int r251]) X hl.1 (c_M_densest l gM hN hG hM) e_ml_L_M_densest e_im_M_densest e_se_M_densest e_co_M_densest hd_M_densest ⟨rfl, rfl⟩ ⟨Nat.le_of_ble_eq_true rfl, Nat.le_of_ble_eq_true rfl⟩ (h.2.2.1) rfl rfl (Nat.le_of_ble_eq_true rfl) ⟨Nat.le_of_ble_eq_true rfl, Nat.le_of_ble_eq_true rfl⟩ d_L_law_255 (fun r255 q255 => ?_)
        have er : r251 = r255 := den_rel hN e1 q255
        refine lv_icmp_eq (tgt := 329) hx hb d_L_law_258 (by decide) (fun c258 => ?_) (fun c258 => ?_)
        · refine lv_iinc (v := nI (i + 4)) (lv' := [(3, .int (nI (i + 4))), (0, .ref (b)), (1, .ref (gD.2.1 0)), (2, .ref (gM.2.1 0))]) hx hb d_L_law_329 hl (k := 3) rfl (nI_add i 4) (by decide) rfl (fun ls hl => ?_)
          refine lv_goto (tgt := 28) hx hb d_L_law_332 (by decide) ?_
          exact ih _ _ _ _ _ _ _ _ _ _ _ _ _ _ _ _ _ _ _ _ (by omega) (by omega) (by omega) hG hD hM h (lv_sub hl [1, 2, 3, 0] rfl)
        · exact absurd er c258
      · refine lv_tableIn (off := 221) (tgt := 263) hx hb d_L_law_42 (by decide) (by decide) (by decide) (by decide) ?_
        refine lv_aload_n hx hb d_L_law_263 rfl (lv_at hl 1 rfl) ?_
        refine lv_aload_n hx hb d_L_law_264 rfl (lv_at hl 0 rfl) ?_
        refine lv_iload_n hx hb d_L_law_265 rfl (lv_at hl 3 rfl) ?_
        refine lv_iconst (v := nI 1) hx hb d_L_law_266 (by decide) ?_
        refine n_iadd hx hb d_L_law_267 ?_
        refine va_sld hx hb hX hbl hbA hS (vp_in_nI (by omega) (by omega)) d_L_law_268 ?_
        refine tp_i (y := xs (i + 1)) (by rw [nI_clamp (by omega)]) ?_
        refine lv_aload_n hx hb d_L_law_269 rfl (lv_at hl 0 rfl) ?_
        refine lv_iload_n hx hb d_L_law_270 rfl (lv_at hl 3 rfl) ?_
        refine lv_iconst (v := nI 2) hx hb d_L_law_271 (by decide) ?_
        refine n_iadd hx hb d_L_law_272 ?_
        refine va_sld hx hb hX hbl hbA hS (vp_in_nI (by omega) (by omega)) d_L_law_273 ?_
        refine tp_i (y := xs (i + 2)) (by rw [nI_clamp (by omega)]) ?_
        refine callWDJ (rest := []) X hl.1 (c_D_excess l gD hN hG hD (xs (i + 1)) (xs (i + 2))) e_ml_L_D_excess e_im_D_excess e_se_D_excess e_co_D_excess hd_D_excess ⟨rfl, rfl⟩ ⟨Nat.le_of_ble_eq_true rfl, Nat.le_of_ble_eq_true rfl⟩ hA h rfl rfl (Nat.le_of_ble_eq_true rfl) ⟨Nat.le_of_ble_eq_true rfl, Nat.le_of_ble_eq_true rfl⟩ d_L_law_274 (fun r274 u274 H locs q274 h => ?_)
        have hS := h.2.2.2.2
        obtain ⟨fr2, fc2, fq2, fb2, c2, e1, rfl⟩ := q274
        refine lv_aload_n hx hb d_L_law_277 rfl (lv_at hl 2 rfl) ?_
        refine lv_aload_n hx hb d_L_law_278 rfl (lv_at hl 0 rfl) ?_
        refine lv_iload_n hx hb d_L_law_279 rfl (lv_at hl 3 rfl) ?_
        refine lv_iconst (v := nI 1) hx hb d_L_law_280 (by decide) ?_
        refine n_iadd hx hb d_L_law_281 ?_
        refine va_sld hx hb hX hbl hbA hS (vp_in_nI (by omega) (by omega)) d_L_law_282 ?_
        refine tp_i (y := xs (i + 1)) (by rw [nI_clamp (by omega)]) ?_
        refine lv_aload_n hx hb d_L_law_283 rfl (lv_at hl 0 rfl) ?_
        refine lv_iload_n hx hb d_L_law_284 rfl (lv_at hl 3 rfl) ?_
        refine lv_iconst (v := nI 2) hx hb d_L_law_285 (by decide) ?_
        refine n_iadd hx hb d_L_law_286 ?_
        refine va_sld hx hb hX hbl hbA hS (vp_in_nI (by omega) (by omega)) d_L_law_287 ?_
        refine tp_i (y := xs (i + 2)) (by rw [nI_clamp (by omega)]) ?_
        refine callRM (rest := [.int r274]) X hl.1 (c_M_excess l gM hN hG hM (xs (i + 1)) (xs (i + 2))) e_ml_L_M_excess e_im_M_excess e_se_M_excess e_co_M_excess hd_M_excess ⟨rfl, rfl⟩ ⟨Nat.le_of_ble_eq_true rfl, Nat.le_of_ble_eq_true rfl⟩ (h.2.2.1) rfl rfl (Nat.le_of_ble_eq_true rfl) ⟨Nat.le_of_ble_eq_true rfl, Nat.le_of_ble_eq_true rfl⟩ d_L_law_288 (fun r288 q288 => ?_)
        have er : r274 = r288 := ex_rel hN hG e1 q288
        refine lv_icmp_eq (tgt := 329) hx hb d_L_law_291 (by decide) (fun c291 => ?_) (fun c291 => ?_)
        · refine lv_iinc (v := nI (i + 4)) (lv' := [(3, .int (nI (i + 4))), (0, .ref (b)), (1, .ref (gD.2.1 0)), (2, .ref (gM.2.1 0))]) hx hb d_L_law_329 hl (k := 3) rfl (nI_add i 4) (by decide) rfl (fun ls hl => ?_)
          refine lv_goto (tgt := 28) hx hb d_L_law_332 (by decide) ?_
          exact ih _ _ _ _ _ _ _ _ _ _ _ _ _ _ _ _ _ _ _ _ (by omega) (by omega) (by omega) hG hD hM h (lv_sub hl [1, 2, 3, 0] rfl)
        · exact absurd er c291
      · refine lv_tableIn (off := 254) (tgt := 296) hx hb d_L_law_42 (by decide) (by decide) (by decide) (by decide) ?_
        refine lv_aload_n hx hb d_L_law_296 rfl (lv_at hl 1 rfl) ?_
        refine lv_aload_n hx hb d_L_law_297 rfl (lv_at hl 0 rfl) ?_
        refine lv_iload_n hx hb d_L_law_298 rfl (lv_at hl 3 rfl) ?_
        refine lv_iconst (v := nI 1) hx hb d_L_law_299 (by decide) ?_
        refine n_iadd hx hb d_L_law_300 ?_
        refine va_sld hx hb hX hbl hbA hS (vp_in_nI (by omega) (by omega)) d_L_law_301 ?_
        refine tp_i (y := xs (i + 1)) (by rw [nI_clamp (by omega)]) ?_
        refine lv_aload_n hx hb d_L_law_302 rfl (lv_at hl 0 rfl) ?_
        refine lv_iload_n hx hb d_L_law_303 rfl (lv_at hl 3 rfl) ?_
        refine lv_iconst (v := nI 2) hx hb d_L_law_304 (by decide) ?_
        refine n_iadd hx hb d_L_law_305 ?_
        refine va_sld hx hb hX hbl hbA hS (vp_in_nI (by omega) (by omega)) d_L_law_306 ?_
        refine tp_i (y := xs (i + 2)) (by rw [nI_clamp (by omega)]) ?_
        refine callWDJ (rest := []) X hl.1 (c_D_exSet l gD hN hG hD (xs (i + 1)) (xs (i + 2))) e_ml_L_D_exSet e_im_D_exSet e_se_D_exSet e_co_D_exSet hd_D_exSet ⟨rfl, rfl⟩ ⟨Nat.le_of_ble_eq_true rfl, Nat.le_of_ble_eq_true rfl⟩ hA h rfl rfl (Nat.le_of_ble_eq_true rfl) ⟨Nat.le_of_ble_eq_true rfl, Nat.le_of_ble_eq_true rfl⟩ d_L_law_307 (fun r307 u307 H locs q307 h => ?_)
        have hS := h.2.2.2.2
        obtain ⟨fr2, fc2, fq2, fb2, c2, e1, rfl⟩ := q307
        refine lv_aload_n hx hb d_L_law_310 rfl (lv_at hl 2 rfl) ?_
        refine lv_aload_n hx hb d_L_law_311 rfl (lv_at hl 0 rfl) ?_
        refine lv_iload_n hx hb d_L_law_312 rfl (lv_at hl 3 rfl) ?_
        refine lv_iconst (v := nI 1) hx hb d_L_law_313 (by decide) ?_
        refine n_iadd hx hb d_L_law_314 ?_
        refine va_sld hx hb hX hbl hbA hS (vp_in_nI (by omega) (by omega)) d_L_law_315 ?_
        refine tp_i (y := xs (i + 1)) (by rw [nI_clamp (by omega)]) ?_
        refine lv_aload_n hx hb d_L_law_316 rfl (lv_at hl 0 rfl) ?_
        refine lv_iload_n hx hb d_L_law_317 rfl (lv_at hl 3 rfl) ?_
        refine lv_iconst (v := nI 2) hx hb d_L_law_318 (by decide) ?_
        refine n_iadd hx hb d_L_law_319 ?_
        refine va_sld hx hb hX hbl hbA hS (vp_in_nI (by omega) (by omega)) d_L_law_320 ?_
        refine tp_i (y := xs (i + 2)) (by rw [nI_clamp (by omega)]) ?_
        refine callRM (rest := [.int r307]) X hl.1 (c_M_exSet l gM hN hG hM (xs (i + 1)) (xs (i + 2))) e_ml_L_M_exSet e_im_M_exSet e_se_M_exSet e_co_M_exSet hd_M_exSet ⟨rfl, rfl⟩ ⟨Nat.le_of_ble_eq_true rfl, Nat.le_of_ble_eq_true rfl⟩ (h.2.2.1) rfl rfl (Nat.le_of_ble_eq_true rfl) ⟨Nat.le_of_ble_eq_true rfl, Nat.le_of_ble_eq_true rfl⟩ d_L_law_321 (fun r321 q321 => ?_)
        have er : r307 = r321 := exs_rel hN hG e1 q321
        refine lv_icmp_eq (tgt := 329) hx hb d_L_law_324 (by decide) (fun c324 => ?_) (fun c324 => ?_)
        · refine lv_iinc (v := nI (i + 4)) (lv' := [(3, .int (nI (i + 4))), (0, .ref (b)), (1, .ref (gD.2.1 0)), (2, .ref (gM.2.1 0))]) hx hb d_L_law_329 hl (k := 3) rfl (nI_add i 4) (by decide) rfl (fun ls hl => ?_)
          refine lv_goto (tgt := 28) hx hb d_L_law_332 (by decide) ?_
          exact ih _ _ _ _ _ _ _ _ _ _ _ _ _ _ _ _ _ _ _ _ (by omega) (by omega) (by omega) hG hD hM h (lv_sub hl [1, 2, 3, 0] rfl)
        · exact absurd er c324
      · refine lv_tableOut (tgt := 329) hx hb d_L_law_42 (Or.inr (by rw [nI_toInt (by omega)]; omega)) (by decide) ?_
        refine lv_iinc (v := nI (i + 4)) (lv' := [(3, .int (nI (i + 4))), (0, .ref (b)), (1, .ref (gD.2.1 0)), (2, .ref (gM.2.1 0))]) hx hb d_L_law_329 hl (k := 3) rfl (nI_add i 4) (by decide) rfl (fun ls hl => ?_)
        refine lv_goto (tgt := 28) hx hb d_L_law_332 (by decide) ?_
        exact ih _ _ _ _ _ _ _ _ _ _ _ _ _ _ _ _ _ _ _ _ (by omega) (by omega) (by omega) hG hD hM h (lv_sub hl [1, 2, 3, 0] rfl)
end
section
set_option maxHeartbeats 4000000 in
set_option maxRecDepth 100000 in
/-- THE LAW, from its entry -/
theorem whole_start {p : Program} {e : Env} {s : State} {m : MethodId} {below : List Frame} {meth : Method} {c : Code} (l : Launch) {b L : Nat} {xs : Nat → Int32} (hL : L ≤ 2049) (C0 : lw_At p s m meth c b L xs) : W p l e room_1 s m #[Value.ref b] below meth c s.heap [] 0 0 (lw_Z below #[Value.ref b] s) (entryFrame m ([Value.ref b] : List Value).toArray 4) := by
  obtain ⟨hx, hb, hr, hml, hown, hts, hX, hbl, hlocks, hgv⟩ := id C0
  have htl : ∀ w ∈ tb, w.before #[Value.ref b] s = true := fun w h => hts w (List.mem_filter.mp h).1
  have X : CallFix p m c b_L_law 4 s #[Value.ref b] tb R_law := ⟨hx, hb, hml, hown, htl⟩
  have hA : ∀ q : Nat, s.heap.size ≤ q → (fun q : Nat => s.heap.size ≤ q) q := fun _ h => h
  have hbA : ¬ (fun q : Nat => s.heap.size ≤ q) b := Nat.not_le.mpr hbl
  obtain ⟨c0, iS0, hKn0⟩ := u_known (C := R_D) (T := F_D) (N := 12) (n := 12) htl i_D (htl _ e_ins_D)
  obtain ⟨c1, iS1, hKn1⟩ := u_known (C := R_M) (T := F_M) (N := 3) (n := 3) htl i_M (htl _ e_ins_M)
  obtain ⟨dC, dI, hKc⟩ : ∃ (dC : Nat → ClassId) (dI : Nat → Nat → Nat), ∀ (k : Nat) (q : vw_C), classes[k]? = some q → u_Kn s q.1 q.2.1 q.2.2 (dC k) (dI k) := by
    refine ⟨fun k => if k = 0 then c0 else c1, fun k => if k = 0 then iS0 else iS1, ?_⟩
    intro k q hq
    match k, hq with
    | 0, hq => cases hq; exact hKn0
    | 1, hq => cases hq; exact hKn1
    | k + 2, hq => simp [classes] at hq
  have hS : va_S (fun q : Nat => s.heap.size ≤ q) s.heap s.heap [] := va_S.rf
  have hK : va_K (dC, dI) classes [] s := ⟨hKc, fun k q h => by simp at h⟩
  have hP : va_P (dC, dI) classes [] s.heap := fun k q h => by simp at h
  have hD : va_D (fun q : Nat => s.heap.size ≤ q) [] := ⟨fun i j p q h => by simp at h, fun k q h => by simp at h⟩
  have hl := lv_entry ([.ref b]) (n := 4) (Nat.le_of_ble_eq_true rfl)
  rw [lg_entry_eq]
  generalize (lg_sl ([.ref b]) ++ List.replicate (4 - (lg_sl ([.ref b])).length) Slot.unset).toArray = ls at hl ⊢
  have hl : lv_has ls 4 [(0, .ref b)] := hl
  refine va_new (ci := 0) (fs := [.int 0, .null, .null, .null, .null, .null, .null, .null, .int 0, .int 0, .int 0, .int 0]) (C := R_D) (T := F_D) (N := 12) hx hb htl i_D t_D t_D_ok hown (htl _ e_cl_D) (htl _ e_ins_D) (htl _ e_in_D) hK hP hD hS hA rfl (fun j hj => by rcases (show j = 0 ∨ j = 1 ∨ j = 2 ∨ j = 3 ∨ j = 4 ∨ j = 5 ∨ j = 6 ∨ j = 7 ∨ j = 8 ∨ j = 9 ∨ j = 10 ∨ j = 11 by omega) with rfl | rfl | rfl | rfl | rfl | rfl | rfl | rfl | rfl | rfl | rfl | rfl <;> rfl) (Nat.le_of_ble_eq_true rfl) (Nat.le_of_ble_eq_true rfl) d_L_law_0 (fun qD H hP hD hS => ?_)
  have hP : va_P (dC, dI) classes [(qD, .inr (0, [.int 0, .null, .null, .null, .null, .null, .null, .null, .int 0, .int 0, .int 0, .int 0]))] H := hP
  have hD : va_D (fun q : Nat => s.heap.size ≤ q) [(qD, .inr (0, [.int 0, .null, .null, .null, .null, .null, .null, .null, .int 0, .int 0, .int 0, .int 0]))] := hD
  refine W.widen (k := 1) (n := 12) (by omega) (by omega) ?_
  refine lv_dup hx hb d_L_law_3 rfl ?_
  refine lv_aload_n hx hb d_L_law_4 rfl (lv_at hl 0 rfl) ?_
  refine lv_iconst (v := nI 0) hx hb d_L_law_5 (by decide) ?_
  have hXH : va_X b L xs s H := hX.kept (hS.2.1 b hbl hbA)
  refine vp_callSi (W.runS (As := [.ref b, .int (nI 0)]) (rest := [.ref qD, .ref qD]) X (c_L_cell l (xs := xs) hL) (cwS 2 htl (good_S e_ml_L_L_cell e_im_L_cell e_in_L e_co_L_cell) rfl rfl rfl hd_L_cell ⟨Nat.le_of_ble_eq_true rfl, Nat.le_of_ble_eq_true rfl⟩) ⟨fun a U f9 mk q => ⟨q.1, va_X.moved (u := U) (Vm.Alike.refl U.vm) q.2⟩, fun U hU hW => ⟨rfl, by show va_X b L xs U U.heap; rw [hU]; exact va_X.moved hW.alike hXH⟩⟩ rfl rfl hl.1 rfl (lv_room (Nat.le_of_ble_eq_true rfl)) d_L_law_6 ⟨Nat.le_of_ble_eq_true rfl, Nat.le_of_ble_eq_true rfl⟩) (fun r6 hr6 => ?_)
  obtain ⟨r0, er0⟩ : ∃ z, z = if 0 < L then xs 0 else nI 0 := ⟨_, rfl⟩
  obtain rfl : r6 = r0 := hr6.trans er0.symm
  clear hr6
  have hPc := hP.sub (ws' := [(qD, .inr (0, [.int 0, .null, .null, .null, .null, .null, .null, .null, .int 0, .int 0, .int 0, .int 0]))]) [0] rfl
  have hDc := hD.sub (ws' := [(qD, .inr (0, [.int 0, .null, .null, .null, .null, .null, .null, .null, .int 0, .int 0, .int 0, .int 0]))]) [0] (by decide) rfl
  have hKc := hK.sub (tys' := []) [] rfl
  have hFc := va_free (wc := [(qD, .inr (0, [.int 0, .null, .null, .null, .null, .null, .null, .null, .int 0, .int 0, .int 0, .int 0]))]) hD hS hA [0] rfl
  refine va_callv (va_runI (As := [.int r6]) (rest := [.ref qD]) X (c_D_init l dC dI qD H.size r6) (cwI 1 htl (good_cons e_co_D_init) rfl rfl rfl (htl _ e_in_D) (htl _ e_ml_L_D_init) (htl _ e_im_D_init) rfl (by decide +kernel) ⟨Nat.le_of_ble_eq_true rfl, Nat.le_of_ble_eq_true rfl⟩) ⟨fun a U f9 mk q => by obtain ⟨q0, q1, qP, qK, qD⟩ := q; exact ⟨q0, q1, qP, va_K.moved (u := U) (U := U.calling f9 mk a) (Vm.Alike.refl U.vm) qK, qD⟩, fun U hU hW => ⟨rfl, by rw [hU], by rw [hU]; exact hPc, va_K.moved hW.alike hKc, hDc.weaken (fun _ _ _ _ => trivial)⟩⟩ rfl rfl hl.1 rfl (lv_room (Nat.le_of_ble_eq_true rfl)) d_L_law_9 ⟨Nat.le_of_ble_eq_true rfl, Nat.le_of_ble_eq_true rfl⟩) hS (fun q _ h => hFc q h) hFc (fun gD t H1 locs ht hvm hw hB hz1 hk1 hS => ?_)
  obtain ⟨hgD, rfl⟩ := hw
  obtain ⟨hR1, hD1⟩ := hB
  subst ht
  have hRD : RD gD (kc r6, (fun _ => 0), (fun _ => 0), (fun _ => 0), (fun _ => 0), (fun _ => 0), (fun _ => 0), (fun _ => 0), 0, 0, 0, 0) s t.heap := ⟨va_K.moved hvm.symm hR1.1, hR1.2⟩
  have hD : va_D (fun q : Nat => s.heap.size ≤ q) (wD gD (kc r6, (fun _ => 0), (fun _ => 0), (fun _ => 0), (fun _ => 0), (fun _ => 0), (fun _ => 0), (fun _ => 0), 0, 0, 0, 0)) := hD1.weaken (fun k q _ hq => hFc q.1 hq)
  have hP : va_P (dC, dI) classes (wD gD (kc r6, (fun _ => 0), (fun _ => 0), (fun _ => 0), (fun _ => 0), (fun _ => 0), (fun _ => 0), (fun _ => 0), 0, 0, 0, 0)) t.heap := hgD ▸ hRD.2
  generalize t.heap = H at hP hRD hS hk1 hz1 ⊢
  refine W.widen (k := 8) (n := 312) (by decide) (by decide) ?_
  refine lv_astore_n (lv' := [(1, .ref (gD.2.1 0)), (0, .ref b)]) hx hb d_L_law_12 rfl hl (by decide) rfl (fun ls hl => ?_)
  refine va_new (ci := 1) (fs := [.int 0, .null, .null]) (C := R_M) (T := F_M) (N := 3) hx hb htl i_M t_M t_M_ok hown (htl _ e_cl_M) (htl _ e_ins_M) (htl _ e_in_M) hK hP hD hS hA rfl (fun j hj => by rcases (show j = 0 ∨ j = 1 ∨ j = 2 by omega) with rfl | rfl | rfl <;> rfl) (Nat.le_of_ble_eq_true rfl) (Nat.le_of_ble_eq_true rfl) d_L_law_13 (fun qM H hP hD hS => ?_)
  refine W.widen (k := 9) (n := 315) (by decide) (by decide) ?_
  refine lv_dup hx hb d_L_law_16 rfl ?_
  refine lv_aload_n hx hb d_L_law_17 rfl (lv_at hl 1 rfl) ?_
  refine lv_iconst (v := nI 0) hx hb d_L_law_18 (by decide) ?_
  have hXH : va_X b L xs s H := hX.kept (hS.2.1 b hbl hbA)
  refine vp_callSi (W.runS (As := [.ref b, .int (nI 0)]) (rest := [.ref qM, .ref qM]) X (c_L_cell l (xs := xs) hL) (cwS 2 htl (good_S e_ml_L_L_cell e_im_L_cell e_in_L e_co_L_cell) rfl rfl rfl hd_L_cell ⟨Nat.le_of_ble_eq_true rfl, Nat.le_of_ble_eq_true rfl⟩) ⟨fun a U f9 mk q => ⟨q.1, va_X.moved (u := U) (Vm.Alike.refl U.vm) q.2⟩, fun U hU hW => ⟨rfl, by show va_X b L xs U U.heap; rw [hU]; exact va_X.moved hW.alike hXH⟩⟩ rfl rfl hl.1 rfl (lv_room (Nat.le_of_ble_eq_true rfl)) d_L_law_19 ⟨Nat.le_of_ble_eq_true rfl, Nat.le_of_ble_eq_true rfl⟩) (fun r19 hr19 => ?_)
  obtain rfl : r19 = r6 := hr19.trans er0.symm
  clear hr19
  have hPc := hP.sub (ws' := [(qM, .inr (1, [.int 0, .null, .null]))]) [8] rfl
  have hDc := hD.sub (ws' := [(qM, .inr (1, [.int 0, .null, .null]))]) [8] (by decide) rfl
  have hKc := hK.sub (tys' := []) [] rfl
  have hFc := va_free (wc := [(qM, .inr (1, [.int 0, .null, .null]))]) hD hS hA [8] rfl
  refine va_callv (va_runI (As := [.int r19]) (rest := [.ref qM]) X (c_M_init l dC dI qM H.size r19) (cwI 1 htl (good_cons e_co_M_init) rfl rfl rfl (htl _ e_in_M) (htl _ e_ml_L_M_init) (htl _ e_im_M_init) rfl (by decide +kernel) ⟨Nat.le_of_ble_eq_true rfl, Nat.le_of_ble_eq_true rfl⟩) ⟨fun a U f9 mk q => by obtain ⟨q0, q1, qP, qK, qD⟩ := q; exact ⟨q0, q1, qP, va_K.moved (u := U) (U := U.calling f9 mk a) (Vm.Alike.refl U.vm) qK, qD⟩, fun U hU hW => ⟨rfl, by rw [hU], by rw [hU]; exact hPc, va_K.moved hW.alike hKc, hDc.weaken (fun _ _ _ _ => trivial)⟩⟩ rfl rfl hl.1 rfl (lv_room (Nat.le_of_ble_eq_true rfl)) d_L_law_22 ⟨Nat.le_of_ble_eq_true rfl, Nat.le_of_ble_eq_true rfl⟩) hS (fun q _ h => hFc q h) hFc (fun gM t H1 locs ht hvm hw hB hz1 hk1 hS => ?_)
  obtain ⟨hgM, rfl⟩ := hw
  obtain ⟨hR1, hD1⟩ := hB
  subst ht
  obtain ⟨hP, hD⟩ := va_join (wr := wD gD (kc r19, (fun _ => 0), (fun _ => 0), (fun _ => 0), (fun _ => 0), (fun _ => 0), (fun _ => 0), (fun _ => 0), 0, 0, 0, 0)) (w1 := wM gM (kc r19, (fun _ => 0), (fun _ => 0))) hP hD [8] [0, 1, 2, 3, 4, 5, 6, 7] rfl rfl (by decide) (by decide) hk1 hFc (hgM ▸ hR1.2) hD1
  obtain ⟨N, hN1, hN, hkN⟩ := kc_ok r19
  have h : JW gD gM (fun q : Nat => s.heap.size ≤ q) s.heap (kc r19, (fun _ => 0), (fun _ => 0), (fun _ => 0), (fun _ => 0), (fun _ => 0), (fun _ => 0), (fun _ => 0), 0, 0, 0, 0) (kc r19, (fun _ => 0), (fun _ => 0)) s t.heap locs := ⟨hgM.trans hgD.symm, ⟨hRD.1, hgD ▸ hP.sub [0, 1, 2, 3, 4, 5, 6, 7] rfl⟩, ⟨va_K.moved hvm.symm hR1.1, hR1.2⟩, hD, hS⟩
  rw [hkN] at h
  refine W.widen (k := 11) (n := 425) (by decide) (by decide) ?_
  refine lv_astore_n (lv' := [(2, .ref (gM.2.1 0)), (1, .ref (gD.2.1 0)), (0, .ref b)]) hx hb d_L_law_25 rfl hl (by decide) rfl (fun ls hl => ?_)
  refine lv_iconst (v := nI 1) hx hb d_L_law_26 (by decide) ?_
  refine lv_istore_n (lv' := [(3, .int (nI 1)), (2, .ref (gM.2.1 0)), (1, .ref (gD.2.1 0)), (0, .ref b)]) hx hb d_L_law_27 rfl hl (by decide) rfl (fun ls hl => ?_)
  exact law_loop hL C0 hN L 1 _ _ _ _ _ _ _ _ _ _ _ _ _ _ _ _ _ _ _ (by omega) (by omega) (by omega) rel_0.1 rel_0.2.1 rel_0.2.2 h (lv_sub hl [3, 2, 1, 0] rfl)
end
section
set_option maxHeartbeats 4000000 in
theorem lw_walk (l : Launch) (b : Addr) (xs : List Int32) : MetFree l x (headSpec (Jvm.Cond.code x code maxLocals ret :: tables_1) room_1) (lw_P b xs) (fun _ _ _ _ _ => True) lw_Q := by
  refine MetFree.of_bodyS (code := code) (maxLocals := maxLocals) (ret := ret) (by decide) ?_ ?_
  · intro args s m h hn
    obtain ⟨meth, c, h1, h2, h3, h4, h5, h6, -, -⟩ := Cond.code_spec hn (atoms_spec (ws := Jvm.Cond.code x code maxLocals ret :: tables_1) h _ List.mem_cons_self)
    exact ⟨meth, c, h1, h2, h3, h4, h5, h6⟩
  · intro p e s m args below meth c s₁ B hml0 hP _
    obtain ⟨rfl, hx, hbd, hgv⟩ := hP
    obtain ⟨scr, harrAt, hlist, hof, hsmall⟩ := hx
    obtain ⟨hcb, hkn, -, -⟩ := State.arrayAt?_spec harrAt
    have hown : s.vm.findClass R_law = some m.cls := findClass_of_methodNamed B.named
    have hts0 : ∀ c ∈ (Jvm.Cond.code x code maxLocals ret :: tables_1), c.before #[Value.ref b] s = true := atoms_spec (ws := Jvm.Cond.code x code maxLocals ret :: tables_1) B.pre
    have hts : ∀ w ∈ lw_tbl, w.before #[Value.ref b] s = true := k2_hts_sels lw_privs (fun w hw => hts0 w (List.mem_cons_of_mem _ hw)) lw_privs_ok
    have hml : c.maxLocals = 4 := B.maxLocals_eq (hts0 _ List.mem_cons_self)
    have X₀ : Stand p l e room_1 s m #[Value.ref b] below meth c s₁ [] 0 0 := Stand.of_body B
    have hh0 : s₁.heap = s.heap := by rw [B.state]; rfl
    have hsz : scr.slots.size = xs.length := by rw [← Array.length_toList, hlist, List.length_map]
    have hval : ∀ j : Nat, j < xs.length → scr.slots[j]? = some (.int (xs.getD j 0)) := fun j hj => by
      rw [← Array.getElem?_toList, hlist]
      simp [hj]
    have hbl : b < s.heap.size := (Array.getElem?_eq_some_iff.mp hcb).1
    have hX : va_X b xs.length (fun j => xs.getD j 0) s s.heap := ⟨scr, hcb, hof, hkn, hsz, hval⟩
    have K : W p l e room_1 s m #[Value.ref b] below meth c s₁.heap [] 0 0 (lw_Z below #[Value.ref b] s) (entryFrame m ([Value.ref b] : List Value).toArray 4) := by
      rw [hh0]
      exact whole_start l hbd ⟨B.exec, B.bytes, B.returns, hml, hown, hts, hX, hbl, B.notSynchronized, hgv⟩
    obtain ⟨t, a1, o, b1, b2, b3⟩ := K s₁ rfl X₀
    exact ⟨t, o, a1, b1, b2, b3⟩
theorem lw_pre_spec {args : Array Value} {s : State} (h : (Jvm.Cond.and given_1 narrow_1).before args s = true) (hr : rest_1_c.before args s = true) : ∃ (b : Addr) (xs : List Int32), lw_P b xs args s := by
  have hs := flat_of_before _ h
  have hq := flat_of_before _ hr
  have hc : (Cond.count 1).before args s = true := hs _ (by decide +kernel)
  have harr : (Cond.arrayOf (.arg 0) .int).before args s = true := hs _ (by decide +kernel)
  have hle : (Cond.le (.length (.arg 0)) (.int 2049)).before args s = true := hs _ (by decide +kernel)
  have hlen : (Cond.isInt (.length (.arg 0))).before args s = true := hq _ (by decide +kernel)
  have hall : (Cond.all (.arg 0) (.isInt (.elem (.arg 0) (.index 0)))).before args s = true := hq _ (by decide +kernel)
  obtain ⟨b, xs, hb, hx⟩ := State.ints_of_pre rfl harr hlen hall
  have hsm : xs.length < 2 ^ 31 := hx.choose_spec.2.2.2
  have hev : (Term.length (.arg 0)).eval args s none [] s = some (.int xs.length.toInt32) := hx.length_eval hb
  have hv := Cond.le_ints hev (show (Term.int 2049).eval args s none [] s = some (.int 2049) from rfl)
  have hd : xs.length.toInt32 ≤ 2049 := by
    simpa [Cond.before, Cond.holds, hv] using hle
  have hN : xs.length ≤ 2049 := (Int32.ofNat_le_ofNat hsm (by decide)).mp (show Int32.ofNat xs.length ≤ Int32.ofNat 2049 from hd)
  exact ⟨b, xs, Cond.one_arg hc (show args[0]? = some (.ref b) from hb), hx, hN, h⟩
theorem lw_comes (l : Launch) : Comes l x (Jvm.Cond.code x code maxLocals ret :: tables_1) room_1 (fun tb e args s => Calls_1 tb e args s ∧ rest_1 tb e args s ∧ Pre_1 tb e args s)
    (fun _ _ args s o t => lw_Q args s o t) := by
  intro p e ha hc hk s m args below hf hfit hheap happ hpre
  obtain ⟨b, xs, hP⟩ := lw_pre_spec hpre.2.2 hpre.2.1
  obtain ⟨k, o, h1, h2, h3, hQ⟩ := lw_walk l b xs p e ha hc hk s m args below hf ((Spec.applies_iff_loose hf).mp happ).1 hP trivial
  exact ⟨k, o, h1, h2, h3, hQ⟩
theorem lw_frame {s t : State} {o : Outcome} {args : Array Value} (h : Framed s o t [] 11 425) :
    Framed s o t (fieldLocs frame_1_writes args s ++ arrayLocs frame_1_arrays args s ++ staticLocs frame_1_statics s) 11 425 := h
theorem lw_limb (L : Cond) (hL : ∀ (args : Array Value) (s t : State), L.after args s (.returned (some (.int 1))) t = true) :
    ArmFor flags0 classFile x code maxLocals ret World_1 tables_1 room_1 Calls_1 rest_1 Pre_1
      (fun tb e a s o t => postC L tb e a s o t ∧ Framed s o t (fieldLocs frame_1_writes a s ++ arrayLocs frame_1_arrays a s ++ staticLocs frame_1_statics s) 11 425) := by
  intro l _ _ _ p e ha hc hk s m args below hf hfit hheap happ hpre
  obtain ⟨k, o, h1, h2, h3, rfl, hF⟩ := lw_comes l p e ha hc hk s m args below hf hfit hheap happ hpre
  exact ⟨k, _, h1, h2, h3, hL args s _, lw_frame hF⟩
theorem i_vc : Claimed_1_1 ∧ Claimed_1_2 := ⟨lw_limb limb_1_1 (fun args s t => by simp [limb_1_1, Cond.after, Cond.holds, Cond.value]), lw_limb limb_1_2 (fun args s t => Cond.after_iff.mpr (by
  first | (rw [show limb_1_2 = Cond.eq .result (.int 1) from rfl, Cond.eq_ints (x := 1) (y := 1) rfl rfl]; simp; done) | (simp [limb_1_2, Cond.value, Term.eval]; done)))⟩
end
