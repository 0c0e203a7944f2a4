section
-- ===== PART A: goes FIRST, ahead of the names: the tables' words, and 'selects' of the private methods out of them =====
/-- a private method of a class that the tables say can be made, by its rows of tables_1 -/
def lw_okq (q : MethodName × Nat) : Prop := (q.1.cls ≠ "java/lang/invoke/MethodHandle" ∧ q.1.cls ≠ "java/lang/invoke/VarHandle") ∧ Cond.instantiable q.1.cls q.2 ∈ tables_1 ∧ Cond.privateMethod q.1 ∈ tables_1 ∧ Cond.instanceMethod q.1 ∈ tables_1
theorem lw_p0 : lw_okq (⟨"BitSerialMachine", "loadConstant", "(II)V"⟩, 15) := ⟨⟨by decide +kernel, by decide +kernel⟩, List.mem_of_getElem? (i := 4) (by decide +kernel), List.mem_of_getElem? (i := 72) (by decide +kernel), List.mem_of_getElem? (i := 73) (by decide +kernel)⟩
theorem lw_p1 : lw_okq (⟨"BitSerialMachine", "widen", "(II)V"⟩, 15) := ⟨⟨by decide +kernel, by decide +kernel⟩, List.mem_of_getElem? (i := 4) (by decide +kernel), List.mem_of_getElem? (i := 76) (by decide +kernel), List.mem_of_getElem? (i := 77) (by decide +kernel)⟩
theorem lw_p2 : lw_okq (⟨"BitSerialMachine", "keepFresh", "(I)V"⟩, 15) := ⟨⟨by decide +kernel, by decide +kernel⟩, List.mem_of_getElem? (i := 4) (by decide +kernel), List.mem_of_getElem? (i := 80) (by decide +kernel), List.mem_of_getElem? (i := 81) (by decide +kernel)⟩
theorem lw_p3 : lw_okq (⟨"BitSerialMachine", "unsigned", "(I)I"⟩, 15) := ⟨⟨by decide +kernel, by decide +kernel⟩, List.mem_of_getElem? (i := 4) (by decide +kernel), List.mem_of_getElem? (i := 88) (by decide +kernel), List.mem_of_getElem? (i := 89) (by decide +kernel)⟩
theorem lw_p4 : lw_okq (⟨"BitSerialMachine", "carryOut", "(I)V"⟩, 15) := ⟨⟨by decide +kernel, by decide +kernel⟩, List.mem_of_getElem? (i := 4) (by decide +kernel), List.mem_of_getElem? (i := 102) (by decide +kernel), List.mem_of_getElem? (i := 103) (by decide +kernel)⟩
theorem lw_p5 : lw_okq (⟨"BitSerialMachine", "isZero", "(I)Z"⟩, 15) := ⟨⟨by decide +kernel, by decide +kernel⟩, List.mem_of_getElem? (i := 4) (by decide +kernel), List.mem_of_getElem? (i := 106) (by decide +kernel), List.mem_of_getElem? (i := 107) (by decide +kernel)⟩
theorem lw_p6 : lw_okq (⟨"BitSerialMachine", "translate", "(I)V"⟩, 15) := ⟨⟨by decide +kernel, by decide +kernel⟩, List.mem_of_getElem? (i := 4) (by decide +kernel), List.mem_of_getElem? (i := 110) (by decide +kernel), List.mem_of_getElem? (i := 111) (by decide +kernel)⟩
theorem lw_p7 : lw_okq (⟨"BitSerialMachine", "step", "(IIIII)V"⟩, 15) := ⟨⟨by decide +kernel, by decide +kernel⟩, List.mem_of_getElem? (i := 4) (by decide +kernel), List.mem_of_getElem? (i := 114) (by decide +kernel), List.mem_of_getElem? (i := 115) (by decide +kernel)⟩
theorem lw_p8 : lw_okq (⟨"BitSerialMachine", "product", "(II)V"⟩, 15) := ⟨⟨by decide +kernel, by decide +kernel⟩, List.mem_of_getElem? (i := 4) (by decide +kernel), List.mem_of_getElem? (i := 118) (by decide +kernel), List.mem_of_getElem? (i := 119) (by decide +kernel)⟩
theorem lw_p9 : lw_okq (⟨"BitSerialMachine", "quotient", "(II)V"⟩, 15) := ⟨⟨by decide +kernel, by decide +kernel⟩, List.mem_of_getElem? (i := 4) (by decide +kernel), List.mem_of_getElem? (i := 122) (by decide +kernel), List.mem_of_getElem? (i := 123) (by decide +kernel)⟩
theorem lw_p10 : lw_okq (⟨"BitSerialMachine", "amount", "(II)V"⟩, 15) := ⟨⟨by decide +kernel, by decide +kernel⟩, List.mem_of_getElem? (i := 4) (by decide +kernel), List.mem_of_getElem? (i := 126) (by decide +kernel), List.mem_of_getElem? (i := 127) (by decide +kernel)⟩
theorem lw_p11 : lw_okq (⟨"BitSerialMachine", "finishQuotient", "(IIII)V"⟩, 15) := ⟨⟨by decide +kernel, by decide +kernel⟩, List.mem_of_getElem? (i := 4) (by decide +kernel), List.mem_of_getElem? (i := 130) (by decide +kernel), List.mem_of_getElem? (i := 131) (by decide +kernel)⟩
theorem lw_p12 : lw_okq (⟨"BitSerialMachine", "comparison", "(IIII)V"⟩, 15) := ⟨⟨by decide +kernel, by decide +kernel⟩, List.mem_of_getElem? (i := 4) (by decide +kernel), List.mem_of_getElem? (i := 134) (by decide +kernel), List.mem_of_getElem? (i := 135) (by decide +kernel)⟩
theorem lw_p13 : lw_okq (⟨"BitSerialMachine", "root", "(I)V"⟩, 15) := ⟨⟨by decide +kernel, by decide +kernel⟩, List.mem_of_getElem? (i := 4) (by decide +kernel), List.mem_of_getElem? (i := 138) (by decide +kernel), List.mem_of_getElem? (i := 139) (by decide +kernel)⟩
theorem lw_p14 : lw_okq (⟨"BitSerialMachine", "countOnes", "(I)V"⟩, 15) := ⟨⟨by decide +kernel, by decide +kernel⟩, List.mem_of_getElem? (i := 4) (by decide +kernel), List.mem_of_getElem? (i := 142) (by decide +kernel), List.mem_of_getElem? (i := 143) (by decide +kernel)⟩
theorem lw_p15 : lw_okq (⟨"BitSerialMachine", "performAll", "()V"⟩, 15) := ⟨⟨by decide +kernel, by decide +kernel⟩, List.mem_of_getElem? (i := 4) (by decide +kernel), List.mem_of_getElem? (i := 146) (by decide +kernel), List.mem_of_getElem? (i := 147) (by decide +kernel)⟩
def lw_privs_1 : List (MethodName × Nat) := [(⟨"BitSerialMachine", "loadConstant", "(II)V"⟩, 15), (⟨"BitSerialMachine", "widen", "(II)V"⟩, 15), (⟨"BitSerialMachine", "keepFresh", "(I)V"⟩, 15), (⟨"BitSerialMachine", "unsigned", "(I)I"⟩, 15), (⟨"BitSerialMachine", "carryOut", "(I)V"⟩, 15), (⟨"BitSerialMachine", "isZero", "(I)Z"⟩, 15), (⟨"BitSerialMachine", "translate", "(I)V"⟩, 15), (⟨"BitSerialMachine", "step", "(IIIII)V"⟩, 15), (⟨"BitSerialMachine", "product", "(II)V"⟩, 15), (⟨"BitSerialMachine", "quotient", "(II)V"⟩, 15), (⟨"BitSerialMachine", "amount", "(II)V"⟩, 15), (⟨"BitSerialMachine", "finishQuotient", "(IIII)V"⟩, 15), (⟨"BitSerialMachine", "comparison", "(IIII)V"⟩, 15), (⟨"BitSerialMachine", "root", "(I)V"⟩, 15), (⟨"BitSerialMachine", "countOnes", "(I)V"⟩, 15), (⟨"BitSerialMachine", "performAll", "()V"⟩, 15)]
theorem lw_r1 : ∀ q ∈ lw_privs_1, lw_okq q := List.forall_mem_cons.mpr ⟨lw_p0, List.forall_mem_cons.mpr ⟨lw_p1, List.forall_mem_cons.mpr ⟨lw_p2, List.forall_mem_cons.mpr ⟨lw_p3, List.forall_mem_cons.mpr ⟨lw_p4, List.forall_mem_cons.mpr ⟨lw_p5, List.forall_mem_cons.mpr ⟨lw_p6, List.forall_mem_cons.mpr ⟨lw_p7, List.forall_mem_cons.mpr ⟨lw_p8, List.forall_mem_cons.mpr ⟨lw_p9, List.forall_mem_cons.mpr ⟨lw_p10, List.forall_mem_cons.mpr ⟨lw_p11, List.forall_mem_cons.mpr ⟨lw_p12, List.forall_mem_cons.mpr ⟨lw_p13, List.forall_mem_cons.mpr ⟨lw_p14, List.forall_mem_cons.mpr ⟨lw_p15, fun _ h => absurd h List.not_mem_nil⟩⟩⟩⟩⟩⟩⟩⟩⟩⟩⟩⟩⟩⟩⟩⟩
theorem lw_p16 : lw_okq (⟨"BitSerialMachine", "perform", "(I)Z"⟩, 15) := ⟨⟨by decide +kernel, by decide +kernel⟩, List.mem_of_getElem? (i := 4) (by decide +kernel), List.mem_of_getElem? (i := 150) (by decide +kernel), List.mem_of_getElem? (i := 151) (by decide +kernel)⟩
theorem lw_p17 : lw_okq (⟨"BitSerialMachine", "shift", "(III)V"⟩, 15) := ⟨⟨by decide +kernel, by decide +kernel⟩, List.mem_of_getElem? (i := 4) (by decide +kernel), List.mem_of_getElem? (i := 154) (by decide +kernel), List.mem_of_getElem? (i := 155) (by decide +kernel)⟩
theorem lw_p18 : lw_okq (⟨"BitSerialMachine", "lowHalf", "(II)V"⟩, 15) := ⟨⟨by decide +kernel, by decide +kernel⟩, List.mem_of_getElem? (i := 4) (by decide +kernel), List.mem_of_getElem? (i := 158) (by decide +kernel), List.mem_of_getElem? (i := 159) (by decide +kernel)⟩
theorem lw_p19 : lw_okq (⟨"BitSerialMachine", "addSerially", "(IIIZ)V"⟩, 15) := ⟨⟨by decide +kernel, by decide +kernel⟩, List.mem_of_getElem? (i := 4) (by decide +kernel), List.mem_of_getElem? (i := 162) (by decide +kernel), List.mem_of_getElem? (i := 163) (by decide +kernel)⟩
theorem lw_p20 : lw_okq (⟨"BitSerialMachine", "combine", "(IIII)V"⟩, 15) := ⟨⟨by decide +kernel, by decide +kernel⟩, List.mem_of_getElem? (i := 4) (by decide +kernel), List.mem_of_getElem? (i := 166) (by decide +kernel), List.mem_of_getElem? (i := 167) (by decide +kernel)⟩
theorem lw_p21 : lw_okq (⟨"BitSerialMachineModel", "carryOut", "(I)V"⟩, 7) := ⟨⟨by decide +kernel, by decide +kernel⟩, List.mem_of_getElem? (i := 178) (by decide +kernel), List.mem_of_getElem? (i := 235) (by decide +kernel), List.mem_of_getElem? (i := 236) (by decide +kernel)⟩
theorem lw_p22 : lw_okq (⟨"BitSerialMachineModel", "result", "(I)I"⟩, 7) := ⟨⟨by decide +kernel, by decide +kernel⟩, List.mem_of_getElem? (i := 178) (by decide +kernel), List.mem_of_getElem? (i := 239) (by decide +kernel), List.mem_of_getElem? (i := 240) (by decide +kernel)⟩
def lw_privs_2 : List (MethodName × Nat) := [(⟨"BitSerialMachine", "perform", "(I)Z"⟩, 15), (⟨"BitSerialMachine", "shift", "(III)V"⟩, 15), (⟨"BitSerialMachine", "lowHalf", "(II)V"⟩, 15), (⟨"BitSerialMachine", "addSerially", "(IIIZ)V"⟩, 15), (⟨"BitSerialMachine", "combine", "(IIII)V"⟩, 15), (⟨"BitSerialMachineModel", "carryOut", "(I)V"⟩, 7), (⟨"BitSerialMachineModel", "result", "(I)I"⟩, 7)]
theorem lw_r2 : ∀ q ∈ lw_privs_2, lw_okq q := List.forall_mem_cons.mpr ⟨lw_p16, List.forall_mem_cons.mpr ⟨lw_p17, List.forall_mem_cons.mpr ⟨lw_p18, List.forall_mem_cons.mpr ⟨lw_p19, List.forall_mem_cons.mpr ⟨lw_p20, List.forall_mem_cons.mpr ⟨lw_p21, List.forall_mem_cons.mpr ⟨lw_p22, fun _ h => absurd h List.not_mem_nil⟩⟩⟩⟩⟩⟩⟩
def lw_privs : List (MethodName × Nat) := lw_privs_1 ++ (lw_privs_2)
def lw_tbl : List Cond := k2_sels lw_privs ++ tables_1
theorem lw_privs_ok : ∀ q ∈ lw_privs, lw_okq q := by
  show ∀ q ∈ lw_privs_1 ++ (lw_privs_2), lw_okq q
  exact List.forall_mem_append.mpr ⟨lw_r1, lw_r2⟩
def mt_tbl : List Cond := lw_tbl.filter goodWord
theorem mt_in {w : Cond} (h : w ∈ lw_tbl) (g : goodWord w = true) : w ∈ mt_tbl := List.mem_filter.mpr ⟨h, g⟩
theorem mt_sub {w : Cond} (h : w ∈ mt_tbl) : w ∈ lw_tbl := (List.mem_filter.mp h).1
theorem mt_gi {ws : List Cond} (h : ∀ w ∈ ws, w ∈ mt_tbl) : GoodIn mt_tbl ws := fun w hw => ⟨h w hw, good_of_word (List.mem_filter.mp (h w hw)).2⟩
def R_M : String := "BitSerialMachine"
def R_T : String := "BitSerialMachineModel"
def R_L : String := "BitSerialMachineLaw"
def F_M : u_T := fun k => match k with
  | 0 => ("BitSerialMachine", "lines", "I", false)
  | 1 => ("BitSerialMachine", "nextLine", "I", false)
  | 2 => ("BitSerialMachine", "opOf", "[I", true)
  | 3 => ("BitSerialMachine", "dstOf", "[I", true)
  | 4 => ("BitSerialMachine", "aOf", "[I", true)
  | 5 => ("BitSerialMachine", "bOf", "[I", true)
  | 6 => ("BitSerialMachine", "bit", "[Z", true)
  | 7 => ("BitSerialMachine", "fresh", "[Z", true)
  | 8 => ("BitSerialMachine", "latch", "Z", false)
  | 9 => ("BitSerialMachine", "steps", "I", false)
  | 10 => ("BitSerialMachine", "kind", "[I", true)
  | 11 => ("BitSerialMachine", "to", "[I", true)
  | 12 => ("BitSerialMachine", "from", "[I", true)
  | 13 => ("BitSerialMachine", "other", "[I", true)
  | _ => ("BitSerialMachine", "skip", "[I", true)
def ft_M : Nat → FieldType := fun k => match k with
  | 0 => .int
  | 1 => .int
  | 2 => .array .int
  | 3 => .array .int
  | 4 => .array .int
  | 5 => .array .int
  | 6 => .array .boolean
  | 7 => .array .boolean
  | 8 => .boolean
  | 9 => .int
  | 10 => .array .int
  | 11 => .array .int
  | 12 => .array .int
  | 13 => .array .int
  | _ => .array .int
theorem fn_M : ∀ a, a < 15 → ∀ b, b < 15 → a ≠ b → (F_M a).2.1 ≠ (F_M b).2.1 := by decide +kernel
theorem ft_M_ok : ∀ k, k < 15 → parseFieldDescriptor (F_M k).2.2.1 = some (ft_M k) := by decide +kernel
theorem fi_M : ∀ w ∈ u_ws R_M F_M 15, w ∈ mt_tbl := by decide +kernel
def F_T : u_T := fun k => match k with
  | 0 => ("BitSerialMachineModel", "variable", "[I", true)
  | 1 => ("BitSerialMachineModel", "lines", "I", false)
  | 2 => ("BitSerialMachineModel", "op", "[I", true)
  | 3 => ("BitSerialMachineModel", "dst", "[I", true)
  | 4 => ("BitSerialMachineModel", "left", "[I", true)
  | 5 => ("BitSerialMachineModel", "right", "[I", true)
  | _ => ("BitSerialMachineModel", "next", "I", false)
def ft_T : Nat → FieldType := fun k => match k with
  | 0 => .array .int
  | 1 => .int
  | 2 => .array .int
  | 3 => .array .int
  | 4 => .array .int
  | 5 => .array .int
  | _ => .int
theorem fn_T : ∀ a, a < 7 → ∀ b, b < 7 → a ≠ b → (F_T a).2.1 ≠ (F_T b).2.1 := by decide +kernel
theorem ft_T_ok : ∀ k, k < 7 → parseFieldDescriptor (F_T k).2.2.1 = some (ft_T k) := by decide +kernel
theorem fi_T : ∀ w ∈ u_ws R_T F_T 7, w ∈ mt_tbl := by decide +kernel
abbrev classes : List vw_C := [(R_M, F_M, 15), (R_T, F_T, 7)]
abbrev b_M_init : ByteArray := prog_1_method_1_code
def y_M_init : MethodName := ⟨R_M, "<init>", "()V"⟩
abbrev w_M_init : List Cond := .code y_M_init b_M_init 1 none :: mt_tbl
theorem wc_M_init : Cond.code y_M_init b_M_init 1 none ∈ mt_tbl := mt_in (List.mem_of_getElem? (i := 30) rfl) rfl
abbrev b_M_emit : ByteArray := prog_1_method_2_code
def y_M_emit : MethodName := ⟨R_M, "emit", "(IIII)I"⟩
abbrev w_M_emit : List Cond := .code y_M_emit b_M_emit 5 (some .int) :: mt_tbl
theorem wc_M_emit : Cond.code y_M_emit b_M_emit 5 (some .int) ∈ mt_tbl := mt_in (List.mem_of_getElem? (i := 85) rfl) rfl
abbrev b_M_clear : ByteArray := prog_1_method_3_code
def y_M_clear : MethodName := ⟨R_M, "clear", "()V"⟩
abbrev w_M_clear : List Cond := .code y_M_clear b_M_clear 1 none :: mt_tbl
theorem wc_M_clear : Cond.code y_M_clear b_M_clear 1 none ∈ mt_tbl := mt_in (List.mem_of_getElem? (i := 89) rfl) rfl
abbrev b_M_set : ByteArray := prog_1_method_4_code
def y_M_set : MethodName := ⟨R_M, "set", "(II)V"⟩
abbrev w_M_set : List Cond := .code y_M_set b_M_set 3 none :: mt_tbl
theorem wc_M_set : Cond.code y_M_set b_M_set 3 none ∈ mt_tbl := mt_in (List.mem_of_getElem? (i := 93) rfl) rfl
abbrev b_M_loadConstant : ByteArray := prog_1_method_24_code
def y_M_loadConstant : MethodName := ⟨R_M, "loadConstant", "(II)V"⟩
abbrev w_M_loadConstant : List Cond := .code y_M_loadConstant b_M_loadConstant 4 none :: mt_tbl
theorem wc_M_loadConstant : Cond.code y_M_loadConstant b_M_loadConstant 4 none ∈ mt_tbl := mt_in (List.mem_of_getElem? (i := 97) rfl) rfl
abbrev b_M_widen : ByteArray := prog_1_method_27_code
def y_M_widen : MethodName := ⟨R_M, "widen", "(II)V"⟩
abbrev w_M_widen : List Cond := .code y_M_widen b_M_widen 4 none :: mt_tbl
theorem wc_M_widen : Cond.code y_M_widen b_M_widen 4 none ∈ mt_tbl := mt_in (List.mem_of_getElem? (i := 101) rfl) rfl
abbrev b_M_keepFresh : ByteArray := prog_1_method_25_code
def y_M_keepFresh : MethodName := ⟨R_M, "keepFresh", "(I)V"⟩
abbrev w_M_keepFresh : List Cond := .code y_M_keepFresh b_M_keepFresh 3 none :: mt_tbl
theorem wc_M_keepFresh : Cond.code y_M_keepFresh b_M_keepFresh 3 none ∈ mt_tbl := mt_in (List.mem_of_getElem? (i := 105) rfl) rfl
abbrev b_M_get : ByteArray := prog_1_method_5_code
def y_M_get : MethodName := ⟨R_M, "get", "(I)I"⟩
abbrev w_M_get : List Cond := .code y_M_get b_M_get 3 (some .int) :: mt_tbl
theorem wc_M_get : Cond.code y_M_get b_M_get 3 (some .int) ∈ mt_tbl := mt_in (List.mem_of_getElem? (i := 109) rfl) rfl
abbrev b_M_unsigned : ByteArray := prog_1_method_10_code
def y_M_unsigned : MethodName := ⟨R_M, "unsigned", "(I)I"⟩
abbrev w_M_unsigned : List Cond := .code y_M_unsigned b_M_unsigned 4 (some .int) :: mt_tbl
theorem wc_M_unsigned : Cond.code y_M_unsigned b_M_unsigned 4 (some .int) ∈ mt_tbl := mt_in (List.mem_of_getElem? (i := 113) rfl) rfl
abbrev b_M_rewind : ByteArray := prog_1_method_6_code
def y_M_rewind : MethodName := ⟨R_M, "rewind", "()V"⟩
abbrev w_M_rewind : List Cond := .code y_M_rewind b_M_rewind 1 none :: mt_tbl
theorem wc_M_rewind : Cond.code y_M_rewind b_M_rewind 1 none ∈ mt_tbl := mt_in (List.mem_of_getElem? (i := 119) rfl) rfl
abbrev b_M_run : ByteArray := prog_1_method_7_code
def y_M_run : MethodName := ⟨R_M, "run", "(I)I"⟩
abbrev w_M_run : List Cond := .code y_M_run b_M_run 5 (some .int) :: mt_tbl
theorem wc_M_run : Cond.code y_M_run b_M_run 5 (some .int) ∈ mt_tbl := mt_in (List.mem_of_getElem? (i := 123) rfl) rfl
abbrev b_M_carryOut : ByteArray := prog_1_method_11_code
def y_M_carryOut : MethodName := ⟨R_M, "carryOut", "(I)V"⟩
abbrev w_M_carryOut : List Cond := .code y_M_carryOut b_M_carryOut 6 none :: mt_tbl
theorem wc_M_carryOut : Cond.code y_M_carryOut b_M_carryOut 6 none ∈ mt_tbl := mt_in (List.mem_of_getElem? (i := 127) rfl) rfl
abbrev b_M_isZero : ByteArray := prog_1_method_23_code
def y_M_isZero : MethodName := ⟨R_M, "isZero", "(I)Z"⟩
abbrev w_M_isZero : List Cond := .code y_M_isZero b_M_isZero 3 (some .boolean) :: mt_tbl
theorem wc_M_isZero : Cond.code y_M_isZero b_M_isZero 3 (some .boolean) ∈ mt_tbl := mt_in (List.mem_of_getElem? (i := 131) rfl) rfl
abbrev b_M_translate : ByteArray := prog_1_method_13_code
def y_M_translate : MethodName := ⟨R_M, "translate", "(I)V"⟩
abbrev w_M_translate : List Cond := .code y_M_translate b_M_translate 7 none :: mt_tbl
theorem wc_M_translate : Cond.code y_M_translate b_M_translate 7 none ∈ mt_tbl := mt_in (List.mem_of_getElem? (i := 135) rfl) rfl
abbrev b_M_step : ByteArray := prog_1_method_12_code
def y_M_step : MethodName := ⟨R_M, "step", "(IIIII)V"⟩
abbrev w_M_step : List Cond := .code y_M_step b_M_step 6 none :: mt_tbl
theorem wc_M_step : Cond.code y_M_step b_M_step 6 none ∈ mt_tbl := mt_in (List.mem_of_getElem? (i := 139) rfl) rfl
abbrev b_M_product : ByteArray := prog_1_method_14_code
def y_M_product : MethodName := ⟨R_M, "product", "(II)V"⟩
abbrev w_M_product : List Cond := .code y_M_product b_M_product 4 none :: mt_tbl
theorem wc_M_product : Cond.code y_M_product b_M_product 4 none ∈ mt_tbl := mt_in (List.mem_of_getElem? (i := 143) rfl) rfl
abbrev b_M_quotient : ByteArray := prog_1_method_16_code
def y_M_quotient : MethodName := ⟨R_M, "quotient", "(II)V"⟩
abbrev w_M_quotient : List Cond := .code y_M_quotient b_M_quotient 4 none :: mt_tbl
theorem wc_M_quotient : Cond.code y_M_quotient b_M_quotient 4 none ∈ mt_tbl := mt_in (List.mem_of_getElem? (i := 147) rfl) rfl
abbrev b_M_amount : ByteArray := prog_1_method_15_code
def y_M_amount : MethodName := ⟨R_M, "amount", "(II)V"⟩
abbrev w_M_amount : List Cond := .code y_M_amount b_M_amount 3 none :: mt_tbl
theorem wc_M_amount : Cond.code y_M_amount b_M_amount 3 none ∈ mt_tbl := mt_in (List.mem_of_getElem? (i := 151) rfl) rfl
abbrev b_M_finishQuotient : ByteArray := prog_1_method_17_code
def y_M_finishQuotient : MethodName := ⟨R_M, "finishQuotient", "(IIII)V"⟩
abbrev w_M_finishQuotient : List Cond := .code y_M_finishQuotient b_M_finishQuotient 5 none :: mt_tbl
theorem wc_M_finishQuotient : Cond.code y_M_finishQuotient b_M_finishQuotient 5 none ∈ mt_tbl := mt_in (List.mem_of_getElem? (i := 155) rfl) rfl
abbrev b_M_comparison : ByteArray := prog_1_method_18_code
def y_M_comparison : MethodName := ⟨R_M, "comparison", "(IIII)V"⟩
abbrev w_M_comparison : List Cond := .code y_M_comparison b_M_comparison 5 none :: mt_tbl
theorem wc_M_comparison : Cond.code y_M_comparison b_M_comparison 5 none ∈ mt_tbl := mt_in (List.mem_of_getElem? (i := 159) rfl) rfl
abbrev b_M_root : ByteArray := prog_1_method_19_code
def y_M_root : MethodName := ⟨R_M, "root", "(I)V"⟩
abbrev w_M_root : List Cond := .code y_M_root b_M_root 3 none :: mt_tbl
theorem wc_M_root : Cond.code y_M_root b_M_root 3 none ∈ mt_tbl := mt_in (List.mem_of_getElem? (i := 163) rfl) rfl
abbrev b_M_countOnes : ByteArray := prog_1_method_20_code
def y_M_countOnes : MethodName := ⟨R_M, "countOnes", "(I)V"⟩
abbrev w_M_countOnes : List Cond := .code y_M_countOnes b_M_countOnes 3 none :: mt_tbl
theorem wc_M_countOnes : Cond.code y_M_countOnes b_M_countOnes 3 none ∈ mt_tbl := mt_in (List.mem_of_getElem? (i := 167) rfl) rfl
abbrev b_M_performAll : ByteArray := prog_1_method_21_code
def y_M_performAll : MethodName := ⟨R_M, "performAll", "()V"⟩
abbrev w_M_performAll : List Cond := .code y_M_performAll b_M_performAll 4 none :: mt_tbl
theorem wc_M_performAll : Cond.code y_M_performAll b_M_performAll 4 none ∈ mt_tbl := mt_in (List.mem_of_getElem? (i := 171) rfl) rfl
abbrev b_M_perform : ByteArray := prog_1_method_22_code
def y_M_perform : MethodName := ⟨R_M, "perform", "(I)Z"⟩
abbrev w_M_perform : List Cond := .code y_M_perform b_M_perform 3 (some .boolean) :: mt_tbl
theorem wc_M_perform : Cond.code y_M_perform b_M_perform 3 (some .boolean) ∈ mt_tbl := mt_in (List.mem_of_getElem? (i := 175) rfl) rfl
abbrev b_M_shift : ByteArray := prog_1_method_26_code
def y_M_shift : MethodName := ⟨R_M, "shift", "(III)V"⟩
abbrev w_M_shift : List Cond := .code y_M_shift b_M_shift 6 none :: mt_tbl
theorem wc_M_shift : Cond.code y_M_shift b_M_shift 6 none ∈ mt_tbl := mt_in (List.mem_of_getElem? (i := 179) rfl) rfl
abbrev b_M_lowHalf : ByteArray := prog_1_method_28_code
def y_M_lowHalf : MethodName := ⟨R_M, "lowHalf", "(II)V"⟩
abbrev w_M_lowHalf : List Cond := .code y_M_lowHalf b_M_lowHalf 4 none :: mt_tbl
theorem wc_M_lowHalf : Cond.code y_M_lowHalf b_M_lowHalf 4 none ∈ mt_tbl := mt_in (List.mem_of_getElem? (i := 183) rfl) rfl
abbrev b_M_addSerially : ByteArray := prog_1_method_29_code
def y_M_addSerially : MethodName := ⟨R_M, "addSerially", "(IIIZ)V"⟩
abbrev w_M_addSerially : List Cond := .code y_M_addSerially b_M_addSerially 10 none :: mt_tbl
theorem wc_M_addSerially : Cond.code y_M_addSerially b_M_addSerially 10 none ∈ mt_tbl := mt_in (List.mem_of_getElem? (i := 187) rfl) rfl
abbrev b_M_combine : ByteArray := prog_1_method_30_code
def y_M_combine : MethodName := ⟨R_M, "combine", "(IIII)V"⟩
abbrev w_M_combine : List Cond := .code y_M_combine b_M_combine 8 none :: mt_tbl
theorem wc_M_combine : Cond.code y_M_combine b_M_combine 8 none ∈ mt_tbl := mt_in (List.mem_of_getElem? (i := 191) rfl) rfl
abbrev b_M_next : ByteArray := prog_1_method_8_code
def y_M_next : MethodName := ⟨R_M, "next", "()I"⟩
abbrev w_M_next : List Cond := .code y_M_next b_M_next 1 (some .int) :: mt_tbl
theorem wc_M_next : Cond.code y_M_next b_M_next 1 (some .int) ∈ mt_tbl := mt_in (List.mem_of_getElem? (i := 195) rfl) rfl
abbrev b_M_total : ByteArray := prog_1_method_9_code
def y_M_total : MethodName := ⟨R_M, "total", "()I"⟩
abbrev w_M_total : List Cond := .code y_M_total b_M_total 3 (some .int) :: mt_tbl
theorem wc_M_total : Cond.code y_M_total b_M_total 3 (some .int) ∈ mt_tbl := mt_in (List.mem_of_getElem? (i := 199) rfl) rfl
abbrev b_T_init : ByteArray := prog_3_method_1_code
def y_T_init : MethodName := ⟨R_T, "<init>", "()V"⟩
abbrev w_T_init : List Cond := .code y_T_init b_T_init 1 none :: mt_tbl
theorem wc_T_init : Cond.code y_T_init b_T_init 1 none ∈ mt_tbl := mt_in (List.mem_of_getElem? (i := 204) rfl) rfl
abbrev b_T_emit : ByteArray := prog_3_method_2_code
def y_T_emit : MethodName := ⟨R_T, "emit", "(IIII)I"⟩
abbrev w_T_emit : List Cond := .code y_T_emit b_T_emit 5 (some .int) :: mt_tbl
theorem wc_T_emit : Cond.code y_T_emit b_T_emit 5 (some .int) ∈ mt_tbl := mt_in (List.mem_of_getElem? (i := 231) rfl) rfl
abbrev b_T_clear : ByteArray := prog_3_method_3_code
def y_T_clear : MethodName := ⟨R_T, "clear", "()V"⟩
abbrev w_T_clear : List Cond := .code y_T_clear b_T_clear 1 none :: mt_tbl
theorem wc_T_clear : Cond.code y_T_clear b_T_clear 1 none ∈ mt_tbl := mt_in (List.mem_of_getElem? (i := 235) rfl) rfl
abbrev b_T_set : ByteArray := prog_3_method_6_code
def y_T_set : MethodName := ⟨R_T, "set", "(II)V"⟩
abbrev w_T_set : List Cond := .code y_T_set b_T_set 3 none :: mt_tbl
theorem wc_T_set : Cond.code y_T_set b_T_set 3 none ∈ mt_tbl := mt_in (List.mem_of_getElem? (i := 239) rfl) rfl
abbrev b_T_wrapped : ByteArray := prog_3_method_4_code
def y_T_wrapped : MethodName := ⟨R_T, "wrapped", "(I)I"⟩
abbrev w_T_wrapped : List Cond := .code y_T_wrapped b_T_wrapped 2 (some .int) :: mt_tbl
theorem wc_T_wrapped : Cond.code y_T_wrapped b_T_wrapped 2 (some .int) ∈ mt_tbl := mt_in (List.mem_of_getElem? (i := 242) rfl) rfl
abbrev b_T_get : ByteArray := prog_3_method_7_code
def y_T_get : MethodName := ⟨R_T, "get", "(I)I"⟩
abbrev w_T_get : List Cond := .code y_T_get b_T_get 2 (some .int) :: mt_tbl
theorem wc_T_get : Cond.code y_T_get b_T_get 2 (some .int) ∈ mt_tbl := mt_in (List.mem_of_getElem? (i := 248) rfl) rfl
abbrev b_T_rewind : ByteArray := prog_3_method_8_code
def y_T_rewind : MethodName := ⟨R_T, "rewind", "()V"⟩
abbrev w_T_rewind : List Cond := .code y_T_rewind b_T_rewind 1 none :: mt_tbl
theorem wc_T_rewind : Cond.code y_T_rewind b_T_rewind 1 none ∈ mt_tbl := mt_in (List.mem_of_getElem? (i := 252) rfl) rfl
abbrev b_T_run : ByteArray := prog_3_method_17_code
def y_T_run : MethodName := ⟨R_T, "run", "(I)I"⟩
abbrev w_T_run : List Cond := .code y_T_run b_T_run 4 (some .int) :: mt_tbl
theorem wc_T_run : Cond.code y_T_run b_T_run 4 (some .int) ∈ mt_tbl := mt_in (List.mem_of_getElem? (i := 256) rfl) rfl
abbrev b_T_carryOut : ByteArray := prog_3_method_16_code
def y_T_carryOut : MethodName := ⟨R_T, "carryOut", "(I)V"⟩
abbrev w_T_carryOut : List Cond := .code y_T_carryOut b_T_carryOut 5 none :: mt_tbl
theorem wc_T_carryOut : Cond.code y_T_carryOut b_T_carryOut 5 none ∈ mt_tbl := mt_in (List.mem_of_getElem? (i := 260) rfl) rfl
abbrev b_T_result : ByteArray := prog_3_method_15_code
def y_T_result : MethodName := ⟨R_T, "result", "(I)I"⟩
abbrev w_T_result : List Cond := .code y_T_result b_T_result 7 (some .int) :: mt_tbl
theorem wc_T_result : Cond.code y_T_result b_T_result 7 (some .int) ∈ mt_tbl := mt_in (List.mem_of_getElem? (i := 264) rfl) rfl
abbrev b_T_power : ByteArray := prog_3_method_9_code
def y_T_power : MethodName := ⟨R_T, "power", "(I)I"⟩
abbrev w_T_power : List Cond := .code y_T_power b_T_power 3 (some .int) :: mt_tbl
theorem wc_T_power : Cond.code y_T_power b_T_power 3 (some .int) ∈ mt_tbl := mt_in (List.mem_of_getElem? (i := 267) rfl) rfl
abbrev b_T_plain : ByteArray := prog_3_method_5_code
def y_T_plain : MethodName := ⟨R_T, "plain", "(I)I"⟩
abbrev w_T_plain : List Cond := .code y_T_plain b_T_plain 1 (some .int) :: mt_tbl
theorem wc_T_plain : Cond.code y_T_plain b_T_plain 1 (some .int) ∈ mt_tbl := mt_in (List.mem_of_getElem? (i := 270) rfl) rfl
abbrev b_T_down : ByteArray := prog_3_method_10_code
def y_T_down : MethodName := ⟨R_T, "down", "(II)I"⟩
abbrev w_T_down : List Cond := .code y_T_down b_T_down 3 (some .int) :: mt_tbl
theorem wc_T_down : Cond.code y_T_down b_T_down 3 (some .int) ∈ mt_tbl := mt_in (List.mem_of_getElem? (i := 273) rfl) rfl
abbrev b_T_root : ByteArray := prog_3_method_12_code
def y_T_root : MethodName := ⟨R_T, "root", "(I)I"⟩
abbrev w_T_root : List Cond := .code y_T_root b_T_root 2 (some .int) :: mt_tbl
theorem wc_T_root : Cond.code y_T_root b_T_root 2 (some .int) ∈ mt_tbl := mt_in (List.mem_of_getElem? (i := 276) rfl) rfl
abbrev b_T_ones : ByteArray := prog_3_method_13_code
def y_T_ones : MethodName := ⟨R_T, "ones", "(I)I"⟩
abbrev w_T_ones : List Cond := .code y_T_ones b_T_ones 4 (some .int) :: mt_tbl
theorem wc_T_ones : Cond.code y_T_ones b_T_ones 4 (some .int) ∈ mt_tbl := mt_in (List.mem_of_getElem? (i := 279) rfl) rfl
abbrev b_T_two : ByteArray := prog_3_method_14_code
def y_T_two : MethodName := ⟨R_T, "two", "(III)I"⟩
abbrev w_T_two : List Cond := .code y_T_two b_T_two 3 (some .int) :: mt_tbl
theorem wc_T_two : Cond.code y_T_two b_T_two 3 (some .int) ∈ mt_tbl := mt_in (List.mem_of_getElem? (i := 282) rfl) rfl
abbrev b_T_quotient : ByteArray := prog_3_method_11_code
def y_T_quotient : MethodName := ⟨R_T, "quotient", "(II)I"⟩
abbrev w_T_quotient : List Cond := .code y_T_quotient b_T_quotient 2 (some .int) :: mt_tbl
theorem wc_T_quotient : Cond.code y_T_quotient b_T_quotient 2 (some .int) ∈ mt_tbl := mt_in (List.mem_of_getElem? (i := 285) rfl) rfl
abbrev b_T_next : ByteArray := prog_3_method_18_code
def y_T_next : MethodName := ⟨R_T, "next", "()I"⟩
abbrev w_T_next : List Cond := .code y_T_next b_T_next 1 (some .int) :: mt_tbl
theorem wc_T_next : Cond.code y_T_next b_T_next 1 (some .int) ∈ mt_tbl := mt_in (List.mem_of_getElem? (i := 289) rfl) rfl
abbrev b_T_total : ByteArray := prog_3_method_19_code
def y_T_total : MethodName := ⟨R_T, "total", "()I"⟩
abbrev w_T_total : List Cond := .code y_T_total b_T_total 3 (some .int) :: mt_tbl
theorem wc_T_total : Cond.code y_T_total b_T_total 3 (some .int) ∈ mt_tbl := mt_in (List.mem_of_getElem? (i := 293) rfl) rfl
theorem in_L : Cond.initialized R_L ∈ mt_tbl := mt_in (List.mem_of_getElem? (i := 23) rfl) rfl
theorem in_M : Cond.initialized R_M ∈ mt_tbl := mt_in (List.mem_of_getElem? (i := 24) rfl) rfl
theorem in_T : Cond.initialized R_T ∈ mt_tbl := mt_in (List.mem_of_getElem? (i := 25) rfl) rfl
theorem cl_M : Cond.classLink R_L 7 R_M ∈ mt_tbl := mt_in (List.mem_of_getElem? (i := 26) rfl) rfl
theorem it_M : Cond.instantiable R_M 15 ∈ mt_tbl := mt_in (List.mem_of_getElem? (i := 27) rfl) rfl
theorem ml_L_9 : Cond.methodLink R_L 9 y_M_init ∈ mt_tbl := mt_in (List.mem_of_getElem? (i := 28) rfl) rfl
theorem im_M_init : Cond.instanceMethod y_M_init ∈ mt_tbl := mt_in (List.mem_of_getElem? (i := 29) rfl) rfl
theorem ml_M_1 : Cond.methodLink R_M 1 objectInit ∈ mt_tbl := mt_in (List.mem_of_getElem? (i := 31) rfl) rfl
theorem im_obj : Cond.instanceMethod objectInit ∈ mt_tbl := mt_in (List.mem_of_getElem? (i := 32) rfl) rfl
theorem wc_obj : Cond.code objectInit ⟨#[0xb1]⟩ 1 none ∈ mt_tbl := mt_in (List.mem_of_getElem? (i := 33) rfl) rfl
theorem fl_M_lines : Cond.fieldLink R_M 44 "BitSerialMachine" "lines" "I" ∈ mt_tbl := mt_in (List.mem_of_getElem? (i := 34) rfl) rfl
theorem fl_M_nextLine : Cond.fieldLink R_M 48 "BitSerialMachine" "nextLine" "I" ∈ mt_tbl := mt_in (List.mem_of_getElem? (i := 35) rfl) rfl
theorem fl_M_opOf : Cond.fieldLink R_M 7 "BitSerialMachine" "opOf" "[I" ∈ mt_tbl := mt_in (List.mem_of_getElem? (i := 36) rfl) rfl
theorem fl_M_dstOf : Cond.fieldLink R_M 13 "BitSerialMachine" "dstOf" "[I" ∈ mt_tbl := mt_in (List.mem_of_getElem? (i := 37) rfl) rfl
theorem fl_M_aOf : Cond.fieldLink R_M 16 "BitSerialMachine" "aOf" "[I" ∈ mt_tbl := mt_in (List.mem_of_getElem? (i := 38) rfl) rfl
theorem fl_M_bOf : Cond.fieldLink R_M 19 "BitSerialMachine" "bOf" "[I" ∈ mt_tbl := mt_in (List.mem_of_getElem? (i := 39) rfl) rfl
theorem fl_M_bit : Cond.fieldLink R_M 22 "BitSerialMachine" "bit" "[Z" ∈ mt_tbl := mt_in (List.mem_of_getElem? (i := 40) rfl) rfl
theorem fl_M_fresh : Cond.fieldLink R_M 26 "BitSerialMachine" "fresh" "[Z" ∈ mt_tbl := mt_in (List.mem_of_getElem? (i := 41) rfl) rfl
theorem fl_M_latch : Cond.fieldLink R_M 110 "BitSerialMachine" "latch" "Z" ∈ mt_tbl := mt_in (List.mem_of_getElem? (i := 42) rfl) rfl
theorem fl_M_steps : Cond.fieldLink R_M 78 "BitSerialMachine" "steps" "I" ∈ mt_tbl := mt_in (List.mem_of_getElem? (i := 43) rfl) rfl
theorem fl_M_kind : Cond.fieldLink R_M 29 "BitSerialMachine" "kind" "[I" ∈ mt_tbl := mt_in (List.mem_of_getElem? (i := 44) rfl) rfl
theorem fl_M_to : Cond.fieldLink R_M 32 "BitSerialMachine" "to" "[I" ∈ mt_tbl := mt_in (List.mem_of_getElem? (i := 45) rfl) rfl
theorem fl_M_from : Cond.fieldLink R_M 35 "BitSerialMachine" "from" "[I" ∈ mt_tbl := mt_in (List.mem_of_getElem? (i := 46) rfl) rfl
theorem fl_M_other : Cond.fieldLink R_M 38 "BitSerialMachine" "other" "[I" ∈ mt_tbl := mt_in (List.mem_of_getElem? (i := 47) rfl) rfl
theorem fl_M_skip : Cond.fieldLink R_M 41 "BitSerialMachine" "skip" "[I" ∈ mt_tbl := mt_in (List.mem_of_getElem? (i := 48) rfl) rfl
theorem ac_int : Cond.arrayClass .int ∈ mt_tbl := mt_in (List.mem_of_getElem? (i := 80) rfl) rfl
theorem ac_bool : Cond.arrayClass .boolean ∈ mt_tbl := mt_in (List.mem_of_getElem? (i := 81) rfl) rfl
theorem ml_L_13 : Cond.methodLink R_L 13 y_M_emit ∈ mt_tbl := mt_in (List.mem_of_getElem? (i := 82) rfl) rfl
theorem im_M_emit : Cond.instanceMethod y_M_emit ∈ mt_tbl := mt_in (List.mem_of_getElem? (i := 83) rfl) rfl
theorem se_M_emit : Cond.selects R_M y_M_emit y_M_emit ∈ mt_tbl := mt_in (List.mem_of_getElem? (i := 84) rfl) rfl
theorem ml_L_18 : Cond.methodLink R_L 18 y_M_clear ∈ mt_tbl := mt_in (List.mem_of_getElem? (i := 86) rfl) rfl
theorem im_M_clear : Cond.instanceMethod y_M_clear ∈ mt_tbl := mt_in (List.mem_of_getElem? (i := 87) rfl) rfl
theorem se_M_clear : Cond.selects R_M y_M_clear y_M_clear ∈ mt_tbl := mt_in (List.mem_of_getElem? (i := 88) rfl) rfl
theorem ml_L_22 : Cond.methodLink R_L 22 y_M_set ∈ mt_tbl := mt_in (List.mem_of_getElem? (i := 90) rfl) rfl
theorem im_M_set : Cond.instanceMethod y_M_set ∈ mt_tbl := mt_in (List.mem_of_getElem? (i := 91) rfl) rfl
theorem se_M_set : Cond.selects R_M y_M_set y_M_set ∈ mt_tbl := mt_in (List.mem_of_getElem? (i := 92) rfl) rfl
theorem ml_M_51 : Cond.methodLink R_M 51 y_M_loadConstant ∈ mt_tbl := mt_in (List.mem_of_getElem? (i := 94) rfl) rfl
theorem im_M_loadConstant : Cond.instanceMethod y_M_loadConstant ∈ mt_tbl := mt_in (List.mem_of_getElem? (i := 96) rfl) rfl
theorem ml_M_55 : Cond.methodLink R_M 55 y_M_widen ∈ mt_tbl := mt_in (List.mem_of_getElem? (i := 98) rfl) rfl
theorem im_M_widen : Cond.instanceMethod y_M_widen ∈ mt_tbl := mt_in (List.mem_of_getElem? (i := 100) rfl) rfl
theorem ml_M_128 : Cond.methodLink R_M 128 y_M_keepFresh ∈ mt_tbl := mt_in (List.mem_of_getElem? (i := 102) rfl) rfl
theorem im_M_keepFresh : Cond.instanceMethod y_M_keepFresh ∈ mt_tbl := mt_in (List.mem_of_getElem? (i := 104) rfl) rfl
theorem ml_L_27 : Cond.methodLink R_L 27 y_M_get ∈ mt_tbl := mt_in (List.mem_of_getElem? (i := 106) rfl) rfl
theorem im_M_get : Cond.instanceMethod y_M_get ∈ mt_tbl := mt_in (List.mem_of_getElem? (i := 107) rfl) rfl
theorem se_M_get : Cond.selects R_M y_M_get y_M_get ∈ mt_tbl := mt_in (List.mem_of_getElem? (i := 108) rfl) rfl
theorem ml_M_58 : Cond.methodLink R_M 58 y_M_unsigned ∈ mt_tbl := mt_in (List.mem_of_getElem? (i := 110) rfl) rfl
theorem im_M_unsigned : Cond.instanceMethod y_M_unsigned ∈ mt_tbl := mt_in (List.mem_of_getElem? (i := 112) rfl) rfl
theorem kc_M_62 : Cond.constant R_M 62 32768 ∈ mt_tbl := mt_in (List.mem_of_getElem? (i := 114) rfl) rfl
theorem kc_M_63 : Cond.constant R_M 63 65536 ∈ mt_tbl := mt_in (List.mem_of_getElem? (i := 115) rfl) rfl
theorem ml_L_32 : Cond.methodLink R_L 32 y_M_rewind ∈ mt_tbl := mt_in (List.mem_of_getElem? (i := 116) rfl) rfl
theorem im_M_rewind : Cond.instanceMethod y_M_rewind ∈ mt_tbl := mt_in (List.mem_of_getElem? (i := 117) rfl) rfl
theorem se_M_rewind : Cond.selects R_M y_M_rewind y_M_rewind ∈ mt_tbl := mt_in (List.mem_of_getElem? (i := 118) rfl) rfl
theorem ml_L_36 : Cond.methodLink R_L 36 y_M_run ∈ mt_tbl := mt_in (List.mem_of_getElem? (i := 120) rfl) rfl
theorem im_M_run : Cond.instanceMethod y_M_run ∈ mt_tbl := mt_in (List.mem_of_getElem? (i := 121) rfl) rfl
theorem se_M_run : Cond.selects R_M y_M_run y_M_run ∈ mt_tbl := mt_in (List.mem_of_getElem? (i := 122) rfl) rfl
theorem ml_M_64 : Cond.methodLink R_M 64 y_M_carryOut ∈ mt_tbl := mt_in (List.mem_of_getElem? (i := 124) rfl) rfl
theorem im_M_carryOut : Cond.instanceMethod y_M_carryOut ∈ mt_tbl := mt_in (List.mem_of_getElem? (i := 126) rfl) rfl
theorem ml_M_68 : Cond.methodLink R_M 68 y_M_isZero ∈ mt_tbl := mt_in (List.mem_of_getElem? (i := 128) rfl) rfl
theorem im_M_isZero : Cond.instanceMethod y_M_isZero ∈ mt_tbl := mt_in (List.mem_of_getElem? (i := 130) rfl) rfl
theorem ml_M_72 : Cond.methodLink R_M 72 y_M_translate ∈ mt_tbl := mt_in (List.mem_of_getElem? (i := 132) rfl) rfl
theorem im_M_translate : Cond.instanceMethod y_M_translate ∈ mt_tbl := mt_in (List.mem_of_getElem? (i := 134) rfl) rfl
theorem ml_M_81 : Cond.methodLink R_M 81 y_M_step ∈ mt_tbl := mt_in (List.mem_of_getElem? (i := 136) rfl) rfl
theorem im_M_step : Cond.instanceMethod y_M_step ∈ mt_tbl := mt_in (List.mem_of_getElem? (i := 138) rfl) rfl
theorem ml_M_85 : Cond.methodLink R_M 85 y_M_product ∈ mt_tbl := mt_in (List.mem_of_getElem? (i := 140) rfl) rfl
theorem im_M_product : Cond.instanceMethod y_M_product ∈ mt_tbl := mt_in (List.mem_of_getElem? (i := 142) rfl) rfl
theorem ml_M_88 : Cond.methodLink R_M 88 y_M_quotient ∈ mt_tbl := mt_in (List.mem_of_getElem? (i := 144) rfl) rfl
theorem im_M_quotient : Cond.instanceMethod y_M_quotient ∈ mt_tbl := mt_in (List.mem_of_getElem? (i := 146) rfl) rfl
theorem ml_M_104 : Cond.methodLink R_M 104 y_M_amount ∈ mt_tbl := mt_in (List.mem_of_getElem? (i := 148) rfl) rfl
theorem im_M_amount : Cond.instanceMethod y_M_amount ∈ mt_tbl := mt_in (List.mem_of_getElem? (i := 150) rfl) rfl
theorem ml_M_91 : Cond.methodLink R_M 91 y_M_finishQuotient ∈ mt_tbl := mt_in (List.mem_of_getElem? (i := 152) rfl) rfl
theorem im_M_finishQuotient : Cond.instanceMethod y_M_finishQuotient ∈ mt_tbl := mt_in (List.mem_of_getElem? (i := 154) rfl) rfl
theorem ml_M_95 : Cond.methodLink R_M 95 y_M_comparison ∈ mt_tbl := mt_in (List.mem_of_getElem? (i := 156) rfl) rfl
theorem im_M_comparison : Cond.instanceMethod y_M_comparison ∈ mt_tbl := mt_in (List.mem_of_getElem? (i := 158) rfl) rfl
theorem ml_M_98 : Cond.methodLink R_M 98 y_M_root ∈ mt_tbl := mt_in (List.mem_of_getElem? (i := 160) rfl) rfl
theorem im_M_root : Cond.instanceMethod y_M_root ∈ mt_tbl := mt_in (List.mem_of_getElem? (i := 162) rfl) rfl
theorem ml_M_101 : Cond.methodLink R_M 101 y_M_countOnes ∈ mt_tbl := mt_in (List.mem_of_getElem? (i := 164) rfl) rfl
theorem im_M_countOnes : Cond.instanceMethod y_M_countOnes ∈ mt_tbl := mt_in (List.mem_of_getElem? (i := 166) rfl) rfl
theorem ml_M_75 : Cond.methodLink R_M 75 y_M_performAll ∈ mt_tbl := mt_in (List.mem_of_getElem? (i := 168) rfl) rfl
theorem im_M_performAll : Cond.instanceMethod y_M_performAll ∈ mt_tbl := mt_in (List.mem_of_getElem? (i := 170) rfl) rfl
theorem ml_M_107 : Cond.methodLink R_M 107 y_M_perform ∈ mt_tbl := mt_in (List.mem_of_getElem? (i := 172) rfl) rfl
theorem im_M_perform : Cond.instanceMethod y_M_perform ∈ mt_tbl := mt_in (List.mem_of_getElem? (i := 174) rfl) rfl
theorem ml_M_114 : Cond.methodLink R_M 114 y_M_shift ∈ mt_tbl := mt_in (List.mem_of_getElem? (i := 176) rfl) rfl
theorem im_M_shift : Cond.instanceMethod y_M_shift ∈ mt_tbl := mt_in (List.mem_of_getElem? (i := 178) rfl) rfl
theorem ml_M_118 : Cond.methodLink R_M 118 y_M_lowHalf ∈ mt_tbl := mt_in (List.mem_of_getElem? (i := 180) rfl) rfl
theorem im_M_lowHalf : Cond.instanceMethod y_M_lowHalf ∈ mt_tbl := mt_in (List.mem_of_getElem? (i := 182) rfl) rfl
theorem ml_M_121 : Cond.methodLink R_M 121 y_M_addSerially ∈ mt_tbl := mt_in (List.mem_of_getElem? (i := 184) rfl) rfl
theorem im_M_addSerially : Cond.instanceMethod y_M_addSerially ∈ mt_tbl := mt_in (List.mem_of_getElem? (i := 186) rfl) rfl
theorem ml_M_125 : Cond.methodLink R_M 125 y_M_combine ∈ mt_tbl := mt_in (List.mem_of_getElem? (i := 188) rfl) rfl
theorem im_M_combine : Cond.instanceMethod y_M_combine ∈ mt_tbl := mt_in (List.mem_of_getElem? (i := 190) rfl) rfl
theorem ml_L_40 : Cond.methodLink R_L 40 y_M_next ∈ mt_tbl := mt_in (List.mem_of_getElem? (i := 192) rfl) rfl
theorem im_M_next : Cond.instanceMethod y_M_next ∈ mt_tbl := mt_in (List.mem_of_getElem? (i := 193) rfl) rfl
theorem se_M_next : Cond.selects R_M y_M_next y_M_next ∈ mt_tbl := mt_in (List.mem_of_getElem? (i := 194) rfl) rfl
theorem ml_L_45 : Cond.methodLink R_L 45 y_M_total ∈ mt_tbl := mt_in (List.mem_of_getElem? (i := 196) rfl) rfl
theorem im_M_total : Cond.instanceMethod y_M_total ∈ mt_tbl := mt_in (List.mem_of_getElem? (i := 197) rfl) rfl
theorem se_M_total : Cond.selects R_M y_M_total y_M_total ∈ mt_tbl := mt_in (List.mem_of_getElem? (i := 198) rfl) rfl
theorem cl_T : Cond.classLink R_L 10 R_T ∈ mt_tbl := mt_in (List.mem_of_getElem? (i := 200) rfl) rfl
theorem it_T : Cond.instantiable R_T 7 ∈ mt_tbl := mt_in (List.mem_of_getElem? (i := 201) rfl) rfl
theorem ml_L_12 : Cond.methodLink R_L 12 y_T_init ∈ mt_tbl := mt_in (List.mem_of_getElem? (i := 202) rfl) rfl
theorem im_T_init : Cond.instanceMethod y_T_init ∈ mt_tbl := mt_in (List.mem_of_getElem? (i := 203) rfl) rfl
theorem ml_T_1 : Cond.methodLink R_T 1 objectInit ∈ mt_tbl := mt_in (List.mem_of_getElem? (i := 205) rfl) rfl
theorem fl_T_variable : Cond.fieldLink R_T 7 "BitSerialMachineModel" "variable" "[I" ∈ mt_tbl := mt_in (List.mem_of_getElem? (i := 206) rfl) rfl
theorem fl_T_lines : Cond.fieldLink R_T 25 "BitSerialMachineModel" "lines" "I" ∈ mt_tbl := mt_in (List.mem_of_getElem? (i := 207) rfl) rfl
theorem fl_T_op : Cond.fieldLink R_T 13 "BitSerialMachineModel" "op" "[I" ∈ mt_tbl := mt_in (List.mem_of_getElem? (i := 208) rfl) rfl
theorem fl_T_dst : Cond.fieldLink R_T 16 "BitSerialMachineModel" "dst" "[I" ∈ mt_tbl := mt_in (List.mem_of_getElem? (i := 209) rfl) rfl
theorem fl_T_left : Cond.fieldLink R_T 19 "BitSerialMachineModel" "left" "[I" ∈ mt_tbl := mt_in (List.mem_of_getElem? (i := 210) rfl) rfl
theorem fl_T_right : Cond.fieldLink R_T 22 "BitSerialMachineModel" "right" "[I" ∈ mt_tbl := mt_in (List.mem_of_getElem? (i := 211) rfl) rfl
theorem fl_T_next : Cond.fieldLink R_T 29 "BitSerialMachineModel" "next" "I" ∈ mt_tbl := mt_in (List.mem_of_getElem? (i := 212) rfl) rfl
theorem ml_L_17 : Cond.methodLink R_L 17 y_T_emit ∈ mt_tbl := mt_in (List.mem_of_getElem? (i := 228) rfl) rfl
theorem im_T_emit : Cond.instanceMethod y_T_emit ∈ mt_tbl := mt_in (List.mem_of_getElem? (i := 229) rfl) rfl
theorem se_T_emit : Cond.selects R_T y_T_emit y_T_emit ∈ mt_tbl := mt_in (List.mem_of_getElem? (i := 230) rfl) rfl
theorem ml_L_21 : Cond.methodLink R_L 21 y_T_clear ∈ mt_tbl := mt_in (List.mem_of_getElem? (i := 232) rfl) rfl
theorem im_T_clear : Cond.instanceMethod y_T_clear ∈ mt_tbl := mt_in (List.mem_of_getElem? (i := 233) rfl) rfl
theorem se_T_clear : Cond.selects R_T y_T_clear y_T_clear ∈ mt_tbl := mt_in (List.mem_of_getElem? (i := 234) rfl) rfl
theorem ml_L_26 : Cond.methodLink R_L 26 y_T_set ∈ mt_tbl := mt_in (List.mem_of_getElem? (i := 236) rfl) rfl
theorem im_T_set : Cond.instanceMethod y_T_set ∈ mt_tbl := mt_in (List.mem_of_getElem? (i := 237) rfl) rfl
theorem se_T_set : Cond.selects R_T y_T_set y_T_set ∈ mt_tbl := mt_in (List.mem_of_getElem? (i := 238) rfl) rfl
theorem ml_T_34 : Cond.methodLink R_T 34 y_T_wrapped ∈ mt_tbl := mt_in (List.mem_of_getElem? (i := 240) rfl) rfl
theorem sm_T_wrapped : Cond.static y_T_wrapped ∈ mt_tbl := mt_in (List.mem_of_getElem? (i := 241) rfl) rfl
theorem kc_T_32 : Cond.constant R_T 32 65535 ∈ mt_tbl := mt_in (List.mem_of_getElem? (i := 243) rfl) rfl
theorem kc_T_33 : Cond.constant R_T 33 65536 ∈ mt_tbl := mt_in (List.mem_of_getElem? (i := 244) rfl) rfl
theorem ml_L_31 : Cond.methodLink R_L 31 y_T_get ∈ mt_tbl := mt_in (List.mem_of_getElem? (i := 245) rfl) rfl
theorem im_T_get : Cond.instanceMethod y_T_get ∈ mt_tbl := mt_in (List.mem_of_getElem? (i := 246) rfl) rfl
theorem se_T_get : Cond.selects R_T y_T_get y_T_get ∈ mt_tbl := mt_in (List.mem_of_getElem? (i := 247) rfl) rfl
theorem ml_L_35 : Cond.methodLink R_L 35 y_T_rewind ∈ mt_tbl := mt_in (List.mem_of_getElem? (i := 249) rfl) rfl
theorem im_T_rewind : Cond.instanceMethod y_T_rewind ∈ mt_tbl := mt_in (List.mem_of_getElem? (i := 250) rfl) rfl
theorem se_T_rewind : Cond.selects R_T y_T_rewind y_T_rewind ∈ mt_tbl := mt_in (List.mem_of_getElem? (i := 251) rfl) rfl
theorem ml_L_39 : Cond.methodLink R_L 39 y_T_run ∈ mt_tbl := mt_in (List.mem_of_getElem? (i := 253) rfl) rfl
theorem im_T_run : Cond.instanceMethod y_T_run ∈ mt_tbl := mt_in (List.mem_of_getElem? (i := 254) rfl) rfl
theorem se_T_run : Cond.selects R_T y_T_run y_T_run ∈ mt_tbl := mt_in (List.mem_of_getElem? (i := 255) rfl) rfl
theorem ml_T_64 : Cond.methodLink R_T 64 y_T_carryOut ∈ mt_tbl := mt_in (List.mem_of_getElem? (i := 257) rfl) rfl
theorem im_T_carryOut : Cond.instanceMethod y_T_carryOut ∈ mt_tbl := mt_in (List.mem_of_getElem? (i := 259) rfl) rfl
theorem ml_T_61 : Cond.methodLink R_T 61 y_T_result ∈ mt_tbl := mt_in (List.mem_of_getElem? (i := 261) rfl) rfl
theorem im_T_result : Cond.instanceMethod y_T_result ∈ mt_tbl := mt_in (List.mem_of_getElem? (i := 263) rfl) rfl
theorem ml_T_45 : Cond.methodLink R_T 45 y_T_power ∈ mt_tbl := mt_in (List.mem_of_getElem? (i := 265) rfl) rfl
theorem sm_T_power : Cond.static y_T_power ∈ mt_tbl := mt_in (List.mem_of_getElem? (i := 266) rfl) rfl
theorem ml_T_48 : Cond.methodLink R_T 48 y_T_plain ∈ mt_tbl := mt_in (List.mem_of_getElem? (i := 268) rfl) rfl
theorem sm_T_plain : Cond.static y_T_plain ∈ mt_tbl := mt_in (List.mem_of_getElem? (i := 269) rfl) rfl
theorem ml_T_38 : Cond.methodLink R_T 38 y_T_down ∈ mt_tbl := mt_in (List.mem_of_getElem? (i := 271) rfl) rfl
theorem sm_T_down : Cond.static y_T_down ∈ mt_tbl := mt_in (List.mem_of_getElem? (i := 272) rfl) rfl
theorem ml_T_51 : Cond.methodLink R_T 51 y_T_root ∈ mt_tbl := mt_in (List.mem_of_getElem? (i := 274) rfl) rfl
theorem sm_T_root : Cond.static y_T_root ∈ mt_tbl := mt_in (List.mem_of_getElem? (i := 275) rfl) rfl
theorem ml_T_54 : Cond.methodLink R_T 54 y_T_ones ∈ mt_tbl := mt_in (List.mem_of_getElem? (i := 277) rfl) rfl
theorem sm_T_ones : Cond.static y_T_ones ∈ mt_tbl := mt_in (List.mem_of_getElem? (i := 278) rfl) rfl
theorem ml_T_57 : Cond.methodLink R_T 57 y_T_two ∈ mt_tbl := mt_in (List.mem_of_getElem? (i := 280) rfl) rfl
theorem sm_T_two : Cond.static y_T_two ∈ mt_tbl := mt_in (List.mem_of_getElem? (i := 281) rfl) rfl
theorem ml_T_42 : Cond.methodLink R_T 42 y_T_quotient ∈ mt_tbl := mt_in (List.mem_of_getElem? (i := 283) rfl) rfl
theorem sm_T_quotient : Cond.static y_T_quotient ∈ mt_tbl := mt_in (List.mem_of_getElem? (i := 284) rfl) rfl
theorem ml_L_44 : Cond.methodLink R_L 44 y_T_next ∈ mt_tbl := mt_in (List.mem_of_getElem? (i := 286) rfl) rfl
theorem im_T_next : Cond.instanceMethod y_T_next ∈ mt_tbl := mt_in (List.mem_of_getElem? (i := 287) rfl) rfl
theorem se_T_next : Cond.selects R_T y_T_next y_T_next ∈ mt_tbl := mt_in (List.mem_of_getElem? (i := 288) rfl) rfl
theorem ml_L_48 : Cond.methodLink R_L 48 y_T_total ∈ mt_tbl := mt_in (List.mem_of_getElem? (i := 290) rfl) rfl
theorem im_T_total : Cond.instanceMethod y_T_total ∈ mt_tbl := mt_in (List.mem_of_getElem? (i := 291) rfl) rfl
theorem se_T_total : Cond.selects R_T y_T_total y_T_total ∈ mt_tbl := mt_in (List.mem_of_getElem? (i := 292) rfl) rfl
theorem se_M_loadConstant : Cond.selects R_M y_M_loadConstant y_M_loadConstant ∈ mt_tbl := mt_in (List.mem_of_getElem? (i := 0) rfl) rfl
theorem se_M_widen : Cond.selects R_M y_M_widen y_M_widen ∈ mt_tbl := mt_in (List.mem_of_getElem? (i := 1) rfl) rfl
theorem se_M_keepFresh : Cond.selects R_M y_M_keepFresh y_M_keepFresh ∈ mt_tbl := mt_in (List.mem_of_getElem? (i := 2) rfl) rfl
theorem se_M_unsigned : Cond.selects R_M y_M_unsigned y_M_unsigned ∈ mt_tbl := mt_in (List.mem_of_getElem? (i := 3) rfl) rfl
theorem se_M_carryOut : Cond.selects R_M y_M_carryOut y_M_carryOut ∈ mt_tbl := mt_in (List.mem_of_getElem? (i := 4) rfl) rfl
theorem se_M_isZero : Cond.selects R_M y_M_isZero y_M_isZero ∈ mt_tbl := mt_in (List.mem_of_getElem? (i := 5) rfl) rfl
theorem se_M_translate : Cond.selects R_M y_M_translate y_M_translate ∈ mt_tbl := mt_in (List.mem_of_getElem? (i := 6) rfl) rfl
theorem se_M_step : Cond.selects R_M y_M_step y_M_step ∈ mt_tbl := mt_in (List.mem_of_getElem? (i := 7) rfl) rfl
theorem se_M_product : Cond.selects R_M y_M_product y_M_product ∈ mt_tbl := mt_in (List.mem_of_getElem? (i := 8) rfl) rfl
theorem se_M_quotient : Cond.selects R_M y_M_quotient y_M_quotient ∈ mt_tbl := mt_in (List.mem_of_getElem? (i := 9) rfl) rfl
theorem se_M_amount : Cond.selects R_M y_M_amount y_M_amount ∈ mt_tbl := mt_in (List.mem_of_getElem? (i := 10) rfl) rfl
theorem se_M_finishQuotient : Cond.selects R_M y_M_finishQuotient y_M_finishQuotient ∈ mt_tbl := mt_in (List.mem_of_getElem? (i := 11) rfl) rfl
theorem se_M_comparison : Cond.selects R_M y_M_comparison y_M_comparison ∈ mt_tbl := mt_in (List.mem_of_getElem? (i := 12) rfl) rfl
theorem se_M_root : Cond.selects R_M y_M_root y_M_root ∈ mt_tbl := mt_in (List.mem_of_getElem? (i := 13) rfl) rfl
theorem se_M_countOnes : Cond.selects R_M y_M_countOnes y_M_countOnes ∈ mt_tbl := mt_in (List.mem_of_getElem? (i := 14) rfl) rfl
theorem se_M_performAll : Cond.selects R_M y_M_performAll y_M_performAll ∈ mt_tbl := mt_in (List.mem_of_getElem? (i := 15) rfl) rfl
theorem se_M_perform : Cond.selects R_M y_M_perform y_M_perform ∈ mt_tbl := mt_in (List.mem_of_getElem? (i := 16) rfl) rfl
theorem se_M_shift : Cond.selects R_M y_M_shift y_M_shift ∈ mt_tbl := mt_in (List.mem_of_getElem? (i := 17) rfl) rfl
theorem se_M_lowHalf : Cond.selects R_M y_M_lowHalf y_M_lowHalf ∈ mt_tbl := mt_in (List.mem_of_getElem? (i := 18) rfl) rfl
theorem se_M_addSerially : Cond.selects R_M y_M_addSerially y_M_addSerially ∈ mt_tbl := mt_in (List.mem_of_getElem? (i := 19) rfl) rfl
theorem se_M_combine : Cond.selects R_M y_M_combine y_M_combine ∈ mt_tbl := mt_in (List.mem_of_getElem? (i := 20) rfl) rfl
theorem se_T_carryOut : Cond.selects R_T y_T_carryOut y_T_carryOut ∈ mt_tbl := mt_in (List.mem_of_getElem? (i := 21) rfl) rfl
theorem se_T_result : Cond.selects R_T y_T_result y_T_result ∈ mt_tbl := mt_in (List.mem_of_getElem? (i := 22) rfl) rfl
theorem g_L_13 : GoodIn mt_tbl (wsV R_L 13 R_M y_M_emit w_M_emit) := mt_gi (List.forall_mem_cons.mpr ⟨ml_L_13, List.forall_mem_cons.mpr ⟨im_M_emit, List.forall_mem_cons.mpr ⟨se_M_emit, List.forall_mem_cons.mpr ⟨in_M, List.forall_mem_cons.mpr ⟨wc_M_emit, fun _ h => h⟩⟩⟩⟩⟩)
theorem g_L_18 : GoodIn mt_tbl (wsV R_L 18 R_M y_M_clear w_M_clear) := mt_gi (List.forall_mem_cons.mpr ⟨ml_L_18, List.forall_mem_cons.mpr ⟨im_M_clear, List.forall_mem_cons.mpr ⟨se_M_clear, List.forall_mem_cons.mpr ⟨in_M, List.forall_mem_cons.mpr ⟨wc_M_clear, fun _ h => h⟩⟩⟩⟩⟩)
theorem g_L_22 : GoodIn mt_tbl (wsV R_L 22 R_M y_M_set w_M_set) := mt_gi (List.forall_mem_cons.mpr ⟨ml_L_22, List.forall_mem_cons.mpr ⟨im_M_set, List.forall_mem_cons.mpr ⟨se_M_set, List.forall_mem_cons.mpr ⟨in_M, List.forall_mem_cons.mpr ⟨wc_M_set, fun _ h => h⟩⟩⟩⟩⟩)
theorem g_M_51 : GoodIn mt_tbl (wsV R_M 51 R_M y_M_loadConstant w_M_loadConstant) := mt_gi (List.forall_mem_cons.mpr ⟨ml_M_51, List.forall_mem_cons.mpr ⟨im_M_loadConstant, List.forall_mem_cons.mpr ⟨se_M_loadConstant, List.forall_mem_cons.mpr ⟨in_M, List.forall_mem_cons.mpr ⟨wc_M_loadConstant, fun _ h => h⟩⟩⟩⟩⟩)
theorem g_M_55 : GoodIn mt_tbl (wsV R_M 55 R_M y_M_widen w_M_widen) := mt_gi (List.forall_mem_cons.mpr ⟨ml_M_55, List.forall_mem_cons.mpr ⟨im_M_widen, List.forall_mem_cons.mpr ⟨se_M_widen, List.forall_mem_cons.mpr ⟨in_M, List.forall_mem_cons.mpr ⟨wc_M_widen, fun _ h => h⟩⟩⟩⟩⟩)
theorem g_M_128 : GoodIn mt_tbl (wsV R_M 128 R_M y_M_keepFresh w_M_keepFresh) := mt_gi (List.forall_mem_cons.mpr ⟨ml_M_128, List.forall_mem_cons.mpr ⟨im_M_keepFresh, List.forall_mem_cons.mpr ⟨se_M_keepFresh, List.forall_mem_cons.mpr ⟨in_M, List.forall_mem_cons.mpr ⟨wc_M_keepFresh, fun _ h => h⟩⟩⟩⟩⟩)
theorem g_L_27 : GoodIn mt_tbl (wsV R_L 27 R_M y_M_get w_M_get) := mt_gi (List.forall_mem_cons.mpr ⟨ml_L_27, List.forall_mem_cons.mpr ⟨im_M_get, List.forall_mem_cons.mpr ⟨se_M_get, List.forall_mem_cons.mpr ⟨in_M, List.forall_mem_cons.mpr ⟨wc_M_get, fun _ h => h⟩⟩⟩⟩⟩)
theorem g_M_58 : GoodIn mt_tbl (wsV R_M 58 R_M y_M_unsigned w_M_unsigned) := mt_gi (List.forall_mem_cons.mpr ⟨ml_M_58, List.forall_mem_cons.mpr ⟨im_M_unsigned, List.forall_mem_cons.mpr ⟨se_M_unsigned, List.forall_mem_cons.mpr ⟨in_M, List.forall_mem_cons.mpr ⟨wc_M_unsigned, fun _ h => h⟩⟩⟩⟩⟩)
theorem g_L_32 : GoodIn mt_tbl (wsV R_L 32 R_M y_M_rewind w_M_rewind) := mt_gi (List.forall_mem_cons.mpr ⟨ml_L_32, List.forall_mem_cons.mpr ⟨im_M_rewind, List.forall_mem_cons.mpr ⟨se_M_rewind, List.forall_mem_cons.mpr ⟨in_M, List.forall_mem_cons.mpr ⟨wc_M_rewind, fun _ h => h⟩⟩⟩⟩⟩)
theorem g_L_36 : GoodIn mt_tbl (wsV R_L 36 R_M y_M_run w_M_run) := mt_gi (List.forall_mem_cons.mpr ⟨ml_L_36, List.forall_mem_cons.mpr ⟨im_M_run, List.forall_mem_cons.mpr ⟨se_M_run, List.forall_mem_cons.mpr ⟨in_M, List.forall_mem_cons.mpr ⟨wc_M_run, fun _ h => h⟩⟩⟩⟩⟩)
theorem g_M_64 : GoodIn mt_tbl (wsV R_M 64 R_M y_M_carryOut w_M_carryOut) := mt_gi (List.forall_mem_cons.mpr ⟨ml_M_64, List.forall_mem_cons.mpr ⟨im_M_carryOut, List.forall_mem_cons.mpr ⟨se_M_carryOut, List.forall_mem_cons.mpr ⟨in_M, List.forall_mem_cons.mpr ⟨wc_M_carryOut, fun _ h => h⟩⟩⟩⟩⟩)
theorem g_M_68 : GoodIn mt_tbl (wsV R_M 68 R_M y_M_isZero w_M_isZero) := mt_gi (List.forall_mem_cons.mpr ⟨ml_M_68, List.forall_mem_cons.mpr ⟨im_M_isZero, List.forall_mem_cons.mpr ⟨se_M_isZero, List.forall_mem_cons.mpr ⟨in_M, List.forall_mem_cons.mpr ⟨wc_M_isZero, fun _ h => h⟩⟩⟩⟩⟩)
theorem g_M_72 : GoodIn mt_tbl (wsV R_M 72 R_M y_M_translate w_M_translate) := mt_gi (List.forall_mem_cons.mpr ⟨ml_M_72, List.forall_mem_cons.mpr ⟨im_M_translate, List.forall_mem_cons.mpr ⟨se_M_translate, List.forall_mem_cons.mpr ⟨in_M, List.forall_mem_cons.mpr ⟨wc_M_translate, fun _ h => h⟩⟩⟩⟩⟩)
theorem g_M_81 : GoodIn mt_tbl (wsV R_M 81 R_M y_M_step w_M_step) := mt_gi (List.forall_mem_cons.mpr ⟨ml_M_81, List.forall_mem_cons.mpr ⟨im_M_step, List.forall_mem_cons.mpr ⟨se_M_step, List.forall_mem_cons.mpr ⟨in_M, List.forall_mem_cons.mpr ⟨wc_M_step, fun _ h => h⟩⟩⟩⟩⟩)
theorem g_M_85 : GoodIn mt_tbl (wsV R_M 85 R_M y_M_product w_M_product) := mt_gi (List.forall_mem_cons.mpr ⟨ml_M_85, List.forall_mem_cons.mpr ⟨im_M_product, List.forall_mem_cons.mpr ⟨se_M_product, List.forall_mem_cons.mpr ⟨in_M, List.forall_mem_cons.mpr ⟨wc_M_product, fun _ h => h⟩⟩⟩⟩⟩)
theorem g_M_88 : GoodIn mt_tbl (wsV R_M 88 R_M y_M_quotient w_M_quotient) := mt_gi (List.forall_mem_cons.mpr ⟨ml_M_88, List.forall_mem_cons.mpr ⟨im_M_quotient, List.forall_mem_cons.mpr ⟨se_M_quotient, List.forall_mem_cons.mpr ⟨in_M, List.forall_mem_cons.mpr ⟨wc_M_quotient, fun _ h => h⟩⟩⟩⟩⟩)
theorem g_M_104 : GoodIn mt_tbl (wsV R_M 104 R_M y_M_amount w_M_amount) := mt_gi (List.forall_mem_cons.mpr ⟨ml_M_104, List.forall_mem_cons.mpr ⟨im_M_amount, List.forall_mem_cons.mpr ⟨se_M_amount, List.forall_mem_cons.mpr ⟨in_M, List.forall_mem_cons.mpr ⟨wc_M_amount, fun _ h => h⟩⟩⟩⟩⟩)
theorem g_M_91 : GoodIn mt_tbl (wsV R_M 91 R_M y_M_finishQuotient w_M_finishQuotient) := mt_gi (List.forall_mem_cons.mpr ⟨ml_M_91, List.forall_mem_cons.mpr ⟨im_M_finishQuotient, List.forall_mem_cons.mpr ⟨se_M_finishQuotient, List.forall_mem_cons.mpr ⟨in_M, List.forall_mem_cons.mpr ⟨wc_M_finishQuotient, fun _ h => h⟩⟩⟩⟩⟩)
theorem g_M_95 : GoodIn mt_tbl (wsV R_M 95 R_M y_M_comparison w_M_comparison) := mt_gi (List.forall_mem_cons.mpr ⟨ml_M_95, List.forall_mem_cons.mpr ⟨im_M_comparison, List.forall_mem_cons.mpr ⟨se_M_comparison, List.forall_mem_cons.mpr ⟨in_M, List.forall_mem_cons.mpr ⟨wc_M_comparison, fun _ h => h⟩⟩⟩⟩⟩)
theorem g_M_98 : GoodIn mt_tbl (wsV R_M 98 R_M y_M_root w_M_root) := mt_gi (List.forall_mem_cons.mpr ⟨ml_M_98, List.forall_mem_cons.mpr ⟨im_M_root, List.forall_mem_cons.mpr ⟨se_M_root, List.forall_mem_cons.mpr ⟨in_M, List.forall_mem_cons.mpr ⟨wc_M_root, fun _ h => h⟩⟩⟩⟩⟩)
theorem g_M_101 : GoodIn mt_tbl (wsV R_M 101 R_M y_M_countOnes w_M_countOnes) := mt_gi (List.forall_mem_cons.mpr ⟨ml_M_101, List.forall_mem_cons.mpr ⟨im_M_countOnes, List.forall_mem_cons.mpr ⟨se_M_countOnes, List.forall_mem_cons.mpr ⟨in_M, List.forall_mem_cons.mpr ⟨wc_M_countOnes, fun _ h => h⟩⟩⟩⟩⟩)
theorem g_M_75 : GoodIn mt_tbl (wsV R_M 75 R_M y_M_performAll w_M_performAll) := mt_gi (List.forall_mem_cons.mpr ⟨ml_M_75, List.forall_mem_cons.mpr ⟨im_M_performAll, List.forall_mem_cons.mpr ⟨se_M_performAll, List.forall_mem_cons.mpr ⟨in_M, List.forall_mem_cons.mpr ⟨wc_M_performAll, fun _ h => h⟩⟩⟩⟩⟩)
theorem g_M_107 : GoodIn mt_tbl (wsV R_M 107 R_M y_M_perform w_M_perform) := mt_gi (List.forall_mem_cons.mpr ⟨ml_M_107, List.forall_mem_cons.mpr ⟨im_M_perform, List.forall_mem_cons.mpr ⟨se_M_perform, List.forall_mem_cons.mpr ⟨in_M, List.forall_mem_cons.mpr ⟨wc_M_perform, fun _ h => h⟩⟩⟩⟩⟩)
theorem g_M_114 : GoodIn mt_tbl (wsV R_M 114 R_M y_M_shift w_M_shift) := mt_gi (List.forall_mem_cons.mpr ⟨ml_M_114, List.forall_mem_cons.mpr ⟨im_M_shift, List.forall_mem_cons.mpr ⟨se_M_shift, List.forall_mem_cons.mpr ⟨in_M, List.forall_mem_cons.mpr ⟨wc_M_shift, fun _ h => h⟩⟩⟩⟩⟩)
theorem g_M_118 : GoodIn mt_tbl (wsV R_M 118 R_M y_M_lowHalf w_M_lowHalf) := mt_gi (List.forall_mem_cons.mpr ⟨ml_M_118, List.forall_mem_cons.mpr ⟨im_M_lowHalf, List.forall_mem_cons.mpr ⟨se_M_lowHalf, List.forall_mem_cons.mpr ⟨in_M, List.forall_mem_cons.mpr ⟨wc_M_lowHalf, fun _ h => h⟩⟩⟩⟩⟩)
theorem g_M_121 : GoodIn mt_tbl (wsV R_M 121 R_M y_M_addSerially w_M_addSerially) := mt_gi (List.forall_mem_cons.mpr ⟨ml_M_121, List.forall_mem_cons.mpr ⟨im_M_addSerially, List.forall_mem_cons.mpr ⟨se_M_addSerially, List.forall_mem_cons.mpr ⟨in_M, List.forall_mem_cons.mpr ⟨wc_M_addSerially, fun _ h => h⟩⟩⟩⟩⟩)
theorem g_M_125 : GoodIn mt_tbl (wsV R_M 125 R_M y_M_combine w_M_combine) := mt_gi (List.forall_mem_cons.mpr ⟨ml_M_125, List.forall_mem_cons.mpr ⟨im_M_combine, List.forall_mem_cons.mpr ⟨se_M_combine, List.forall_mem_cons.mpr ⟨in_M, List.forall_mem_cons.mpr ⟨wc_M_combine, fun _ h => h⟩⟩⟩⟩⟩)
theorem g_L_40 : GoodIn mt_tbl (wsV R_L 40 R_M y_M_next w_M_next) := mt_gi (List.forall_mem_cons.mpr ⟨ml_L_40, List.forall_mem_cons.mpr ⟨im_M_next, List.forall_mem_cons.mpr ⟨se_M_next, List.forall_mem_cons.mpr ⟨in_M, List.forall_mem_cons.mpr ⟨wc_M_next, fun _ h => h⟩⟩⟩⟩⟩)
theorem g_L_45 : GoodIn mt_tbl (wsV R_L 45 R_M y_M_total w_M_total) := mt_gi (List.forall_mem_cons.mpr ⟨ml_L_45, List.forall_mem_cons.mpr ⟨im_M_total, List.forall_mem_cons.mpr ⟨se_M_total, List.forall_mem_cons.mpr ⟨in_M, List.forall_mem_cons.mpr ⟨wc_M_total, fun _ h => h⟩⟩⟩⟩⟩)
theorem g_L_17 : GoodIn mt_tbl (wsV R_L 17 R_T y_T_emit w_T_emit) := mt_gi (List.forall_mem_cons.mpr ⟨ml_L_17, List.forall_mem_cons.mpr ⟨im_T_emit, List.forall_mem_cons.mpr ⟨se_T_emit, List.forall_mem_cons.mpr ⟨in_T, List.forall_mem_cons.mpr ⟨wc_T_emit, fun _ h => h⟩⟩⟩⟩⟩)
theorem g_L_21 : GoodIn mt_tbl (wsV R_L 21 R_T y_T_clear w_T_clear) := mt_gi (List.forall_mem_cons.mpr ⟨ml_L_21, List.forall_mem_cons.mpr ⟨im_T_clear, List.forall_mem_cons.mpr ⟨se_T_clear, List.forall_mem_cons.mpr ⟨in_T, List.forall_mem_cons.mpr ⟨wc_T_clear, fun _ h => h⟩⟩⟩⟩⟩)
theorem g_L_26 : GoodIn mt_tbl (wsV R_L 26 R_T y_T_set w_T_set) := mt_gi (List.forall_mem_cons.mpr ⟨ml_L_26, List.forall_mem_cons.mpr ⟨im_T_set, List.forall_mem_cons.mpr ⟨se_T_set, List.forall_mem_cons.mpr ⟨in_T, List.forall_mem_cons.mpr ⟨wc_T_set, fun _ h => h⟩⟩⟩⟩⟩)
theorem g_T_34 : GoodIn mt_tbl (wsS R_T 34 y_T_wrapped w_T_wrapped) := mt_gi (List.forall_mem_cons.mpr ⟨ml_T_34, List.forall_mem_cons.mpr ⟨sm_T_wrapped, List.forall_mem_cons.mpr ⟨in_T, List.forall_mem_cons.mpr ⟨wc_T_wrapped, fun _ h => h⟩⟩⟩⟩)
theorem g_L_31 : GoodIn mt_tbl (wsV R_L 31 R_T y_T_get w_T_get) := mt_gi (List.forall_mem_cons.mpr ⟨ml_L_31, List.forall_mem_cons.mpr ⟨im_T_get, List.forall_mem_cons.mpr ⟨se_T_get, List.forall_mem_cons.mpr ⟨in_T, List.forall_mem_cons.mpr ⟨wc_T_get, fun _ h => h⟩⟩⟩⟩⟩)
theorem g_L_35 : GoodIn mt_tbl (wsV R_L 35 R_T y_T_rewind w_T_rewind) := mt_gi (List.forall_mem_cons.mpr ⟨ml_L_35, List.forall_mem_cons.mpr ⟨im_T_rewind, List.forall_mem_cons.mpr ⟨se_T_rewind, List.forall_mem_cons.mpr ⟨in_T, List.forall_mem_cons.mpr ⟨wc_T_rewind, fun _ h => h⟩⟩⟩⟩⟩)
theorem g_L_39 : GoodIn mt_tbl (wsV R_L 39 R_T y_T_run w_T_run) := mt_gi (List.forall_mem_cons.mpr ⟨ml_L_39, List.forall_mem_cons.mpr ⟨im_T_run, List.forall_mem_cons.mpr ⟨se_T_run, List.forall_mem_cons.mpr ⟨in_T, List.forall_mem_cons.mpr ⟨wc_T_run, fun _ h => h⟩⟩⟩⟩⟩)
theorem g_T_64 : GoodIn mt_tbl (wsV R_T 64 R_T y_T_carryOut w_T_carryOut) := mt_gi (List.forall_mem_cons.mpr ⟨ml_T_64, List.forall_mem_cons.mpr ⟨im_T_carryOut, List.forall_mem_cons.mpr ⟨se_T_carryOut, List.forall_mem_cons.mpr ⟨in_T, List.forall_mem_cons.mpr ⟨wc_T_carryOut, fun _ h => h⟩⟩⟩⟩⟩)
theorem g_T_61 : GoodIn mt_tbl (wsV R_T 61 R_T y_T_result w_T_result) := mt_gi (List.forall_mem_cons.mpr ⟨ml_T_61, List.forall_mem_cons.mpr ⟨im_T_result, List.forall_mem_cons.mpr ⟨se_T_result, List.forall_mem_cons.mpr ⟨in_T, List.forall_mem_cons.mpr ⟨wc_T_result, fun _ h => h⟩⟩⟩⟩⟩)
theorem g_T_45 : GoodIn mt_tbl (wsS R_T 45 y_T_power w_T_power) := mt_gi (List.forall_mem_cons.mpr ⟨ml_T_45, List.forall_mem_cons.mpr ⟨sm_T_power, List.forall_mem_cons.mpr ⟨in_T, List.forall_mem_cons.mpr ⟨wc_T_power, fun _ h => h⟩⟩⟩⟩)
theorem g_T_48 : GoodIn mt_tbl (wsS R_T 48 y_T_plain w_T_plain) := mt_gi (List.forall_mem_cons.mpr ⟨ml_T_48, List.forall_mem_cons.mpr ⟨sm_T_plain, List.forall_mem_cons.mpr ⟨in_T, List.forall_mem_cons.mpr ⟨wc_T_plain, fun _ h => h⟩⟩⟩⟩)
theorem g_T_38 : GoodIn mt_tbl (wsS R_T 38 y_T_down w_T_down) := mt_gi (List.forall_mem_cons.mpr ⟨ml_T_38, List.forall_mem_cons.mpr ⟨sm_T_down, List.forall_mem_cons.mpr ⟨in_T, List.forall_mem_cons.mpr ⟨wc_T_down, fun _ h => h⟩⟩⟩⟩)
theorem g_T_51 : GoodIn mt_tbl (wsS R_T 51 y_T_root w_T_root) := mt_gi (List.forall_mem_cons.mpr ⟨ml_T_51, List.forall_mem_cons.mpr ⟨sm_T_root, List.forall_mem_cons.mpr ⟨in_T, List.forall_mem_cons.mpr ⟨wc_T_root, fun _ h => h⟩⟩⟩⟩)
theorem g_T_54 : GoodIn mt_tbl (wsS R_T 54 y_T_ones w_T_ones) := mt_gi (List.forall_mem_cons.mpr ⟨ml_T_54, List.forall_mem_cons.mpr ⟨sm_T_ones, List.forall_mem_cons.mpr ⟨in_T, List.forall_mem_cons.mpr ⟨wc_T_ones, fun _ h => h⟩⟩⟩⟩)
theorem g_T_57 : GoodIn mt_tbl (wsS R_T 57 y_T_two w_T_two) := mt_gi (List.forall_mem_cons.mpr ⟨ml_T_57, List.forall_mem_cons.mpr ⟨sm_T_two, List.forall_mem_cons.mpr ⟨in_T, List.forall_mem_cons.mpr ⟨wc_T_two, fun _ h => h⟩⟩⟩⟩)
theorem g_T_42 : GoodIn mt_tbl (wsS R_T 42 y_T_quotient w_T_quotient) := mt_gi (List.forall_mem_cons.mpr ⟨ml_T_42, List.forall_mem_cons.mpr ⟨sm_T_quotient, List.forall_mem_cons.mpr ⟨in_T, List.forall_mem_cons.mpr ⟨wc_T_quotient, fun _ h => h⟩⟩⟩⟩)
theorem g_L_44 : GoodIn mt_tbl (wsV R_L 44 R_T y_T_next w_T_next) := mt_gi (List.forall_mem_cons.mpr ⟨ml_L_44, List.forall_mem_cons.mpr ⟨im_T_next, List.forall_mem_cons.mpr ⟨se_T_next, List.forall_mem_cons.mpr ⟨in_T, List.forall_mem_cons.mpr ⟨wc_T_next, fun _ h => h⟩⟩⟩⟩⟩)
theorem g_L_48 : GoodIn mt_tbl (wsV R_L 48 R_T y_T_total w_T_total) := mt_gi (List.forall_mem_cons.mpr ⟨ml_L_48, List.forall_mem_cons.mpr ⟨im_T_total, List.forall_mem_cons.mpr ⟨se_T_total, List.forall_mem_cons.mpr ⟨in_T, List.forall_mem_cons.mpr ⟨wc_T_total, fun _ h => h⟩⟩⟩⟩⟩)
theorem g_M_init : GoodIn mt_tbl w_M_init := mt_gi (List.forall_mem_cons.mpr ⟨wc_M_init, fun _ h => h⟩)
theorem g_T_init : GoodIn mt_tbl w_T_init := mt_gi (List.forall_mem_cons.mpr ⟨wc_T_init, fun _ h => h⟩)
end
section
theorem d_M_init_0 : decode b_M_init 0 = .ok (.aload_n 0, 1) := by decide +kernel
theorem d_M_init_1 : decode b_M_init 1 = .ok (.invokespecial 1, 3) := by decide +kernel
theorem d_M_init_4 : decode b_M_init 4 = .ok (.aload_n 0, 1) := by decide +kernel
theorem d_M_init_5 : decode b_M_init 5 = .ok (.bipush 32, 2) := by decide +kernel
theorem d_M_init_7 : decode b_M_init 7 = .ok (.newarray .int, 2) := by decide +kernel
theorem d_M_init_9 : decode b_M_init 9 = .ok (.putfield 7, 3) := by decide +kernel
theorem d_M_init_12 : decode b_M_init 12 = .ok (.aload_n 0, 1) := by decide +kernel
theorem d_M_init_13 : decode b_M_init 13 = .ok (.bipush 32, 2) := by decide +kernel
theorem d_M_init_15 : decode b_M_init 15 = .ok (.newarray .int, 2) := by decide +kernel
theorem d_M_init_17 : decode b_M_init 17 = .ok (.putfield 13, 3) := by decide +kernel
theorem d_M_init_20 : decode b_M_init 20 = .ok (.aload_n 0, 1) := by decide +kernel
theorem d_M_init_21 : decode b_M_init 21 = .ok (.bipush 32, 2) := by decide +kernel
theorem d_M_init_23 : decode b_M_init 23 = .ok (.newarray .int, 2) := by decide +kernel
theorem d_M_init_25 : decode b_M_init 25 = .ok (.putfield 16, 3) := by decide +kernel
theorem d_M_init_28 : decode b_M_init 28 = .ok (.aload_n 0, 1) := by decide +kernel
theorem d_M_init_29 : decode b_M_init 29 = .ok (.bipush 32, 2) := by decide +kernel
theorem d_M_init_31 : decode b_M_init 31 = .ok (.newarray .int, 2) := by decide +kernel
theorem d_M_init_33 : decode b_M_init 33 = .ok (.putfield 19, 3) := by decide +kernel
theorem d_M_init_36 : decode b_M_init 36 = .ok (.aload_n 0, 1) := by decide +kernel
theorem d_M_init_37 : decode b_M_init 37 = .ok (.sipush 448, 3) := by decide +kernel
theorem d_M_init_40 : decode b_M_init 40 = .ok (.newarray .boolean, 2) := by decide +kernel
theorem d_M_init_42 : decode b_M_init 42 = .ok (.putfield 22, 3) := by decide +kernel
theorem d_M_init_45 : decode b_M_init 45 = .ok (.aload_n 0, 1) := by decide +kernel
theorem d_M_init_46 : decode b_M_init 46 = .ok (.bipush 32, 2) := by decide +kernel
theorem d_M_init_48 : decode b_M_init 48 = .ok (.newarray .boolean, 2) := by decide +kernel
theorem d_M_init_50 : decode b_M_init 50 = .ok (.putfield 26, 3) := by decide +kernel
theorem d_M_init_53 : decode b_M_init 53 = .ok (.aload_n 0, 1) := by decide +kernel
theorem d_M_init_54 : decode b_M_init 54 = .ok (.sipush 160, 3) := by decide +kernel
theorem d_M_init_57 : decode b_M_init 57 = .ok (.newarray .int, 2) := by decide +kernel
theorem d_M_init_59 : decode b_M_init 59 = .ok (.putfield 29, 3) := by decide +kernel
theorem d_M_init_62 : decode b_M_init 62 = .ok (.aload_n 0, 1) := by decide +kernel
theorem d_M_init_63 : decode b_M_init 63 = .ok (.sipush 160, 3) := by decide +kernel
theorem d_M_init_66 : decode b_M_init 66 = .ok (.newarray .int, 2) := by decide +kernel
theorem d_M_init_68 : decode b_M_init 68 = .ok (.putfield 32, 3) := by decide +kernel
theorem d_M_init_71 : decode b_M_init 71 = .ok (.aload_n 0, 1) := by decide +kernel
theorem d_M_init_72 : decode b_M_init 72 = .ok (.sipush 160, 3) := by decide +kernel
theorem d_M_init_75 : decode b_M_init 75 = .ok (.newarray .int, 2) := by decide +kernel
theorem d_M_init_77 : decode b_M_init 77 = .ok (.putfield 35, 3) := by decide +kernel
theorem d_M_init_80 : decode b_M_init 80 = .ok (.aload_n 0, 1) := by decide +kernel
theorem d_M_init_81 : decode b_M_init 81 = .ok (.sipush 160, 3) := by decide +kernel
theorem d_M_init_84 : decode b_M_init 84 = .ok (.newarray .int, 2) := by decide +kernel
theorem d_M_init_86 : decode b_M_init 86 = .ok (.putfield 38, 3) := by decide +kernel
theorem d_M_init_89 : decode b_M_init 89 = .ok (.aload_n 0, 1) := by decide +kernel
theorem d_M_init_90 : decode b_M_init 90 = .ok (.sipush 160, 3) := by decide +kernel
theorem d_M_init_93 : decode b_M_init 93 = .ok (.newarray .int, 2) := by decide +kernel
theorem d_M_init_95 : decode b_M_init 95 = .ok (.putfield 41, 3) := by decide +kernel
theorem d_M_init_98 : decode b_M_init 98 = .ok (.return_, 1) := by decide +kernel
theorem d_M_emit_0 : decode b_M_emit 0 = .ok (.iload_n 1, 1) := by decide +kernel
theorem d_M_emit_1 : decode b_M_emit 1 = .ok (.ifCond .lt 18, 3) := by decide +kernel
theorem d_M_emit_4 : decode b_M_emit 4 = .ok (.iload_n 1, 1) := by decide +kernel
theorem d_M_emit_5 : decode b_M_emit 5 = .ok (.bipush 18, 2) := by decide +kernel
theorem d_M_emit_7 : decode b_M_emit 7 = .ok (.if_icmp .gt 12, 3) := by decide +kernel
theorem d_M_emit_10 : decode b_M_emit 10 = .ok (.aload_n 0, 1) := by decide +kernel
theorem d_M_emit_11 : decode b_M_emit 11 = .ok (.getfield 44, 3) := by decide +kernel
theorem d_M_emit_14 : decode b_M_emit 14 = .ok (.bipush 32, 2) := by decide +kernel
theorem d_M_emit_16 : decode b_M_emit 16 = .ok (.if_icmp .lt 5, 3) := by decide +kernel
theorem d_M_emit_19 : decode b_M_emit 19 = .ok (.iconst (-1), 1) := by decide +kernel
theorem d_M_emit_20 : decode b_M_emit 20 = .ok (.ireturn, 1) := by decide +kernel
theorem d_M_emit_21 : decode b_M_emit 21 = .ok (.aload_n 0, 1) := by decide +kernel
theorem d_M_emit_22 : decode b_M_emit 22 = .ok (.getfield 7, 3) := by decide +kernel
theorem d_M_emit_25 : decode b_M_emit 25 = .ok (.aload_n 0, 1) := by decide +kernel
theorem d_M_emit_26 : decode b_M_emit 26 = .ok (.getfield 44, 3) := by decide +kernel
theorem d_M_emit_29 : decode b_M_emit 29 = .ok (.iload_n 1, 1) := by decide +kernel
theorem d_M_emit_30 : decode b_M_emit 30 = .ok (.iastore, 1) := by decide +kernel
theorem d_M_emit_31 : decode b_M_emit 31 = .ok (.aload_n 0, 1) := by decide +kernel
theorem d_M_emit_32 : decode b_M_emit 32 = .ok (.getfield 13, 3) := by decide +kernel
theorem d_M_emit_35 : decode b_M_emit 35 = .ok (.aload_n 0, 1) := by decide +kernel
theorem d_M_emit_36 : decode b_M_emit 36 = .ok (.getfield 44, 3) := by decide +kernel
theorem d_M_emit_39 : decode b_M_emit 39 = .ok (.iload_n 2, 1) := by decide +kernel
theorem d_M_emit_40 : decode b_M_emit 40 = .ok (.bipush 7, 2) := by decide +kernel
theorem d_M_emit_42 : decode b_M_emit 42 = .ok (.iand, 1) := by decide +kernel
theorem d_M_emit_43 : decode b_M_emit 43 = .ok (.iastore, 1) := by decide +kernel
theorem d_M_emit_44 : decode b_M_emit 44 = .ok (.aload_n 0, 1) := by decide +kernel
theorem d_M_emit_45 : decode b_M_emit 45 = .ok (.getfield 16, 3) := by decide +kernel
theorem d_M_emit_48 : decode b_M_emit 48 = .ok (.aload_n 0, 1) := by decide +kernel
theorem d_M_emit_49 : decode b_M_emit 49 = .ok (.getfield 44, 3) := by decide +kernel
theorem d_M_emit_52 : decode b_M_emit 52 = .ok (.iload_n 3, 1) := by decide +kernel
theorem d_M_emit_53 : decode b_M_emit 53 = .ok (.iastore, 1) := by decide +kernel
theorem d_M_emit_54 : decode b_M_emit 54 = .ok (.aload_n 0, 1) := by decide +kernel
theorem d_M_emit_55 : decode b_M_emit 55 = .ok (.getfield 19, 3) := by decide +kernel
theorem d_M_emit_58 : decode b_M_emit 58 = .ok (.aload_n 0, 1) := by decide +kernel
theorem d_M_emit_59 : decode b_M_emit 59 = .ok (.getfield 44, 3) := by decide +kernel
theorem d_M_emit_62 : decode b_M_emit 62 = .ok (.iload 4, 2) := by decide +kernel
theorem d_M_emit_64 : decode b_M_emit 64 = .ok (.iastore, 1) := by decide +kernel
theorem d_M_emit_65 : decode b_M_emit 65 = .ok (.aload_n 0, 1) := by decide +kernel
theorem d_M_emit_66 : decode b_M_emit 66 = .ok (.dup, 1) := by decide +kernel
theorem d_M_emit_67 : decode b_M_emit 67 = .ok (.getfield 44, 3) := by decide +kernel
theorem d_M_emit_70 : decode b_M_emit 70 = .ok (.iconst 1, 1) := by decide +kernel
theorem d_M_emit_71 : decode b_M_emit 71 = .ok (.iadd, 1) := by decide +kernel
theorem d_M_emit_72 : decode b_M_emit 72 = .ok (.putfield 44, 3) := by decide +kernel
theorem d_M_emit_75 : decode b_M_emit 75 = .ok (.aload_n 0, 1) := by decide +kernel
theorem d_M_emit_76 : decode b_M_emit 76 = .ok (.getfield 44, 3) := by decide +kernel
theorem d_M_emit_79 : decode b_M_emit 79 = .ok (.ireturn, 1) := by decide +kernel
theorem d_M_clear_0 : decode b_M_clear 0 = .ok (.aload_n 0, 1) := by decide +kernel
theorem d_M_clear_1 : decode b_M_clear 1 = .ok (.iconst 0, 1) := by decide +kernel
theorem d_M_clear_2 : decode b_M_clear 2 = .ok (.putfield 44, 3) := by decide +kernel
theorem d_M_clear_5 : decode b_M_clear 5 = .ok (.aload_n 0, 1) := by decide +kernel
theorem d_M_clear_6 : decode b_M_clear 6 = .ok (.iconst 0, 1) := by decide +kernel
theorem d_M_clear_7 : decode b_M_clear 7 = .ok (.putfield 48, 3) := by decide +kernel
theorem d_M_clear_10 : decode b_M_clear 10 = .ok (.return_, 1) := by decide +kernel
theorem d_M_set_0 : decode b_M_set 0 = .ok (.aload_n 0, 1) := by decide +kernel
theorem d_M_set_1 : decode b_M_set 1 = .ok (.bipush 8, 2) := by decide +kernel
theorem d_M_set_3 : decode b_M_set 3 = .ok (.iload_n 2, 1) := by decide +kernel
theorem d_M_set_4 : decode b_M_set 4 = .ok (.invokevirtual 51, 3) := by decide +kernel
theorem d_M_set_7 : decode b_M_set 7 = .ok (.aload_n 0, 1) := by decide +kernel
theorem d_M_set_8 : decode b_M_set 8 = .ok (.iload_n 1, 1) := by decide +kernel
theorem d_M_set_9 : decode b_M_set 9 = .ok (.bipush 7, 2) := by decide +kernel
theorem d_M_set_11 : decode b_M_set 11 = .ok (.iand, 1) := by decide +kernel
theorem d_M_set_12 : decode b_M_set 12 = .ok (.bipush 8, 2) := by decide +kernel
theorem d_M_set_14 : decode b_M_set 14 = .ok (.invokevirtual 55, 3) := by decide +kernel
theorem d_M_set_17 : decode b_M_set 17 = .ok (.return_, 1) := by decide +kernel
theorem d_M_get_0 : decode b_M_get 0 = .ok (.aload_n 0, 1) := by decide +kernel
theorem d_M_get_1 : decode b_M_get 1 = .ok (.iload_n 1, 1) := by decide +kernel
theorem d_M_get_2 : decode b_M_get 2 = .ok (.bipush 7, 2) := by decide +kernel
theorem d_M_get_4 : decode b_M_get 4 = .ok (.iand, 1) := by decide +kernel
theorem d_M_get_5 : decode b_M_get 5 = .ok (.invokevirtual 58, 3) := by decide +kernel
theorem d_M_get_8 : decode b_M_get 8 = .ok (.istore_n 2, 1) := by decide +kernel
theorem d_M_get_9 : decode b_M_get 9 = .ok (.iload_n 2, 1) := by decide +kernel
theorem d_M_get_10 : decode b_M_get 10 = .ok (.ldc 62, 2) := by decide +kernel
theorem d_M_get_12 : decode b_M_get 12 = .ok (.if_icmp .lt 10, 3) := by decide +kernel
theorem d_M_get_15 : decode b_M_get 15 = .ok (.iload_n 2, 1) := by decide +kernel
theorem d_M_get_16 : decode b_M_get 16 = .ok (.ldc 63, 2) := by decide +kernel
theorem d_M_get_18 : decode b_M_get 18 = .ok (.isub, 1) := by decide +kernel
theorem d_M_get_19 : decode b_M_get 19 = .ok (.goto 4, 3) := by decide +kernel
theorem d_M_get_22 : decode b_M_get 22 = .ok (.iload_n 2, 1) := by decide +kernel
theorem d_M_get_23 : decode b_M_get 23 = .ok (.ireturn, 1) := by decide +kernel
theorem d_M_rewind_0 : decode b_M_rewind 0 = .ok (.aload_n 0, 1) := by decide +kernel
theorem d_M_rewind_1 : decode b_M_rewind 1 = .ok (.iconst 0, 1) := by decide +kernel
theorem d_M_rewind_2 : decode b_M_rewind 2 = .ok (.putfield 48, 3) := by decide +kernel
theorem d_M_rewind_5 : decode b_M_rewind 5 = .ok (.return_, 1) := by decide +kernel
theorem d_M_run_0 : decode b_M_run 0 = .ok (.iload_n 1, 1) := by decide +kernel
theorem d_M_run_1 : decode b_M_run 1 = .ok (.ifCond .ge 7, 3) := by decide +kernel
theorem d_M_run_4 : decode b_M_run 4 = .ok (.iconst 0, 1) := by decide +kernel
theorem d_M_run_5 : decode b_M_run 5 = .ok (.goto 15, 3) := by decide +kernel
theorem d_M_run_8 : decode b_M_run 8 = .ok (.iload_n 1, 1) := by decide +kernel
theorem d_M_run_9 : decode b_M_run 9 = .ok (.bipush 60, 2) := by decide +kernel
theorem d_M_run_11 : decode b_M_run 11 = .ok (.if_icmp .le 8, 3) := by decide +kernel
theorem d_M_run_14 : decode b_M_run 14 = .ok (.bipush 60, 2) := by decide +kernel
theorem d_M_run_16 : decode b_M_run 16 = .ok (.goto 4, 3) := by decide +kernel
theorem d_M_run_19 : decode b_M_run 19 = .ok (.iload_n 1, 1) := by decide +kernel
theorem d_M_run_20 : decode b_M_run 20 = .ok (.istore_n 2, 1) := by decide +kernel
theorem d_M_run_21 : decode b_M_run 21 = .ok (.iconst 0, 1) := by decide +kernel
theorem d_M_run_22 : decode b_M_run 22 = .ok (.istore_n 3, 1) := by decide +kernel
theorem d_M_run_23 : decode b_M_run 23 = .ok (.iconst 0, 1) := by decide +kernel
theorem d_M_run_24 : decode b_M_run 24 = .ok (.istore 4, 2) := by decide +kernel
theorem d_M_run_26 : decode b_M_run 26 = .ok (.iload 4, 2) := by decide +kernel
theorem d_M_run_28 : decode b_M_run 28 = .ok (.iload_n 2, 1) := by decide +kernel
theorem d_M_run_29 : decode b_M_run 29 = .ok (.if_icmp .ge 31, 3) := by decide +kernel
theorem d_M_run_32 : decode b_M_run 32 = .ok (.aload_n 0, 1) := by decide +kernel
theorem d_M_run_33 : decode b_M_run 33 = .ok (.getfield 48, 3) := by decide +kernel
theorem d_M_run_36 : decode b_M_run 36 = .ok (.aload_n 0, 1) := by decide +kernel
theorem d_M_run_37 : decode b_M_run 37 = .ok (.getfield 44, 3) := by decide +kernel
theorem d_M_run_40 : decode b_M_run 40 = .ok (.if_icmp .ge 20, 3) := by decide +kernel
theorem d_M_run_43 : decode b_M_run 43 = .ok (.aload_n 0, 1) := by decide +kernel
theorem d_M_run_44 : decode b_M_run 44 = .ok (.aload_n 0, 1) := by decide +kernel
theorem d_M_run_45 : decode b_M_run 45 = .ok (.getfield 48, 3) := by decide +kernel
theorem d_M_run_48 : decode b_M_run 48 = .ok (.invokevirtual 64, 3) := by decide +kernel
theorem d_M_run_51 : decode b_M_run 51 = .ok (.iinc 3 1, 3) := by decide +kernel
theorem d_M_run_54 : decode b_M_run 54 = .ok (.iinc 4 1, 3) := by decide +kernel
theorem d_M_run_57 : decode b_M_run 57 = .ok (.goto (-31), 3) := by decide +kernel
theorem d_M_run_60 : decode b_M_run 60 = .ok (.iload_n 3, 1) := by decide +kernel
theorem d_M_run_61 : decode b_M_run 61 = .ok (.ireturn, 1) := by decide +kernel
theorem d_M_next_0 : decode b_M_next 0 = .ok (.aload_n 0, 1) := by decide +kernel
theorem d_M_next_1 : decode b_M_next 1 = .ok (.getfield 48, 3) := by decide +kernel
theorem d_M_next_4 : decode b_M_next 4 = .ok (.ireturn, 1) := by decide +kernel
theorem d_M_total_0 : decode b_M_total 0 = .ok (.iconst 0, 1) := by decide +kernel
theorem d_M_total_1 : decode b_M_total 1 = .ok (.istore_n 1, 1) := by decide +kernel
theorem d_M_total_2 : decode b_M_total 2 = .ok (.iconst 0, 1) := by decide +kernel
theorem d_M_total_3 : decode b_M_total 3 = .ok (.istore_n 2, 1) := by decide +kernel
theorem d_M_total_4 : decode b_M_total 4 = .ok (.iload_n 2, 1) := by decide +kernel
theorem d_M_total_5 : decode b_M_total 5 = .ok (.bipush 8, 2) := by decide +kernel
theorem d_M_total_7 : decode b_M_total 7 = .ok (.if_icmp .ge 17, 3) := by decide +kernel
theorem d_M_total_10 : decode b_M_total 10 = .ok (.iload_n 1, 1) := by decide +kernel
theorem d_M_total_11 : decode b_M_total 11 = .ok (.aload_n 0, 1) := by decide +kernel
theorem d_M_total_12 : decode b_M_total 12 = .ok (.iload_n 2, 1) := by decide +kernel
theorem d_M_total_13 : decode b_M_total 13 = .ok (.invokevirtual 58, 3) := by decide +kernel
theorem d_M_total_16 : decode b_M_total 16 = .ok (.iadd, 1) := by decide +kernel
theorem d_M_total_17 : decode b_M_total 17 = .ok (.istore_n 1, 1) := by decide +kernel
theorem d_M_total_18 : decode b_M_total 18 = .ok (.iinc 2 1, 3) := by decide +kernel
theorem d_M_total_21 : decode b_M_total 21 = .ok (.goto (-17), 3) := by decide +kernel
theorem d_M_total_24 : decode b_M_total 24 = .ok (.iload_n 1, 1) := by decide +kernel
theorem d_M_total_25 : decode b_M_total 25 = .ok (.ireturn, 1) := by decide +kernel
theorem d_M_unsigned_0 : decode b_M_unsigned 0 = .ok (.iconst 0, 1) := by decide +kernel
theorem d_M_unsigned_1 : decode b_M_unsigned 1 = .ok (.istore_n 2, 1) := by decide +kernel
theorem d_M_unsigned_2 : decode b_M_unsigned 2 = .ok (.bipush 15, 2) := by decide +kernel
theorem d_M_unsigned_4 : decode b_M_unsigned 4 = .ok (.istore_n 3, 1) := by decide +kernel
theorem d_M_unsigned_5 : decode b_M_unsigned 5 = .ok (.iload_n 3, 1) := by decide +kernel
theorem d_M_unsigned_6 : decode b_M_unsigned 6 = .ok (.ifCond .lt 33, 3) := by decide +kernel
theorem d_M_unsigned_9 : decode b_M_unsigned 9 = .ok (.iconst 2, 1) := by decide +kernel
theorem d_M_unsigned_10 : decode b_M_unsigned 10 = .ok (.iload_n 2, 1) := by decide +kernel
theorem d_M_unsigned_11 : decode b_M_unsigned 11 = .ok (.imul, 1) := by decide +kernel
theorem d_M_unsigned_12 : decode b_M_unsigned 12 = .ok (.aload_n 0, 1) := by decide +kernel
theorem d_M_unsigned_13 : decode b_M_unsigned 13 = .ok (.getfield 22, 3) := by decide +kernel
theorem d_M_unsigned_16 : decode b_M_unsigned 16 = .ok (.bipush 32, 2) := by decide +kernel
theorem d_M_unsigned_18 : decode b_M_unsigned 18 = .ok (.iload_n 1, 1) := by decide +kernel
theorem d_M_unsigned_19 : decode b_M_unsigned 19 = .ok (.imul, 1) := by decide +kernel
theorem d_M_unsigned_20 : decode b_M_unsigned 20 = .ok (.iload_n 3, 1) := by decide +kernel
theorem d_M_unsigned_21 : decode b_M_unsigned 21 = .ok (.iadd, 1) := by decide +kernel
theorem d_M_unsigned_22 : decode b_M_unsigned 22 = .ok (.baload, 1) := by decide +kernel
theorem d_M_unsigned_23 : decode b_M_unsigned 23 = .ok (.ifCond .eq 7, 3) := by decide +kernel
theorem d_M_unsigned_26 : decode b_M_unsigned 26 = .ok (.iconst 1, 1) := by decide +kernel
theorem d_M_unsigned_27 : decode b_M_unsigned 27 = .ok (.goto 4, 3) := by decide +kernel
theorem d_M_unsigned_30 : decode b_M_unsigned 30 = .ok (.iconst 0, 1) := by decide +kernel
theorem d_M_unsigned_31 : decode b_M_unsigned 31 = .ok (.iadd, 1) := by decide +kernel
theorem d_M_unsigned_32 : decode b_M_unsigned 32 = .ok (.istore_n 2, 1) := by decide +kernel
theorem d_M_unsigned_33 : decode b_M_unsigned 33 = .ok (.iinc 3 (-1), 3) := by decide +kernel
theorem d_M_unsigned_36 : decode b_M_unsigned 36 = .ok (.goto (-31), 3) := by decide +kernel
theorem d_M_unsigned_39 : decode b_M_unsigned 39 = .ok (.iload_n 2, 1) := by decide +kernel
theorem d_M_unsigned_40 : decode b_M_unsigned 40 = .ok (.ireturn, 1) := by decide +kernel
theorem d_M_carryOut_0 : decode b_M_carryOut 0 = .ok (.aload_n 0, 1) := by decide +kernel
theorem d_M_carryOut_1 : decode b_M_carryOut 1 = .ok (.getfield 7, 3) := by decide +kernel
theorem d_M_carryOut_4 : decode b_M_carryOut 4 = .ok (.iload_n 1, 1) := by decide +kernel
theorem d_M_carryOut_5 : decode b_M_carryOut 5 = .ok (.iaload, 1) := by decide +kernel
theorem d_M_carryOut_6 : decode b_M_carryOut 6 = .ok (.istore_n 2, 1) := by decide +kernel
theorem d_M_carryOut_7 : decode b_M_carryOut 7 = .ok (.iload_n 2, 1) := by decide +kernel
theorem d_M_carryOut_8 : decode b_M_carryOut 8 = .ok (.bipush 17, 2) := by decide +kernel
theorem d_M_carryOut_10 : decode b_M_carryOut 10 = .ok (.if_icmp .lt 92, 3) := by decide +kernel
theorem d_M_carryOut_13 : decode b_M_carryOut 13 = .ok (.aload_n 0, 1) := by decide +kernel
theorem d_M_carryOut_14 : decode b_M_carryOut 14 = .ok (.aload_n 0, 1) := by decide +kernel
theorem d_M_carryOut_15 : decode b_M_carryOut 15 = .ok (.getfield 16, 3) := by decide +kernel
theorem d_M_carryOut_18 : decode b_M_carryOut 18 = .ok (.iload_n 1, 1) := by decide +kernel
theorem d_M_carryOut_19 : decode b_M_carryOut 19 = .ok (.iaload, 1) := by decide +kernel
theorem d_M_carryOut_20 : decode b_M_carryOut 20 = .ok (.bipush 7, 2) := by decide +kernel
theorem d_M_carryOut_22 : decode b_M_carryOut 22 = .ok (.iand, 1) := by decide +kernel
theorem d_M_carryOut_23 : decode b_M_carryOut 23 = .ok (.invokevirtual 68, 3) := by decide +kernel
theorem d_M_carryOut_26 : decode b_M_carryOut 26 = .ok (.istore_n 3, 1) := by decide +kernel
theorem d_M_carryOut_27 : decode b_M_carryOut 27 = .ok (.iload_n 1, 1) := by decide +kernel
theorem d_M_carryOut_28 : decode b_M_carryOut 28 = .ok (.iconst 1, 1) := by decide +kernel
theorem d_M_carryOut_29 : decode b_M_carryOut 29 = .ok (.iadd, 1) := by decide +kernel
theorem d_M_carryOut_30 : decode b_M_carryOut 30 = .ok (.istore 4, 2) := by decide +kernel
theorem d_M_carryOut_32 : decode b_M_carryOut 32 = .ok (.iload_n 2, 1) := by decide +kernel
theorem d_M_carryOut_33 : decode b_M_carryOut 33 = .ok (.bipush 17, 2) := by decide +kernel
theorem d_M_carryOut_35 : decode b_M_carryOut 35 = .ok (.if_icmp .ne 24, 3) := by decide +kernel
theorem d_M_carryOut_38 : decode b_M_carryOut 38 = .ok (.iload_n 3, 1) := by decide +kernel
theorem d_M_carryOut_39 : decode b_M_carryOut 39 = .ok (.ifCond .eq 20, 3) := by decide +kernel
theorem d_M_carryOut_42 : decode b_M_carryOut 42 = .ok (.iload 4, 2) := by decide +kernel
theorem d_M_carryOut_44 : decode b_M_carryOut 44 = .ok (.aload_n 0, 1) := by decide +kernel
theorem d_M_carryOut_45 : decode b_M_carryOut 45 = .ok (.getfield 19, 3) := by decide +kernel
theorem d_M_carryOut_48 : decode b_M_carryOut 48 = .ok (.iload_n 1, 1) := by decide +kernel
theorem d_M_carryOut_49 : decode b_M_carryOut 49 = .ok (.iaload, 1) := by decide +kernel
theorem d_M_carryOut_50 : decode b_M_carryOut 50 = .ok (.bipush 7, 2) := by decide +kernel
theorem d_M_carryOut_52 : decode b_M_carryOut 52 = .ok (.iand, 1) := by decide +kernel
theorem d_M_carryOut_53 : decode b_M_carryOut 53 = .ok (.iadd, 1) := by decide +kernel
theorem d_M_carryOut_54 : decode b_M_carryOut 54 = .ok (.istore 4, 2) := by decide +kernel
theorem d_M_carryOut_56 : decode b_M_carryOut 56 = .ok (.goto 39, 3) := by decide +kernel
theorem d_M_carryOut_59 : decode b_M_carryOut 59 = .ok (.iload_n 2, 1) := by decide +kernel
theorem d_M_carryOut_60 : decode b_M_carryOut 60 = .ok (.bipush 18, 2) := by decide +kernel
theorem d_M_carryOut_62 : decode b_M_carryOut 62 = .ok (.if_icmp .ne 33, 3) := by decide +kernel
theorem d_M_carryOut_65 : decode b_M_carryOut 65 = .ok (.iload_n 3, 1) := by decide +kernel
theorem d_M_carryOut_66 : decode b_M_carryOut 66 = .ok (.ifCond .ne 29, 3) := by decide +kernel
theorem d_M_carryOut_69 : decode b_M_carryOut 69 = .ok (.iload_n 1, 1) := by decide +kernel
theorem d_M_carryOut_70 : decode b_M_carryOut 70 = .ok (.aload_n 0, 1) := by decide +kernel
theorem d_M_carryOut_71 : decode b_M_carryOut 71 = .ok (.getfield 19, 3) := by decide +kernel
theorem d_M_carryOut_74 : decode b_M_carryOut 74 = .ok (.iload_n 1, 1) := by decide +kernel
theorem d_M_carryOut_75 : decode b_M_carryOut 75 = .ok (.iaload, 1) := by decide +kernel
theorem d_M_carryOut_76 : decode b_M_carryOut 76 = .ok (.bipush 31, 2) := by decide +kernel
theorem d_M_carryOut_78 : decode b_M_carryOut 78 = .ok (.iand, 1) := by decide +kernel
theorem d_M_carryOut_79 : decode b_M_carryOut 79 = .ok (.isub, 1) := by decide +kernel
theorem d_M_carryOut_80 : decode b_M_carryOut 80 = .ok (.istore 5, 2) := by decide +kernel
theorem d_M_carryOut_82 : decode b_M_carryOut 82 = .ok (.iload 5, 2) := by decide +kernel
theorem d_M_carryOut_84 : decode b_M_carryOut 84 = .ok (.ifCond .ge 7, 3) := by decide +kernel
theorem d_M_carryOut_87 : decode b_M_carryOut 87 = .ok (.iconst 0, 1) := by decide +kernel
theorem d_M_carryOut_88 : decode b_M_carryOut 88 = .ok (.goto 5, 3) := by decide +kernel
theorem d_M_carryOut_91 : decode b_M_carryOut 91 = .ok (.iload 5, 2) := by decide +kernel
theorem d_M_carryOut_93 : decode b_M_carryOut 93 = .ok (.istore 4, 2) := by decide +kernel
theorem d_M_carryOut_95 : decode b_M_carryOut 95 = .ok (.aload_n 0, 1) := by decide +kernel
theorem d_M_carryOut_96 : decode b_M_carryOut 96 = .ok (.iload 4, 2) := by decide +kernel
theorem d_M_carryOut_98 : decode b_M_carryOut 98 = .ok (.putfield 48, 3) := by decide +kernel
theorem d_M_carryOut_101 : decode b_M_carryOut 101 = .ok (.return_, 1) := by decide +kernel
theorem d_M_carryOut_102 : decode b_M_carryOut 102 = .ok (.aload_n 0, 1) := by decide +kernel
theorem d_M_carryOut_103 : decode b_M_carryOut 103 = .ok (.iload_n 1, 1) := by decide +kernel
theorem d_M_carryOut_104 : decode b_M_carryOut 104 = .ok (.invokevirtual 72, 3) := by decide +kernel
theorem d_M_carryOut_107 : decode b_M_carryOut 107 = .ok (.aload_n 0, 1) := by decide +kernel
theorem d_M_carryOut_108 : decode b_M_carryOut 108 = .ok (.invokevirtual 75, 3) := by decide +kernel
theorem d_M_carryOut_111 : decode b_M_carryOut 111 = .ok (.aload_n 0, 1) := by decide +kernel
theorem d_M_carryOut_112 : decode b_M_carryOut 112 = .ok (.iload_n 1, 1) := by decide +kernel
theorem d_M_carryOut_113 : decode b_M_carryOut 113 = .ok (.iconst 1, 1) := by decide +kernel
theorem d_M_carryOut_114 : decode b_M_carryOut 114 = .ok (.iadd, 1) := by decide +kernel
theorem d_M_carryOut_115 : decode b_M_carryOut 115 = .ok (.putfield 48, 3) := by decide +kernel
theorem d_M_carryOut_118 : decode b_M_carryOut 118 = .ok (.return_, 1) := by decide +kernel
theorem d_M_step_0 : decode b_M_step 0 = .ok (.aload_n 0, 1) := by decide +kernel
theorem d_M_step_1 : decode b_M_step 1 = .ok (.getfield 29, 3) := by decide +kernel
theorem d_M_step_4 : decode b_M_step 4 = .ok (.aload_n 0, 1) := by decide +kernel
theorem d_M_step_5 : decode b_M_step 5 = .ok (.getfield 78, 3) := by decide +kernel
theorem d_M_step_8 : decode b_M_step 8 = .ok (.iload_n 1, 1) := by decide +kernel
theorem d_M_step_9 : decode b_M_step 9 = .ok (.iastore, 1) := by decide +kernel
theorem d_M_step_10 : decode b_M_step 10 = .ok (.aload_n 0, 1) := by decide +kernel
theorem d_M_step_11 : decode b_M_step 11 = .ok (.getfield 32, 3) := by decide +kernel
theorem d_M_step_14 : decode b_M_step 14 = .ok (.aload_n 0, 1) := by decide +kernel
theorem d_M_step_15 : decode b_M_step 15 = .ok (.getfield 78, 3) := by decide +kernel
theorem d_M_step_18 : decode b_M_step 18 = .ok (.iload_n 2, 1) := by decide +kernel
theorem d_M_step_19 : decode b_M_step 19 = .ok (.iastore, 1) := by decide +kernel
theorem d_M_step_20 : decode b_M_step 20 = .ok (.aload_n 0, 1) := by decide +kernel
theorem d_M_step_21 : decode b_M_step 21 = .ok (.getfield 35, 3) := by decide +kernel
theorem d_M_step_24 : decode b_M_step 24 = .ok (.aload_n 0, 1) := by decide +kernel
theorem d_M_step_25 : decode b_M_step 25 = .ok (.getfield 78, 3) := by decide +kernel
theorem d_M_step_28 : decode b_M_step 28 = .ok (.iload_n 3, 1) := by decide +kernel
theorem d_M_step_29 : decode b_M_step 29 = .ok (.iastore, 1) := by decide +kernel
theorem d_M_step_30 : decode b_M_step 30 = .ok (.aload_n 0, 1) := by decide +kernel
theorem d_M_step_31 : decode b_M_step 31 = .ok (.getfield 38, 3) := by decide +kernel
theorem d_M_step_34 : decode b_M_step 34 = .ok (.aload_n 0, 1) := by decide +kernel
theorem d_M_step_35 : decode b_M_step 35 = .ok (.getfield 78, 3) := by decide +kernel
theorem d_M_step_38 : decode b_M_step 38 = .ok (.iload 4, 2) := by decide +kernel
theorem d_M_step_40 : decode b_M_step 40 = .ok (.iastore, 1) := by decide +kernel
theorem d_M_step_41 : decode b_M_step 41 = .ok (.aload_n 0, 1) := by decide +kernel
theorem d_M_step_42 : decode b_M_step 42 = .ok (.getfield 41, 3) := by decide +kernel
theorem d_M_step_45 : decode b_M_step 45 = .ok (.aload_n 0, 1) := by decide +kernel
theorem d_M_step_46 : decode b_M_step 46 = .ok (.getfield 78, 3) := by decide +kernel
theorem d_M_step_49 : decode b_M_step 49 = .ok (.iload 5, 2) := by decide +kernel
theorem d_M_step_51 : decode b_M_step 51 = .ok (.iastore, 1) := by decide +kernel
theorem d_M_step_52 : decode b_M_step 52 = .ok (.aload_n 0, 1) := by decide +kernel
theorem d_M_step_53 : decode b_M_step 53 = .ok (.dup, 1) := by decide +kernel
theorem d_M_step_54 : decode b_M_step 54 = .ok (.getfield 78, 3) := by decide +kernel
theorem d_M_step_57 : decode b_M_step 57 = .ok (.iconst 1, 1) := by decide +kernel
theorem d_M_step_58 : decode b_M_step 58 = .ok (.iadd, 1) := by decide +kernel
theorem d_M_step_59 : decode b_M_step 59 = .ok (.putfield 78, 3) := by decide +kernel
theorem d_M_step_62 : decode b_M_step 62 = .ok (.return_, 1) := by decide +kernel
theorem d_M_translate_0 : decode b_M_translate 0 = .ok (.aload_n 0, 1) := by decide +kernel
theorem d_M_translate_1 : decode b_M_translate 1 = .ok (.iconst 0, 1) := by decide +kernel
theorem d_M_translate_2 : decode b_M_translate 2 = .ok (.putfield 78, 3) := by decide +kernel
theorem d_M_translate_5 : decode b_M_translate 5 = .ok (.aload_n 0, 1) := by decide +kernel
theorem d_M_translate_6 : decode b_M_translate 6 = .ok (.getfield 7, 3) := by decide +kernel
theorem d_M_translate_9 : decode b_M_translate 9 = .ok (.iload_n 1, 1) := by decide +kernel
theorem d_M_translate_10 : decode b_M_translate 10 = .ok (.iaload, 1) := by decide +kernel
theorem d_M_translate_11 : decode b_M_translate 11 = .ok (.istore_n 2, 1) := by decide +kernel
theorem d_M_translate_12 : decode b_M_translate 12 = .ok (.aload_n 0, 1) := by decide +kernel
theorem d_M_translate_13 : decode b_M_translate 13 = .ok (.getfield 13, 3) := by decide +kernel
theorem d_M_translate_16 : decode b_M_translate 16 = .ok (.iload_n 1, 1) := by decide +kernel
theorem d_M_translate_17 : decode b_M_translate 17 = .ok (.iaload, 1) := by decide +kernel
theorem d_M_translate_18 : decode b_M_translate 18 = .ok (.istore_n 3, 1) := by decide +kernel
theorem d_M_translate_19 : decode b_M_translate 19 = .ok (.aload_n 0, 1) := by decide +kernel
theorem d_M_translate_20 : decode b_M_translate 20 = .ok (.getfield 16, 3) := by decide +kernel
theorem d_M_translate_23 : decode b_M_translate 23 = .ok (.iload_n 1, 1) := by decide +kernel
theorem d_M_translate_24 : decode b_M_translate 24 = .ok (.iaload, 1) := by decide +kernel
theorem d_M_translate_25 : decode b_M_translate 25 = .ok (.bipush 7, 2) := by decide +kernel
theorem d_M_translate_27 : decode b_M_translate 27 = .ok (.iand, 1) := by decide +kernel
theorem d_M_translate_28 : decode b_M_translate 28 = .ok (.istore 4, 2) := by decide +kernel
theorem d_M_translate_30 : decode b_M_translate 30 = .ok (.aload_n 0, 1) := by decide +kernel
theorem d_M_translate_31 : decode b_M_translate 31 = .ok (.getfield 19, 3) := by decide +kernel
theorem d_M_translate_34 : decode b_M_translate 34 = .ok (.iload_n 1, 1) := by decide +kernel
theorem d_M_translate_35 : decode b_M_translate 35 = .ok (.iaload, 1) := by decide +kernel
theorem d_M_translate_36 : decode b_M_translate 36 = .ok (.bipush 7, 2) := by decide +kernel
theorem d_M_translate_38 : decode b_M_translate 38 = .ok (.iand, 1) := by decide +kernel
theorem d_M_translate_39 : decode b_M_translate 39 = .ok (.istore 5, 2) := by decide +kernel
theorem d_M_translate_41 : decode b_M_translate 41 = .ok (.aload_n 0, 1) := by decide +kernel
theorem d_M_translate_42 : decode b_M_translate 42 = .ok (.getfield 19, 3) := by decide +kernel
theorem d_M_translate_45 : decode b_M_translate 45 = .ok (.iload_n 1, 1) := by decide +kernel
theorem d_M_translate_46 : decode b_M_translate 46 = .ok (.iaload, 1) := by decide +kernel
theorem d_M_translate_47 : decode b_M_translate 47 = .ok (.bipush 15, 2) := by decide +kernel
theorem d_M_translate_49 : decode b_M_translate 49 = .ok (.iand, 1) := by decide +kernel
theorem d_M_translate_50 : decode b_M_translate 50 = .ok (.istore 6, 2) := by decide +kernel
theorem d_M_translate_52 : decode b_M_translate 52 = .ok (.iload_n 2, 1) := by decide +kernel
theorem d_M_translate_53 : decode b_M_translate 53 = .ok (.ifCond .ne 33, 3) := by decide +kernel
theorem d_M_translate_56 : decode b_M_translate 56 = .ok (.aload_n 0, 1) := by decide +kernel
theorem d_M_translate_57 : decode b_M_translate 57 = .ok (.bipush 11, 2) := by decide +kernel
theorem d_M_translate_59 : decode b_M_translate 59 = .ok (.bipush 8, 2) := by decide +kernel
theorem d_M_translate_61 : decode b_M_translate 61 = .ok (.iconst 0, 1) := by decide +kernel
theorem d_M_translate_62 : decode b_M_translate 62 = .ok (.aload_n 0, 1) := by decide +kernel
theorem d_M_translate_63 : decode b_M_translate 63 = .ok (.getfield 16, 3) := by decide +kernel
theorem d_M_translate_66 : decode b_M_translate 66 = .ok (.iload_n 1, 1) := by decide +kernel
end
section
theorem d_M_translate_67 : decode b_M_translate 67 = .ok (.iaload, 1) := by decide +kernel
theorem d_M_translate_68 : decode b_M_translate 68 = .ok (.iconst 0, 1) := by decide +kernel
theorem d_M_translate_69 : decode b_M_translate 69 = .ok (.invokevirtual 81, 3) := by decide +kernel
theorem d_M_translate_72 : decode b_M_translate 72 = .ok (.aload_n 0, 1) := by decide +kernel
theorem d_M_translate_73 : decode b_M_translate 73 = .ok (.bipush 6, 2) := by decide +kernel
theorem d_M_translate_75 : decode b_M_translate 75 = .ok (.iload_n 3, 1) := by decide +kernel
theorem d_M_translate_76 : decode b_M_translate 76 = .ok (.bipush 8, 2) := by decide +kernel
theorem d_M_translate_78 : decode b_M_translate 78 = .ok (.iconst 0, 1) := by decide +kernel
theorem d_M_translate_79 : decode b_M_translate 79 = .ok (.iconst 0, 1) := by decide +kernel
theorem d_M_translate_80 : decode b_M_translate 80 = .ok (.invokevirtual 81, 3) := by decide +kernel
theorem d_M_translate_83 : decode b_M_translate 83 = .ok (.goto 311, 3) := by decide +kernel
theorem d_M_translate_86 : decode b_M_translate 86 = .ok (.iload_n 2, 1) := by decide +kernel
theorem d_M_translate_87 : decode b_M_translate 87 = .ok (.iconst 1, 1) := by decide +kernel
theorem d_M_translate_88 : decode b_M_translate 88 = .ok (.if_icmp .ne 17, 3) := by decide +kernel
theorem d_M_translate_91 : decode b_M_translate 91 = .ok (.aload_n 0, 1) := by decide +kernel
theorem d_M_translate_92 : decode b_M_translate 92 = .ok (.bipush 6, 2) := by decide +kernel
theorem d_M_translate_94 : decode b_M_translate 94 = .ok (.iload_n 3, 1) := by decide +kernel
theorem d_M_translate_95 : decode b_M_translate 95 = .ok (.iload 4, 2) := by decide +kernel
theorem d_M_translate_97 : decode b_M_translate 97 = .ok (.iconst 0, 1) := by decide +kernel
theorem d_M_translate_98 : decode b_M_translate 98 = .ok (.iconst 0, 1) := by decide +kernel
theorem d_M_translate_99 : decode b_M_translate 99 = .ok (.invokevirtual 81, 3) := by decide +kernel
theorem d_M_translate_102 : decode b_M_translate 102 = .ok (.goto 292, 3) := by decide +kernel
theorem d_M_translate_105 : decode b_M_translate 105 = .ok (.iload_n 2, 1) := by decide +kernel
theorem d_M_translate_106 : decode b_M_translate 106 = .ok (.iconst 2, 1) := by decide +kernel
theorem d_M_translate_107 : decode b_M_translate 107 = .ok (.if_icmp .eq 8, 3) := by decide +kernel
theorem d_M_translate_110 : decode b_M_translate 110 = .ok (.iload_n 2, 1) := by decide +kernel
theorem d_M_translate_111 : decode b_M_translate 111 = .ok (.iconst 3, 1) := by decide +kernel
theorem d_M_translate_112 : decode b_M_translate 112 = .ok (.if_icmp .ne 38, 3) := by decide +kernel
theorem d_M_translate_115 : decode b_M_translate 115 = .ok (.aload_n 0, 1) := by decide +kernel
theorem d_M_translate_116 : decode b_M_translate 116 = .ok (.iload_n 2, 1) := by decide +kernel
theorem d_M_translate_117 : decode b_M_translate 117 = .ok (.iconst 2, 1) := by decide +kernel
theorem d_M_translate_118 : decode b_M_translate 118 = .ok (.if_icmp .ne 7, 3) := by decide +kernel
theorem d_M_translate_121 : decode b_M_translate 121 = .ok (.iconst 1, 1) := by decide +kernel
theorem d_M_translate_122 : decode b_M_translate 122 = .ok (.goto 4, 3) := by decide +kernel
theorem d_M_translate_125 : decode b_M_translate 125 = .ok (.iconst 2, 1) := by decide +kernel
theorem d_M_translate_126 : decode b_M_translate 126 = .ok (.bipush 8, 2) := by decide +kernel
theorem d_M_translate_128 : decode b_M_translate 128 = .ok (.iload 4, 2) := by decide +kernel
theorem d_M_translate_130 : decode b_M_translate 130 = .ok (.iload 5, 2) := by decide +kernel
theorem d_M_translate_132 : decode b_M_translate 132 = .ok (.iconst 0, 1) := by decide +kernel
theorem d_M_translate_133 : decode b_M_translate 133 = .ok (.invokevirtual 81, 3) := by decide +kernel
theorem d_M_translate_136 : decode b_M_translate 136 = .ok (.aload_n 0, 1) := by decide +kernel
theorem d_M_translate_137 : decode b_M_translate 137 = .ok (.bipush 6, 2) := by decide +kernel
theorem d_M_translate_139 : decode b_M_translate 139 = .ok (.iload_n 3, 1) := by decide +kernel
theorem d_M_translate_140 : decode b_M_translate 140 = .ok (.bipush 8, 2) := by decide +kernel
theorem d_M_translate_142 : decode b_M_translate 142 = .ok (.iconst 0, 1) := by decide +kernel
theorem d_M_translate_143 : decode b_M_translate 143 = .ok (.iconst 0, 1) := by decide +kernel
theorem d_M_translate_144 : decode b_M_translate 144 = .ok (.invokevirtual 81, 3) := by decide +kernel
theorem d_M_translate_147 : decode b_M_translate 147 = .ok (.goto 247, 3) := by decide +kernel
theorem d_M_translate_150 : decode b_M_translate 150 = .ok (.iload_n 2, 1) := by decide +kernel
theorem d_M_translate_151 : decode b_M_translate 151 = .ok (.iconst 4, 1) := by decide +kernel
theorem d_M_translate_152 : decode b_M_translate 152 = .ok (.if_icmp .eq 8, 3) := by decide +kernel
theorem d_M_translate_155 : decode b_M_translate 155 = .ok (.iload_n 2, 1) := by decide +kernel
theorem d_M_translate_156 : decode b_M_translate 156 = .ok (.iconst 5, 1) := by decide +kernel
theorem d_M_translate_157 : decode b_M_translate 157 = .ok (.if_icmp .ne 46, 3) := by decide +kernel
theorem d_M_translate_160 : decode b_M_translate 160 = .ok (.aload_n 0, 1) := by decide +kernel
theorem d_M_translate_161 : decode b_M_translate 161 = .ok (.iload 4, 2) := by decide +kernel
theorem d_M_translate_163 : decode b_M_translate 163 = .ok (.iload 5, 2) := by decide +kernel
theorem d_M_translate_165 : decode b_M_translate 165 = .ok (.invokevirtual 85, 3) := by decide +kernel
theorem d_M_translate_168 : decode b_M_translate 168 = .ok (.aload_n 0, 1) := by decide +kernel
theorem d_M_translate_169 : decode b_M_translate 169 = .ok (.iconst 0, 1) := by decide +kernel
theorem d_M_translate_170 : decode b_M_translate 170 = .ok (.bipush 10, 2) := by decide +kernel
theorem d_M_translate_172 : decode b_M_translate 172 = .ok (.bipush 10, 2) := by decide +kernel
theorem d_M_translate_174 : decode b_M_translate 174 = .ok (.iload_n 2, 1) := by decide +kernel
theorem d_M_translate_175 : decode b_M_translate 175 = .ok (.iconst 4, 1) := by decide +kernel
theorem d_M_translate_176 : decode b_M_translate 176 = .ok (.if_icmp .ne 7, 3) := by decide +kernel
theorem d_M_translate_179 : decode b_M_translate 179 = .ok (.iconst 0, 1) := by decide +kernel
theorem d_M_translate_180 : decode b_M_translate 180 = .ok (.goto 5, 3) := by decide +kernel
theorem d_M_translate_183 : decode b_M_translate 183 = .ok (.bipush (-16), 2) := by decide +kernel
theorem d_M_translate_185 : decode b_M_translate 185 = .ok (.iconst 0, 1) := by decide +kernel
theorem d_M_translate_186 : decode b_M_translate 186 = .ok (.invokevirtual 81, 3) := by decide +kernel
theorem d_M_translate_189 : decode b_M_translate 189 = .ok (.aload_n 0, 1) := by decide +kernel
theorem d_M_translate_190 : decode b_M_translate 190 = .ok (.bipush 6, 2) := by decide +kernel
theorem d_M_translate_192 : decode b_M_translate 192 = .ok (.iload_n 3, 1) := by decide +kernel
theorem d_M_translate_193 : decode b_M_translate 193 = .ok (.bipush 10, 2) := by decide +kernel
theorem d_M_translate_195 : decode b_M_translate 195 = .ok (.iconst 0, 1) := by decide +kernel
theorem d_M_translate_196 : decode b_M_translate 196 = .ok (.iconst 0, 1) := by decide +kernel
theorem d_M_translate_197 : decode b_M_translate 197 = .ok (.invokevirtual 81, 3) := by decide +kernel
theorem d_M_translate_200 : decode b_M_translate 200 = .ok (.goto 194, 3) := by decide +kernel
theorem d_M_translate_203 : decode b_M_translate 203 = .ok (.iload_n 2, 1) := by decide +kernel
theorem d_M_translate_204 : decode b_M_translate 204 = .ok (.bipush 6, 2) := by decide +kernel
theorem d_M_translate_206 : decode b_M_translate 206 = .ok (.if_icmp .eq 9, 3) := by decide +kernel
theorem d_M_translate_209 : decode b_M_translate 209 = .ok (.iload_n 2, 1) := by decide +kernel
theorem d_M_translate_210 : decode b_M_translate 210 = .ok (.bipush 7, 2) := by decide +kernel
theorem d_M_translate_212 : decode b_M_translate 212 = .ok (.if_icmp .ne 24, 3) := by decide +kernel
theorem d_M_translate_215 : decode b_M_translate 215 = .ok (.aload_n 0, 1) := by decide +kernel
theorem d_M_translate_216 : decode b_M_translate 216 = .ok (.iload 4, 2) := by decide +kernel
theorem d_M_translate_218 : decode b_M_translate 218 = .ok (.iload 5, 2) := by decide +kernel
theorem d_M_translate_220 : decode b_M_translate 220 = .ok (.invokevirtual 88, 3) := by decide +kernel
theorem d_M_translate_223 : decode b_M_translate 223 = .ok (.aload_n 0, 1) := by decide +kernel
theorem d_M_translate_224 : decode b_M_translate 224 = .ok (.iload_n 2, 1) := by decide +kernel
theorem d_M_translate_225 : decode b_M_translate 225 = .ok (.iload_n 3, 1) := by decide +kernel
theorem d_M_translate_226 : decode b_M_translate 226 = .ok (.iload 4, 2) := by decide +kernel
theorem d_M_translate_228 : decode b_M_translate 228 = .ok (.iload 5, 2) := by decide +kernel
theorem d_M_translate_230 : decode b_M_translate 230 = .ok (.invokevirtual 91, 3) := by decide +kernel
theorem d_M_translate_233 : decode b_M_translate 233 = .ok (.goto 161, 3) := by decide +kernel
theorem d_M_translate_236 : decode b_M_translate 236 = .ok (.iload_n 2, 1) := by decide +kernel
theorem d_M_translate_237 : decode b_M_translate 237 = .ok (.bipush 10, 2) := by decide +kernel
theorem d_M_translate_239 : decode b_M_translate 239 = .ok (.if_icmp .gt 49, 3) := by decide +kernel
theorem d_M_translate_242 : decode b_M_translate 242 = .ok (.aload_n 0, 1) := by decide +kernel
theorem d_M_translate_243 : decode b_M_translate 243 = .ok (.iload_n 2, 1) := by decide +kernel
theorem d_M_translate_244 : decode b_M_translate 244 = .ok (.bipush 8, 2) := by decide +kernel
theorem d_M_translate_246 : decode b_M_translate 246 = .ok (.if_icmp .ne 7, 3) := by decide +kernel
theorem d_M_translate_249 : decode b_M_translate 249 = .ok (.iconst 3, 1) := by decide +kernel
theorem d_M_translate_250 : decode b_M_translate 250 = .ok (.goto 14, 3) := by decide +kernel
theorem d_M_translate_253 : decode b_M_translate 253 = .ok (.iload_n 2, 1) := by decide +kernel
theorem d_M_translate_254 : decode b_M_translate 254 = .ok (.bipush 9, 2) := by decide +kernel
theorem d_M_translate_256 : decode b_M_translate 256 = .ok (.if_icmp .ne 7, 3) := by decide +kernel
theorem d_M_translate_259 : decode b_M_translate 259 = .ok (.iconst 4, 1) := by decide +kernel
theorem d_M_translate_260 : decode b_M_translate 260 = .ok (.goto 4, 3) := by decide +kernel
theorem d_M_translate_263 : decode b_M_translate 263 = .ok (.iconst 5, 1) := by decide +kernel
theorem d_M_translate_264 : decode b_M_translate 264 = .ok (.bipush 8, 2) := by decide +kernel
theorem d_M_translate_266 : decode b_M_translate 266 = .ok (.iload 4, 2) := by decide +kernel
theorem d_M_translate_268 : decode b_M_translate 268 = .ok (.iload 5, 2) := by decide +kernel
theorem d_M_translate_270 : decode b_M_translate 270 = .ok (.iconst 0, 1) := by decide +kernel
theorem d_M_translate_271 : decode b_M_translate 271 = .ok (.invokevirtual 81, 3) := by decide +kernel
theorem d_M_translate_274 : decode b_M_translate 274 = .ok (.aload_n 0, 1) := by decide +kernel
theorem d_M_translate_275 : decode b_M_translate 275 = .ok (.bipush 6, 2) := by decide +kernel
theorem d_M_translate_277 : decode b_M_translate 277 = .ok (.iload_n 3, 1) := by decide +kernel
theorem d_M_translate_278 : decode b_M_translate 278 = .ok (.bipush 8, 2) := by decide +kernel
theorem d_M_translate_280 : decode b_M_translate 280 = .ok (.iconst 0, 1) := by decide +kernel
theorem d_M_translate_281 : decode b_M_translate 281 = .ok (.iconst 0, 1) := by decide +kernel
theorem d_M_translate_282 : decode b_M_translate 282 = .ok (.invokevirtual 81, 3) := by decide +kernel
theorem d_M_translate_285 : decode b_M_translate 285 = .ok (.goto 109, 3) := by decide +kernel
theorem d_M_translate_288 : decode b_M_translate 288 = .ok (.iload_n 2, 1) := by decide +kernel
theorem d_M_translate_289 : decode b_M_translate 289 = .ok (.bipush 12, 2) := by decide +kernel
theorem d_M_translate_291 : decode b_M_translate 291 = .ok (.if_icmp .gt 41, 3) := by decide +kernel
theorem d_M_translate_294 : decode b_M_translate 294 = .ok (.aload_n 0, 1) := by decide +kernel
theorem d_M_translate_295 : decode b_M_translate 295 = .ok (.iconst 0, 1) := by decide +kernel
theorem d_M_translate_296 : decode b_M_translate 296 = .ok (.bipush 8, 2) := by decide +kernel
theorem d_M_translate_298 : decode b_M_translate 298 = .ok (.iload 4, 2) := by decide +kernel
theorem d_M_translate_300 : decode b_M_translate 300 = .ok (.iload_n 2, 1) := by decide +kernel
theorem d_M_translate_301 : decode b_M_translate 301 = .ok (.bipush 11, 2) := by decide +kernel
theorem d_M_translate_303 : decode b_M_translate 303 = .ok (.if_icmp .ne 8, 3) := by decide +kernel
theorem d_M_translate_306 : decode b_M_translate 306 = .ok (.iload 6, 2) := by decide +kernel
theorem d_M_translate_308 : decode b_M_translate 308 = .ok (.goto 6, 3) := by decide +kernel
theorem d_M_translate_311 : decode b_M_translate 311 = .ok (.iload 6, 2) := by decide +kernel
theorem d_M_translate_313 : decode b_M_translate 313 = .ok (.ineg, 1) := by decide +kernel
theorem d_M_translate_314 : decode b_M_translate 314 = .ok (.iconst 0, 1) := by decide +kernel
theorem d_M_translate_315 : decode b_M_translate 315 = .ok (.invokevirtual 81, 3) := by decide +kernel
theorem d_M_translate_318 : decode b_M_translate 318 = .ok (.aload_n 0, 1) := by decide +kernel
theorem d_M_translate_319 : decode b_M_translate 319 = .ok (.bipush 6, 2) := by decide +kernel
theorem d_M_translate_321 : decode b_M_translate 321 = .ok (.iload_n 3, 1) := by decide +kernel
theorem d_M_translate_322 : decode b_M_translate 322 = .ok (.bipush 8, 2) := by decide +kernel
theorem d_M_translate_324 : decode b_M_translate 324 = .ok (.iconst 0, 1) := by decide +kernel
theorem d_M_translate_325 : decode b_M_translate 325 = .ok (.iconst 0, 1) := by decide +kernel
theorem d_M_translate_326 : decode b_M_translate 326 = .ok (.invokevirtual 81, 3) := by decide +kernel
theorem d_M_translate_329 : decode b_M_translate 329 = .ok (.goto 65, 3) := by decide +kernel
theorem d_M_translate_332 : decode b_M_translate 332 = .ok (.iload_n 2, 1) := by decide +kernel
theorem d_M_translate_333 : decode b_M_translate 333 = .ok (.bipush 14, 2) := by decide +kernel
theorem d_M_translate_335 : decode b_M_translate 335 = .ok (.if_icmp .gt 16, 3) := by decide +kernel
theorem d_M_translate_338 : decode b_M_translate 338 = .ok (.aload_n 0, 1) := by decide +kernel
theorem d_M_translate_339 : decode b_M_translate 339 = .ok (.iload_n 2, 1) := by decide +kernel
theorem d_M_translate_340 : decode b_M_translate 340 = .ok (.iload_n 3, 1) := by decide +kernel
theorem d_M_translate_341 : decode b_M_translate 341 = .ok (.iload 4, 2) := by decide +kernel
theorem d_M_translate_343 : decode b_M_translate 343 = .ok (.iload 5, 2) := by decide +kernel
theorem d_M_translate_345 : decode b_M_translate 345 = .ok (.invokevirtual 95, 3) := by decide +kernel
theorem d_M_translate_348 : decode b_M_translate 348 = .ok (.goto 46, 3) := by decide +kernel
theorem d_M_translate_351 : decode b_M_translate 351 = .ok (.iload_n 2, 1) := by decide +kernel
theorem d_M_translate_352 : decode b_M_translate 352 = .ok (.bipush 15, 2) := by decide +kernel
theorem d_M_translate_354 : decode b_M_translate 354 = .ok (.if_icmp .ne 23, 3) := by decide +kernel
theorem d_M_translate_357 : decode b_M_translate 357 = .ok (.aload_n 0, 1) := by decide +kernel
theorem d_M_translate_358 : decode b_M_translate 358 = .ok (.iload 4, 2) := by decide +kernel
theorem d_M_translate_360 : decode b_M_translate 360 = .ok (.invokevirtual 98, 3) := by decide +kernel
theorem d_M_translate_363 : decode b_M_translate 363 = .ok (.aload_n 0, 1) := by decide +kernel
theorem d_M_translate_364 : decode b_M_translate 364 = .ok (.bipush 6, 2) := by decide +kernel
theorem d_M_translate_366 : decode b_M_translate 366 = .ok (.iload_n 3, 1) := by decide +kernel
theorem d_M_translate_367 : decode b_M_translate 367 = .ok (.bipush 10, 2) := by decide +kernel
theorem d_M_translate_369 : decode b_M_translate 369 = .ok (.iconst 0, 1) := by decide +kernel
theorem d_M_translate_370 : decode b_M_translate 370 = .ok (.iconst 0, 1) := by decide +kernel
theorem d_M_translate_371 : decode b_M_translate 371 = .ok (.invokevirtual 81, 3) := by decide +kernel
theorem d_M_translate_374 : decode b_M_translate 374 = .ok (.goto 20, 3) := by decide +kernel
theorem d_M_translate_377 : decode b_M_translate 377 = .ok (.aload_n 0, 1) := by decide +kernel
theorem d_M_translate_378 : decode b_M_translate 378 = .ok (.iload 4, 2) := by decide +kernel
theorem d_M_translate_380 : decode b_M_translate 380 = .ok (.invokevirtual 101, 3) := by decide +kernel
theorem d_M_translate_383 : decode b_M_translate 383 = .ok (.aload_n 0, 1) := by decide +kernel
theorem d_M_translate_384 : decode b_M_translate 384 = .ok (.bipush 6, 2) := by decide +kernel
theorem d_M_translate_386 : decode b_M_translate 386 = .ok (.iload_n 3, 1) := by decide +kernel
theorem d_M_translate_387 : decode b_M_translate 387 = .ok (.bipush 8, 2) := by decide +kernel
theorem d_M_translate_389 : decode b_M_translate 389 = .ok (.iconst 0, 1) := by decide +kernel
theorem d_M_translate_390 : decode b_M_translate 390 = .ok (.iconst 0, 1) := by decide +kernel
theorem d_M_translate_391 : decode b_M_translate 391 = .ok (.invokevirtual 81, 3) := by decide +kernel
theorem d_M_translate_394 : decode b_M_translate 394 = .ok (.return_, 1) := by decide +kernel
theorem d_M_product_0 : decode b_M_product 0 = .ok (.aload_n 0, 1) := by decide +kernel
theorem d_M_product_1 : decode b_M_product 1 = .ok (.iconst 0, 1) := by decide +kernel
theorem d_M_product_2 : decode b_M_product 2 = .ok (.bipush 8, 2) := by decide +kernel
theorem d_M_product_4 : decode b_M_product 4 = .ok (.iload_n 1, 1) := by decide +kernel
theorem d_M_product_5 : decode b_M_product 5 = .ok (.iconst 0, 1) := by decide +kernel
theorem d_M_product_6 : decode b_M_product 6 = .ok (.iconst 0, 1) := by decide +kernel
theorem d_M_product_7 : decode b_M_product 7 = .ok (.invokevirtual 81, 3) := by decide +kernel
theorem d_M_product_10 : decode b_M_product 10 = .ok (.aload_n 0, 1) := by decide +kernel
theorem d_M_product_11 : decode b_M_product 11 = .ok (.iconst 0, 1) := by decide +kernel
theorem d_M_product_12 : decode b_M_product 12 = .ok (.bipush 9, 2) := by decide +kernel
theorem d_M_product_14 : decode b_M_product 14 = .ok (.iload_n 2, 1) := by decide +kernel
theorem d_M_product_15 : decode b_M_product 15 = .ok (.iconst 0, 1) := by decide +kernel
theorem d_M_product_16 : decode b_M_product 16 = .ok (.iconst 0, 1) := by decide +kernel
theorem d_M_product_17 : decode b_M_product 17 = .ok (.invokevirtual 81, 3) := by decide +kernel
theorem d_M_product_20 : decode b_M_product 20 = .ok (.aload_n 0, 1) := by decide +kernel
theorem d_M_product_21 : decode b_M_product 21 = .ok (.bipush 11, 2) := by decide +kernel
theorem d_M_product_23 : decode b_M_product 23 = .ok (.bipush 10, 2) := by decide +kernel
theorem d_M_product_25 : decode b_M_product 25 = .ok (.iconst 0, 1) := by decide +kernel
theorem d_M_product_26 : decode b_M_product 26 = .ok (.iconst 0, 1) := by decide +kernel
theorem d_M_product_27 : decode b_M_product 27 = .ok (.iconst 0, 1) := by decide +kernel
theorem d_M_product_28 : decode b_M_product 28 = .ok (.invokevirtual 81, 3) := by decide +kernel
theorem d_M_product_31 : decode b_M_product 31 = .ok (.iconst 0, 1) := by decide +kernel
theorem d_M_product_32 : decode b_M_product 32 = .ok (.istore_n 3, 1) := by decide +kernel
theorem d_M_product_33 : decode b_M_product 33 = .ok (.iload_n 3, 1) := by decide +kernel
theorem d_M_product_34 : decode b_M_product 34 = .ok (.bipush 32, 2) := by decide +kernel
theorem d_M_product_36 : decode b_M_product 36 = .ok (.if_icmp .ge 43, 3) := by decide +kernel
theorem d_M_product_39 : decode b_M_product 39 = .ok (.aload_n 0, 1) := by decide +kernel
theorem d_M_product_40 : decode b_M_product 40 = .ok (.bipush 8, 2) := by decide +kernel
theorem d_M_product_42 : decode b_M_product 42 = .ok (.iconst 0, 1) := by decide +kernel
theorem d_M_product_43 : decode b_M_product 43 = .ok (.bipush 9, 2) := by decide +kernel
theorem d_M_product_45 : decode b_M_product 45 = .ok (.iload_n 3, 1) := by decide +kernel
theorem d_M_product_46 : decode b_M_product 46 = .ok (.iconst 1, 1) := by decide +kernel
theorem d_M_product_47 : decode b_M_product 47 = .ok (.invokevirtual 81, 3) := by decide +kernel
theorem d_M_product_50 : decode b_M_product 50 = .ok (.aload_n 0, 1) := by decide +kernel
theorem d_M_product_51 : decode b_M_product 51 = .ok (.iconst 1, 1) := by decide +kernel
theorem d_M_product_52 : decode b_M_product 52 = .ok (.bipush 10, 2) := by decide +kernel
theorem d_M_product_54 : decode b_M_product 54 = .ok (.bipush 10, 2) := by decide +kernel
theorem d_M_product_56 : decode b_M_product 56 = .ok (.bipush 8, 2) := by decide +kernel
theorem d_M_product_58 : decode b_M_product 58 = .ok (.iconst 0, 1) := by decide +kernel
theorem d_M_product_59 : decode b_M_product 59 = .ok (.invokevirtual 81, 3) := by decide +kernel
theorem d_M_product_62 : decode b_M_product 62 = .ok (.aload_n 0, 1) := by decide +kernel
theorem d_M_product_63 : decode b_M_product 63 = .ok (.iconst 0, 1) := by decide +kernel
theorem d_M_product_64 : decode b_M_product 64 = .ok (.bipush 8, 2) := by decide +kernel
theorem d_M_product_66 : decode b_M_product 66 = .ok (.bipush 8, 2) := by decide +kernel
theorem d_M_product_68 : decode b_M_product 68 = .ok (.iconst 1, 1) := by decide +kernel
theorem d_M_product_69 : decode b_M_product 69 = .ok (.iconst 0, 1) := by decide +kernel
theorem d_M_product_70 : decode b_M_product 70 = .ok (.invokevirtual 81, 3) := by decide +kernel
theorem d_M_product_73 : decode b_M_product 73 = .ok (.iinc 3 1, 3) := by decide +kernel
theorem d_M_product_76 : decode b_M_product 76 = .ok (.goto (-43), 3) := by decide +kernel
theorem d_M_product_79 : decode b_M_product 79 = .ok (.return_, 1) := by decide +kernel
theorem d_M_amount_0 : decode b_M_amount 0 = .ok (.aload_n 0, 1) := by decide +kernel
theorem d_M_amount_1 : decode b_M_amount 1 = .ok (.iconst 0, 1) := by decide +kernel
theorem d_M_amount_2 : decode b_M_amount 2 = .ok (.iload_n 1, 1) := by decide +kernel
theorem d_M_amount_3 : decode b_M_amount 3 = .ok (.iload_n 2, 1) := by decide +kernel
theorem d_M_amount_4 : decode b_M_amount 4 = .ok (.iconst 0, 1) := by decide +kernel
theorem d_M_amount_5 : decode b_M_amount 5 = .ok (.iconst 0, 1) := by decide +kernel
theorem d_M_amount_6 : decode b_M_amount 6 = .ok (.invokevirtual 81, 3) := by decide +kernel
theorem d_M_amount_9 : decode b_M_amount 9 = .ok (.aload_n 0, 1) := by decide +kernel
theorem d_M_amount_10 : decode b_M_amount 10 = .ok (.bipush 8, 2) := by decide +kernel
theorem d_M_amount_12 : decode b_M_amount 12 = .ok (.iconst 0, 1) := by decide +kernel
theorem d_M_amount_13 : decode b_M_amount 13 = .ok (.iload_n 2, 1) := by decide +kernel
theorem d_M_amount_14 : decode b_M_amount 14 = .ok (.bipush 31, 2) := by decide +kernel
theorem d_M_amount_16 : decode b_M_amount 16 = .ok (.iconst 1, 1) := by decide +kernel
theorem d_M_amount_17 : decode b_M_amount 17 = .ok (.invokevirtual 81, 3) := by decide +kernel
theorem d_M_amount_20 : decode b_M_amount 20 = .ok (.aload_n 0, 1) := by decide +kernel
theorem d_M_amount_21 : decode b_M_amount 21 = .ok (.iconst 2, 1) := by decide +kernel
theorem d_M_amount_22 : decode b_M_amount 22 = .ok (.iload_n 1, 1) := by decide +kernel
theorem d_M_amount_23 : decode b_M_amount 23 = .ok (.bipush 13, 2) := by decide +kernel
theorem d_M_amount_25 : decode b_M_amount 25 = .ok (.iload_n 2, 1) := by decide +kernel
theorem d_M_amount_26 : decode b_M_amount 26 = .ok (.iconst 0, 1) := by decide +kernel
theorem d_M_amount_27 : decode b_M_amount 27 = .ok (.invokevirtual 81, 3) := by decide +kernel
theorem d_M_amount_30 : decode b_M_amount 30 = .ok (.return_, 1) := by decide +kernel
theorem d_M_quotient_0 : decode b_M_quotient 0 = .ok (.aload_n 0, 1) := by decide +kernel
theorem d_M_quotient_1 : decode b_M_quotient 1 = .ok (.bipush 11, 2) := by decide +kernel
theorem d_M_quotient_3 : decode b_M_quotient 3 = .ok (.bipush 13, 2) := by decide +kernel
theorem d_M_quotient_5 : decode b_M_quotient 5 = .ok (.iconst 0, 1) := by decide +kernel
theorem d_M_quotient_6 : decode b_M_quotient 6 = .ok (.iconst 0, 1) := by decide +kernel
theorem d_M_quotient_7 : decode b_M_quotient 7 = .ok (.iconst 0, 1) := by decide +kernel
theorem d_M_quotient_8 : decode b_M_quotient 8 = .ok (.invokevirtual 81, 3) := by decide +kernel
theorem d_M_quotient_11 : decode b_M_quotient 11 = .ok (.aload_n 0, 1) := by decide +kernel
theorem d_M_quotient_12 : decode b_M_quotient 12 = .ok (.bipush 8, 2) := by decide +kernel
theorem d_M_quotient_14 : decode b_M_quotient 14 = .ok (.iload_n 1, 1) := by decide +kernel
theorem d_M_quotient_15 : decode b_M_quotient 15 = .ok (.invokevirtual 104, 3) := by decide +kernel
theorem d_M_quotient_18 : decode b_M_quotient 18 = .ok (.aload_n 0, 1) := by decide +kernel
theorem d_M_quotient_19 : decode b_M_quotient 19 = .ok (.bipush 9, 2) := by decide +kernel
theorem d_M_quotient_21 : decode b_M_quotient 21 = .ok (.iload_n 2, 1) := by decide +kernel
theorem d_M_quotient_22 : decode b_M_quotient 22 = .ok (.invokevirtual 104, 3) := by decide +kernel
theorem d_M_quotient_25 : decode b_M_quotient 25 = .ok (.aload_n 0, 1) := by decide +kernel
theorem d_M_quotient_26 : decode b_M_quotient 26 = .ok (.bipush 11, 2) := by decide +kernel
theorem d_M_quotient_28 : decode b_M_quotient 28 = .ok (.bipush 10, 2) := by decide +kernel
theorem d_M_quotient_30 : decode b_M_quotient 30 = .ok (.iconst 0, 1) := by decide +kernel
theorem d_M_quotient_31 : decode b_M_quotient 31 = .ok (.iconst 0, 1) := by decide +kernel
theorem d_M_quotient_32 : decode b_M_quotient 32 = .ok (.iconst 0, 1) := by decide +kernel
theorem d_M_quotient_33 : decode b_M_quotient 33 = .ok (.invokevirtual 81, 3) := by decide +kernel
theorem d_M_quotient_36 : decode b_M_quotient 36 = .ok (.aload_n 0, 1) := by decide +kernel
theorem d_M_quotient_37 : decode b_M_quotient 37 = .ok (.bipush 11, 2) := by decide +kernel
theorem d_M_quotient_39 : decode b_M_quotient 39 = .ok (.bipush 11, 2) := by decide +kernel
theorem d_M_quotient_41 : decode b_M_quotient 41 = .ok (.iconst 0, 1) := by decide +kernel
theorem d_M_quotient_42 : decode b_M_quotient 42 = .ok (.iconst 0, 1) := by decide +kernel
theorem d_M_quotient_43 : decode b_M_quotient 43 = .ok (.iconst 0, 1) := by decide +kernel
theorem d_M_quotient_44 : decode b_M_quotient 44 = .ok (.invokevirtual 81, 3) := by decide +kernel
theorem d_M_quotient_47 : decode b_M_quotient 47 = .ok (.bipush 15, 2) := by decide +kernel
theorem d_M_quotient_49 : decode b_M_quotient 49 = .ok (.istore_n 3, 1) := by decide +kernel
theorem d_M_quotient_50 : decode b_M_quotient 50 = .ok (.iload_n 3, 1) := by decide +kernel
theorem d_M_quotient_51 : decode b_M_quotient 51 = .ok (.ifCond .lt 86, 3) := by decide +kernel
theorem d_M_quotient_54 : decode b_M_quotient 54 = .ok (.aload_n 0, 1) := by decide +kernel
theorem d_M_quotient_55 : decode b_M_quotient 55 = .ok (.iconst 0, 1) := by decide +kernel
theorem d_M_quotient_56 : decode b_M_quotient 56 = .ok (.bipush 10, 2) := by decide +kernel
theorem d_M_quotient_58 : decode b_M_quotient 58 = .ok (.bipush 10, 2) := by decide +kernel
theorem d_M_quotient_60 : decode b_M_quotient 60 = .ok (.iconst 1, 1) := by decide +kernel
theorem d_M_quotient_61 : decode b_M_quotient 61 = .ok (.iconst 0, 1) := by decide +kernel
theorem d_M_quotient_62 : decode b_M_quotient 62 = .ok (.invokevirtual 81, 3) := by decide +kernel
theorem d_M_quotient_65 : decode b_M_quotient 65 = .ok (.aload_n 0, 1) := by decide +kernel
theorem d_M_quotient_66 : decode b_M_quotient 66 = .ok (.bipush 8, 2) := by decide +kernel
theorem d_M_quotient_68 : decode b_M_quotient 68 = .ok (.iconst 0, 1) := by decide +kernel
theorem d_M_quotient_69 : decode b_M_quotient 69 = .ok (.bipush 8, 2) := by decide +kernel
theorem d_M_quotient_71 : decode b_M_quotient 71 = .ok (.iload_n 3, 1) := by decide +kernel
theorem d_M_quotient_72 : decode b_M_quotient 72 = .ok (.iconst 1, 1) := by decide +kernel
theorem d_M_quotient_73 : decode b_M_quotient 73 = .ok (.invokevirtual 81, 3) := by decide +kernel
theorem d_M_quotient_76 : decode b_M_quotient 76 = .ok (.aload_n 0, 1) := by decide +kernel
theorem d_M_quotient_77 : decode b_M_quotient 77 = .ok (.bipush 10, 2) := by decide +kernel
theorem d_M_quotient_79 : decode b_M_quotient 79 = .ok (.bipush 10, 2) := by decide +kernel
theorem d_M_quotient_81 : decode b_M_quotient 81 = .ok (.iconst 0, 1) := by decide +kernel
theorem d_M_quotient_82 : decode b_M_quotient 82 = .ok (.iconst 0, 1) := by decide +kernel
theorem d_M_quotient_83 : decode b_M_quotient 83 = .ok (.iconst 0, 1) := by decide +kernel
theorem d_M_quotient_84 : decode b_M_quotient 84 = .ok (.invokevirtual 81, 3) := by decide +kernel
theorem d_M_quotient_87 : decode b_M_quotient 87 = .ok (.aload_n 0, 1) := by decide +kernel
theorem d_M_quotient_88 : decode b_M_quotient 88 = .ok (.iconst 2, 1) := by decide +kernel
theorem d_M_quotient_89 : decode b_M_quotient 89 = .ok (.bipush 12, 2) := by decide +kernel
theorem d_M_quotient_91 : decode b_M_quotient 91 = .ok (.bipush 10, 2) := by decide +kernel
theorem d_M_quotient_93 : decode b_M_quotient 93 = .ok (.bipush 9, 2) := by decide +kernel
theorem d_M_quotient_95 : decode b_M_quotient 95 = .ok (.iconst 0, 1) := by decide +kernel
theorem d_M_quotient_96 : decode b_M_quotient 96 = .ok (.invokevirtual 81, 3) := by decide +kernel
theorem d_M_quotient_99 : decode b_M_quotient 99 = .ok (.aload_n 0, 1) := by decide +kernel
theorem d_M_quotient_100 : decode b_M_quotient 100 = .ok (.bipush 9, 2) := by decide +kernel
theorem d_M_quotient_102 : decode b_M_quotient 102 = .ok (.iconst 0, 1) := by decide +kernel
theorem d_M_quotient_103 : decode b_M_quotient 103 = .ok (.iconst 0, 1) := by decide +kernel
theorem d_M_quotient_104 : decode b_M_quotient 104 = .ok (.iconst 0, 1) := by decide +kernel
theorem d_M_quotient_105 : decode b_M_quotient 105 = .ok (.iconst 2, 1) := by decide +kernel
theorem d_M_quotient_106 : decode b_M_quotient 106 = .ok (.invokevirtual 81, 3) := by decide +kernel
theorem d_M_quotient_109 : decode b_M_quotient 109 = .ok (.aload_n 0, 1) := by decide +kernel
theorem d_M_quotient_110 : decode b_M_quotient 110 = .ok (.iconst 0, 1) := by decide +kernel
theorem d_M_quotient_111 : decode b_M_quotient 111 = .ok (.bipush 10, 2) := by decide +kernel
theorem d_M_quotient_113 : decode b_M_quotient 113 = .ok (.bipush 12, 2) := by decide +kernel
theorem d_M_quotient_115 : decode b_M_quotient 115 = .ok (.iconst 0, 1) := by decide +kernel
theorem d_M_quotient_116 : decode b_M_quotient 116 = .ok (.iconst 0, 1) := by decide +kernel
theorem d_M_quotient_117 : decode b_M_quotient 117 = .ok (.invokevirtual 81, 3) := by decide +kernel
theorem d_M_quotient_120 : decode b_M_quotient 120 = .ok (.aload_n 0, 1) := by decide +kernel
theorem d_M_quotient_121 : decode b_M_quotient 121 = .ok (.bipush 10, 2) := by decide +kernel
theorem d_M_quotient_123 : decode b_M_quotient 123 = .ok (.bipush 11, 2) := by decide +kernel
theorem d_M_quotient_125 : decode b_M_quotient 125 = .ok (.iconst 0, 1) := by decide +kernel
theorem d_M_quotient_126 : decode b_M_quotient 126 = .ok (.iload_n 3, 1) := by decide +kernel
theorem d_M_quotient_127 : decode b_M_quotient 127 = .ok (.iconst 0, 1) := by decide +kernel
theorem d_M_quotient_128 : decode b_M_quotient 128 = .ok (.invokevirtual 81, 3) := by decide +kernel
theorem d_M_quotient_131 : decode b_M_quotient 131 = .ok (.iinc 3 (-1), 3) := by decide +kernel
theorem d_M_quotient_134 : decode b_M_quotient 134 = .ok (.goto (-84), 3) := by decide +kernel
theorem d_M_quotient_137 : decode b_M_quotient 137 = .ok (.return_, 1) := by decide +kernel
theorem d_M_finishQuotient_0 : decode b_M_finishQuotient 0 = .ok (.iload_n 1, 1) := by decide +kernel
theorem d_M_finishQuotient_1 : decode b_M_finishQuotient 1 = .ok (.bipush 6, 2) := by decide +kernel
theorem d_M_finishQuotient_3 : decode b_M_finishQuotient 3 = .ok (.if_icmp .ne 74, 3) := by decide +kernel
theorem d_M_finishQuotient_6 : decode b_M_finishQuotient 6 = .ok (.aload_n 0, 1) := by decide +kernel
theorem d_M_finishQuotient_7 : decode b_M_finishQuotient 7 = .ok (.bipush 12, 2) := by decide +kernel
theorem d_M_finishQuotient_9 : decode b_M_finishQuotient 9 = .ok (.iconst 0, 1) := by decide +kernel
theorem d_M_finishQuotient_10 : decode b_M_finishQuotient 10 = .ok (.bipush 9, 2) := by decide +kernel
theorem d_M_finishQuotient_12 : decode b_M_finishQuotient 12 = .ok (.iconst 0, 1) := by decide +kernel
theorem d_M_finishQuotient_13 : decode b_M_finishQuotient 13 = .ok (.iconst 1, 1) := by decide +kernel
theorem d_M_finishQuotient_14 : decode b_M_finishQuotient 14 = .ok (.invokevirtual 81, 3) := by decide +kernel
theorem d_M_finishQuotient_17 : decode b_M_finishQuotient 17 = .ok (.aload_n 0, 1) := by decide +kernel
theorem d_M_finishQuotient_18 : decode b_M_finishQuotient 18 = .ok (.bipush 11, 2) := by decide +kernel
theorem d_M_finishQuotient_20 : decode b_M_finishQuotient 20 = .ok (.bipush 11, 2) := by decide +kernel
theorem d_M_finishQuotient_22 : decode b_M_finishQuotient 22 = .ok (.iconst 0, 1) := by decide +kernel
theorem d_M_finishQuotient_23 : decode b_M_finishQuotient 23 = .ok (.iconst 0, 1) := by decide +kernel
theorem d_M_finishQuotient_24 : decode b_M_finishQuotient 24 = .ok (.iconst 0, 1) := by decide +kernel
theorem d_M_finishQuotient_25 : decode b_M_finishQuotient 25 = .ok (.invokevirtual 81, 3) := by decide +kernel
theorem d_M_finishQuotient_28 : decode b_M_finishQuotient 28 = .ok (.aload_n 0, 1) := by decide +kernel
theorem d_M_finishQuotient_29 : decode b_M_finishQuotient 29 = .ok (.iconst 5, 1) := by decide +kernel
theorem d_M_finishQuotient_30 : decode b_M_finishQuotient 30 = .ok (.bipush 12, 2) := by decide +kernel
theorem d_M_finishQuotient_32 : decode b_M_finishQuotient 32 = .ok (.iload_n 3, 1) := by decide +kernel
end
section
theorem d_M_finishQuotient_33 : decode b_M_finishQuotient 33 = .ok (.iload 4, 2) := by decide +kernel
theorem d_M_finishQuotient_35 : decode b_M_finishQuotient 35 = .ok (.iconst 0, 1) := by decide +kernel
theorem d_M_finishQuotient_36 : decode b_M_finishQuotient 36 = .ok (.invokevirtual 81, 3) := by decide +kernel
theorem d_M_finishQuotient_39 : decode b_M_finishQuotient 39 = .ok (.aload_n 0, 1) := by decide +kernel
theorem d_M_finishQuotient_40 : decode b_M_finishQuotient 40 = .ok (.bipush 8, 2) := by decide +kernel
theorem d_M_finishQuotient_42 : decode b_M_finishQuotient 42 = .ok (.iconst 0, 1) := by decide +kernel
theorem d_M_finishQuotient_43 : decode b_M_finishQuotient 43 = .ok (.bipush 12, 2) := by decide +kernel
theorem d_M_finishQuotient_45 : decode b_M_finishQuotient 45 = .ok (.bipush 31, 2) := by decide +kernel
theorem d_M_finishQuotient_47 : decode b_M_finishQuotient 47 = .ok (.iconst 1, 1) := by decide +kernel
theorem d_M_finishQuotient_48 : decode b_M_finishQuotient 48 = .ok (.invokevirtual 81, 3) := by decide +kernel
theorem d_M_finishQuotient_51 : decode b_M_finishQuotient 51 = .ok (.aload_n 0, 1) := by decide +kernel
theorem d_M_finishQuotient_52 : decode b_M_finishQuotient 52 = .ok (.iconst 2, 1) := by decide +kernel
theorem d_M_finishQuotient_53 : decode b_M_finishQuotient 53 = .ok (.bipush 11, 2) := by decide +kernel
theorem d_M_finishQuotient_55 : decode b_M_finishQuotient 55 = .ok (.bipush 13, 2) := by decide +kernel
theorem d_M_finishQuotient_57 : decode b_M_finishQuotient 57 = .ok (.bipush 11, 2) := by decide +kernel
theorem d_M_finishQuotient_59 : decode b_M_finishQuotient 59 = .ok (.iconst 0, 1) := by decide +kernel
theorem d_M_finishQuotient_60 : decode b_M_finishQuotient 60 = .ok (.invokevirtual 81, 3) := by decide +kernel
theorem d_M_finishQuotient_63 : decode b_M_finishQuotient 63 = .ok (.aload_n 0, 1) := by decide +kernel
theorem d_M_finishQuotient_64 : decode b_M_finishQuotient 64 = .ok (.bipush 6, 2) := by decide +kernel
theorem d_M_finishQuotient_66 : decode b_M_finishQuotient 66 = .ok (.iload_n 2, 1) := by decide +kernel
theorem d_M_finishQuotient_67 : decode b_M_finishQuotient 67 = .ok (.bipush 11, 2) := by decide +kernel
theorem d_M_finishQuotient_69 : decode b_M_finishQuotient 69 = .ok (.iconst 0, 1) := by decide +kernel
theorem d_M_finishQuotient_70 : decode b_M_finishQuotient 70 = .ok (.iconst 0, 1) := by decide +kernel
theorem d_M_finishQuotient_71 : decode b_M_finishQuotient 71 = .ok (.invokevirtual 81, 3) := by decide +kernel
theorem d_M_finishQuotient_74 : decode b_M_finishQuotient 74 = .ok (.goto 37, 3) := by decide +kernel
theorem d_M_finishQuotient_77 : decode b_M_finishQuotient 77 = .ok (.aload_n 0, 1) := by decide +kernel
theorem d_M_finishQuotient_78 : decode b_M_finishQuotient 78 = .ok (.bipush 8, 2) := by decide +kernel
theorem d_M_finishQuotient_80 : decode b_M_finishQuotient 80 = .ok (.iconst 0, 1) := by decide +kernel
theorem d_M_finishQuotient_81 : decode b_M_finishQuotient 81 = .ok (.iload_n 3, 1) := by decide +kernel
theorem d_M_finishQuotient_82 : decode b_M_finishQuotient 82 = .ok (.bipush 31, 2) := by decide +kernel
theorem d_M_finishQuotient_84 : decode b_M_finishQuotient 84 = .ok (.iconst 1, 1) := by decide +kernel
theorem d_M_finishQuotient_85 : decode b_M_finishQuotient 85 = .ok (.invokevirtual 81, 3) := by decide +kernel
theorem d_M_finishQuotient_88 : decode b_M_finishQuotient 88 = .ok (.aload_n 0, 1) := by decide +kernel
theorem d_M_finishQuotient_89 : decode b_M_finishQuotient 89 = .ok (.iconst 2, 1) := by decide +kernel
theorem d_M_finishQuotient_90 : decode b_M_finishQuotient 90 = .ok (.bipush 10, 2) := by decide +kernel
theorem d_M_finishQuotient_92 : decode b_M_finishQuotient 92 = .ok (.bipush 13, 2) := by decide +kernel
theorem d_M_finishQuotient_94 : decode b_M_finishQuotient 94 = .ok (.bipush 10, 2) := by decide +kernel
theorem d_M_finishQuotient_96 : decode b_M_finishQuotient 96 = .ok (.iconst 0, 1) := by decide +kernel
theorem d_M_finishQuotient_97 : decode b_M_finishQuotient 97 = .ok (.invokevirtual 81, 3) := by decide +kernel
theorem d_M_finishQuotient_100 : decode b_M_finishQuotient 100 = .ok (.aload_n 0, 1) := by decide +kernel
theorem d_M_finishQuotient_101 : decode b_M_finishQuotient 101 = .ok (.bipush 6, 2) := by decide +kernel
theorem d_M_finishQuotient_103 : decode b_M_finishQuotient 103 = .ok (.iload_n 2, 1) := by decide +kernel
theorem d_M_finishQuotient_104 : decode b_M_finishQuotient 104 = .ok (.bipush 10, 2) := by decide +kernel
theorem d_M_finishQuotient_106 : decode b_M_finishQuotient 106 = .ok (.iconst 0, 1) := by decide +kernel
theorem d_M_finishQuotient_107 : decode b_M_finishQuotient 107 = .ok (.iconst 0, 1) := by decide +kernel
theorem d_M_finishQuotient_108 : decode b_M_finishQuotient 108 = .ok (.invokevirtual 81, 3) := by decide +kernel
theorem d_M_finishQuotient_111 : decode b_M_finishQuotient 111 = .ok (.return_, 1) := by decide +kernel
theorem d_M_comparison_0 : decode b_M_comparison 0 = .ok (.aload_n 0, 1) := by decide +kernel
theorem d_M_comparison_1 : decode b_M_comparison 1 = .ok (.bipush 11, 2) := by decide +kernel
theorem d_M_comparison_3 : decode b_M_comparison 3 = .ok (.bipush 9, 2) := by decide +kernel
theorem d_M_comparison_5 : decode b_M_comparison 5 = .ok (.iconst 0, 1) := by decide +kernel
theorem d_M_comparison_6 : decode b_M_comparison 6 = .ok (.iconst 0, 1) := by decide +kernel
theorem d_M_comparison_7 : decode b_M_comparison 7 = .ok (.iconst 0, 1) := by decide +kernel
theorem d_M_comparison_8 : decode b_M_comparison 8 = .ok (.invokevirtual 81, 3) := by decide +kernel
theorem d_M_comparison_11 : decode b_M_comparison 11 = .ok (.iload_n 1, 1) := by decide +kernel
theorem d_M_comparison_12 : decode b_M_comparison 12 = .ok (.bipush 13, 2) := by decide +kernel
theorem d_M_comparison_14 : decode b_M_comparison 14 = .ok (.if_icmp .ne 29, 3) := by decide +kernel
theorem d_M_comparison_17 : decode b_M_comparison 17 = .ok (.aload_n 0, 1) := by decide +kernel
theorem d_M_comparison_18 : decode b_M_comparison 18 = .ok (.iconst 2, 1) := by decide +kernel
theorem d_M_comparison_19 : decode b_M_comparison 19 = .ok (.bipush 8, 2) := by decide +kernel
theorem d_M_comparison_21 : decode b_M_comparison 21 = .ok (.iload_n 3, 1) := by decide +kernel
theorem d_M_comparison_22 : decode b_M_comparison 22 = .ok (.iload 4, 2) := by decide +kernel
theorem d_M_comparison_24 : decode b_M_comparison 24 = .ok (.iconst 0, 1) := by decide +kernel
theorem d_M_comparison_25 : decode b_M_comparison 25 = .ok (.invokevirtual 81, 3) := by decide +kernel
theorem d_M_comparison_28 : decode b_M_comparison 28 = .ok (.aload_n 0, 1) := by decide +kernel
theorem d_M_comparison_29 : decode b_M_comparison 29 = .ok (.bipush 8, 2) := by decide +kernel
theorem d_M_comparison_31 : decode b_M_comparison 31 = .ok (.iconst 0, 1) := by decide +kernel
theorem d_M_comparison_32 : decode b_M_comparison 32 = .ok (.bipush 8, 2) := by decide +kernel
theorem d_M_comparison_34 : decode b_M_comparison 34 = .ok (.bipush 31, 2) := by decide +kernel
theorem d_M_comparison_36 : decode b_M_comparison 36 = .ok (.iconst 1, 1) := by decide +kernel
theorem d_M_comparison_37 : decode b_M_comparison 37 = .ok (.invokevirtual 81, 3) := by decide +kernel
theorem d_M_comparison_40 : decode b_M_comparison 40 = .ok (.goto 25, 3) := by decide +kernel
theorem d_M_comparison_43 : decode b_M_comparison 43 = .ok (.aload_n 0, 1) := by decide +kernel
theorem d_M_comparison_44 : decode b_M_comparison 44 = .ok (.iconst 5, 1) := by decide +kernel
theorem d_M_comparison_45 : decode b_M_comparison 45 = .ok (.bipush 8, 2) := by decide +kernel
theorem d_M_comparison_47 : decode b_M_comparison 47 = .ok (.iload_n 3, 1) := by decide +kernel
theorem d_M_comparison_48 : decode b_M_comparison 48 = .ok (.iload 4, 2) := by decide +kernel
theorem d_M_comparison_50 : decode b_M_comparison 50 = .ok (.iconst 0, 1) := by decide +kernel
theorem d_M_comparison_51 : decode b_M_comparison 51 = .ok (.invokevirtual 81, 3) := by decide +kernel
theorem d_M_comparison_54 : decode b_M_comparison 54 = .ok (.aload_n 0, 1) := by decide +kernel
theorem d_M_comparison_55 : decode b_M_comparison 55 = .ok (.bipush 12, 2) := by decide +kernel
theorem d_M_comparison_57 : decode b_M_comparison 57 = .ok (.iconst 0, 1) := by decide +kernel
theorem d_M_comparison_58 : decode b_M_comparison 58 = .ok (.bipush 8, 2) := by decide +kernel
theorem d_M_comparison_60 : decode b_M_comparison 60 = .ok (.iconst 0, 1) := by decide +kernel
theorem d_M_comparison_61 : decode b_M_comparison 61 = .ok (.iconst 1, 1) := by decide +kernel
theorem d_M_comparison_62 : decode b_M_comparison 62 = .ok (.invokevirtual 81, 3) := by decide +kernel
theorem d_M_comparison_65 : decode b_M_comparison 65 = .ok (.aload_n 0, 1) := by decide +kernel
theorem d_M_comparison_66 : decode b_M_comparison 66 = .ok (.bipush 10, 2) := by decide +kernel
theorem d_M_comparison_68 : decode b_M_comparison 68 = .ok (.bipush 9, 2) := by decide +kernel
theorem d_M_comparison_70 : decode b_M_comparison 70 = .ok (.iconst 0, 1) := by decide +kernel
theorem d_M_comparison_71 : decode b_M_comparison 71 = .ok (.iconst 0, 1) := by decide +kernel
theorem d_M_comparison_72 : decode b_M_comparison 72 = .ok (.iconst 0, 1) := by decide +kernel
theorem d_M_comparison_73 : decode b_M_comparison 73 = .ok (.invokevirtual 81, 3) := by decide +kernel
theorem d_M_comparison_76 : decode b_M_comparison 76 = .ok (.aload_n 0, 1) := by decide +kernel
theorem d_M_comparison_77 : decode b_M_comparison 77 = .ok (.bipush 6, 2) := by decide +kernel
theorem d_M_comparison_79 : decode b_M_comparison 79 = .ok (.iload_n 2, 1) := by decide +kernel
theorem d_M_comparison_80 : decode b_M_comparison 80 = .ok (.bipush 9, 2) := by decide +kernel
theorem d_M_comparison_82 : decode b_M_comparison 82 = .ok (.iconst 0, 1) := by decide +kernel
theorem d_M_comparison_83 : decode b_M_comparison 83 = .ok (.iconst 0, 1) := by decide +kernel
theorem d_M_comparison_84 : decode b_M_comparison 84 = .ok (.invokevirtual 81, 3) := by decide +kernel
theorem d_M_comparison_87 : decode b_M_comparison 87 = .ok (.return_, 1) := by decide +kernel
theorem d_M_root_0 : decode b_M_root 0 = .ok (.aload_n 0, 1) := by decide +kernel
theorem d_M_root_1 : decode b_M_root 1 = .ok (.bipush 7, 2) := by decide +kernel
theorem d_M_root_3 : decode b_M_root 3 = .ok (.bipush 8, 2) := by decide +kernel
theorem d_M_root_5 : decode b_M_root 5 = .ok (.iload_n 1, 1) := by decide +kernel
theorem d_M_root_6 : decode b_M_root 6 = .ok (.iconst 0, 1) := by decide +kernel
theorem d_M_root_7 : decode b_M_root 7 = .ok (.iconst 0, 1) := by decide +kernel
theorem d_M_root_8 : decode b_M_root 8 = .ok (.invokevirtual 81, 3) := by decide +kernel
theorem d_M_root_11 : decode b_M_root 11 = .ok (.aload_n 0, 1) := by decide +kernel
theorem d_M_root_12 : decode b_M_root 12 = .ok (.bipush 11, 2) := by decide +kernel
theorem d_M_root_14 : decode b_M_root 14 = .ok (.bipush 9, 2) := by decide +kernel
theorem d_M_root_16 : decode b_M_root 16 = .ok (.iconst 0, 1) := by decide +kernel
theorem d_M_root_17 : decode b_M_root 17 = .ok (.iconst 0, 1) := by decide +kernel
theorem d_M_root_18 : decode b_M_root 18 = .ok (.iconst 0, 1) := by decide +kernel
theorem d_M_root_19 : decode b_M_root 19 = .ok (.invokevirtual 81, 3) := by decide +kernel
theorem d_M_root_22 : decode b_M_root 22 = .ok (.aload_n 0, 1) := by decide +kernel
theorem d_M_root_23 : decode b_M_root 23 = .ok (.bipush 11, 2) := by decide +kernel
theorem d_M_root_25 : decode b_M_root 25 = .ok (.bipush 10, 2) := by decide +kernel
theorem d_M_root_27 : decode b_M_root 27 = .ok (.iconst 0, 1) := by decide +kernel
theorem d_M_root_28 : decode b_M_root 28 = .ok (.iconst 0, 1) := by decide +kernel
theorem d_M_root_29 : decode b_M_root 29 = .ok (.iconst 0, 1) := by decide +kernel
theorem d_M_root_30 : decode b_M_root 30 = .ok (.invokevirtual 81, 3) := by decide +kernel
theorem d_M_root_33 : decode b_M_root 33 = .ok (.bipush 7, 2) := by decide +kernel
theorem d_M_root_35 : decode b_M_root 35 = .ok (.istore_n 2, 1) := by decide +kernel
theorem d_M_root_36 : decode b_M_root 36 = .ok (.iload_n 2, 1) := by decide +kernel
theorem d_M_root_37 : decode b_M_root 37 = .ok (.ifCond .lt 147, 3) := by decide +kernel
theorem d_M_root_40 : decode b_M_root 40 = .ok (.aload_n 0, 1) := by decide +kernel
theorem d_M_root_41 : decode b_M_root 41 = .ok (.iconst 0, 1) := by decide +kernel
theorem d_M_root_42 : decode b_M_root 42 = .ok (.bipush 9, 2) := by decide +kernel
theorem d_M_root_44 : decode b_M_root 44 = .ok (.bipush 9, 2) := by decide +kernel
theorem d_M_root_46 : decode b_M_root 46 = .ok (.iconst 2, 1) := by decide +kernel
theorem d_M_root_47 : decode b_M_root 47 = .ok (.iconst 0, 1) := by decide +kernel
theorem d_M_root_48 : decode b_M_root 48 = .ok (.invokevirtual 81, 3) := by decide +kernel
theorem d_M_root_51 : decode b_M_root 51 = .ok (.aload_n 0, 1) := by decide +kernel
theorem d_M_root_52 : decode b_M_root 52 = .ok (.bipush 8, 2) := by decide +kernel
theorem d_M_root_54 : decode b_M_root 54 = .ok (.iconst 0, 1) := by decide +kernel
theorem d_M_root_55 : decode b_M_root 55 = .ok (.bipush 8, 2) := by decide +kernel
theorem d_M_root_57 : decode b_M_root 57 = .ok (.iconst 2, 1) := by decide +kernel
theorem d_M_root_58 : decode b_M_root 58 = .ok (.iload_n 2, 1) := by decide +kernel
theorem d_M_root_59 : decode b_M_root 59 = .ok (.imul, 1) := by decide +kernel
theorem d_M_root_60 : decode b_M_root 60 = .ok (.iconst 1, 1) := by decide +kernel
theorem d_M_root_61 : decode b_M_root 61 = .ok (.iadd, 1) := by decide +kernel
theorem d_M_root_62 : decode b_M_root 62 = .ok (.iconst 1, 1) := by decide +kernel
theorem d_M_root_63 : decode b_M_root 63 = .ok (.invokevirtual 81, 3) := by decide +kernel
theorem d_M_root_66 : decode b_M_root 66 = .ok (.aload_n 0, 1) := by decide +kernel
theorem d_M_root_67 : decode b_M_root 67 = .ok (.bipush 10, 2) := by decide +kernel
theorem d_M_root_69 : decode b_M_root 69 = .ok (.bipush 9, 2) := by decide +kernel
theorem d_M_root_71 : decode b_M_root 71 = .ok (.iconst 0, 1) := by decide +kernel
theorem d_M_root_72 : decode b_M_root 72 = .ok (.iconst 1, 1) := by decide +kernel
theorem d_M_root_73 : decode b_M_root 73 = .ok (.iconst 0, 1) := by decide +kernel
theorem d_M_root_74 : decode b_M_root 74 = .ok (.invokevirtual 81, 3) := by decide +kernel
theorem d_M_root_77 : decode b_M_root 77 = .ok (.aload_n 0, 1) := by decide +kernel
theorem d_M_root_78 : decode b_M_root 78 = .ok (.bipush 8, 2) := by decide +kernel
theorem d_M_root_80 : decode b_M_root 80 = .ok (.iconst 0, 1) := by decide +kernel
theorem d_M_root_81 : decode b_M_root 81 = .ok (.bipush 8, 2) := by decide +kernel
theorem d_M_root_83 : decode b_M_root 83 = .ok (.iconst 2, 1) := by decide +kernel
theorem d_M_root_84 : decode b_M_root 84 = .ok (.iload_n 2, 1) := by decide +kernel
theorem d_M_root_85 : decode b_M_root 85 = .ok (.imul, 1) := by decide +kernel
theorem d_M_root_86 : decode b_M_root 86 = .ok (.iconst 1, 1) := by decide +kernel
theorem d_M_root_87 : decode b_M_root 87 = .ok (.invokevirtual 81, 3) := by decide +kernel
theorem d_M_root_90 : decode b_M_root 90 = .ok (.aload_n 0, 1) := by decide +kernel
theorem d_M_root_91 : decode b_M_root 91 = .ok (.bipush 10, 2) := by decide +kernel
theorem d_M_root_93 : decode b_M_root 93 = .ok (.bipush 9, 2) := by decide +kernel
theorem d_M_root_95 : decode b_M_root 95 = .ok (.iconst 0, 1) := by decide +kernel
theorem d_M_root_96 : decode b_M_root 96 = .ok (.iconst 0, 1) := by decide +kernel
theorem d_M_root_97 : decode b_M_root 97 = .ok (.iconst 0, 1) := by decide +kernel
theorem d_M_root_98 : decode b_M_root 98 = .ok (.invokevirtual 81, 3) := by decide +kernel
theorem d_M_root_101 : decode b_M_root 101 = .ok (.aload_n 0, 1) := by decide +kernel
theorem d_M_root_102 : decode b_M_root 102 = .ok (.iconst 0, 1) := by decide +kernel
theorem d_M_root_103 : decode b_M_root 103 = .ok (.bipush 11, 2) := by decide +kernel
theorem d_M_root_105 : decode b_M_root 105 = .ok (.bipush 10, 2) := by decide +kernel
theorem d_M_root_107 : decode b_M_root 107 = .ok (.iconst 2, 1) := by decide +kernel
theorem d_M_root_108 : decode b_M_root 108 = .ok (.iconst 0, 1) := by decide +kernel
theorem d_M_root_109 : decode b_M_root 109 = .ok (.invokevirtual 81, 3) := by decide +kernel
theorem d_M_root_112 : decode b_M_root 112 = .ok (.aload_n 0, 1) := by decide +kernel
theorem d_M_root_113 : decode b_M_root 113 = .ok (.bipush 10, 2) := by decide +kernel
theorem d_M_root_115 : decode b_M_root 115 = .ok (.bipush 11, 2) := by decide +kernel
theorem d_M_root_117 : decode b_M_root 117 = .ok (.iconst 0, 1) := by decide +kernel
theorem d_M_root_118 : decode b_M_root 118 = .ok (.iconst 0, 1) := by decide +kernel
theorem d_M_root_119 : decode b_M_root 119 = .ok (.iconst 0, 1) := by decide +kernel
theorem d_M_root_120 : decode b_M_root 120 = .ok (.invokevirtual 81, 3) := by decide +kernel
theorem d_M_root_123 : decode b_M_root 123 = .ok (.aload_n 0, 1) := by decide +kernel
theorem d_M_root_124 : decode b_M_root 124 = .ok (.iconst 0, 1) := by decide +kernel
theorem d_M_root_125 : decode b_M_root 125 = .ok (.bipush 10, 2) := by decide +kernel
theorem d_M_root_127 : decode b_M_root 127 = .ok (.bipush 10, 2) := by decide +kernel
theorem d_M_root_129 : decode b_M_root 129 = .ok (.iconst 1, 1) := by decide +kernel
theorem d_M_root_130 : decode b_M_root 130 = .ok (.iconst 0, 1) := by decide +kernel
theorem d_M_root_131 : decode b_M_root 131 = .ok (.invokevirtual 81, 3) := by decide +kernel
theorem d_M_root_134 : decode b_M_root 134 = .ok (.aload_n 0, 1) := by decide +kernel
theorem d_M_root_135 : decode b_M_root 135 = .ok (.iconst 2, 1) := by decide +kernel
theorem d_M_root_136 : decode b_M_root 136 = .ok (.bipush 12, 2) := by decide +kernel
theorem d_M_root_138 : decode b_M_root 138 = .ok (.bipush 9, 2) := by decide +kernel
theorem d_M_root_140 : decode b_M_root 140 = .ok (.bipush 11, 2) := by decide +kernel
theorem d_M_root_142 : decode b_M_root 142 = .ok (.iconst 0, 1) := by decide +kernel
theorem d_M_root_143 : decode b_M_root 143 = .ok (.invokevirtual 81, 3) := by decide +kernel
theorem d_M_root_146 : decode b_M_root 146 = .ok (.aload_n 0, 1) := by decide +kernel
theorem d_M_root_147 : decode b_M_root 147 = .ok (.bipush 9, 2) := by decide +kernel
theorem d_M_root_149 : decode b_M_root 149 = .ok (.iconst 0, 1) := by decide +kernel
theorem d_M_root_150 : decode b_M_root 150 = .ok (.iconst 0, 1) := by decide +kernel
theorem d_M_root_151 : decode b_M_root 151 = .ok (.iconst 0, 1) := by decide +kernel
theorem d_M_root_152 : decode b_M_root 152 = .ok (.iconst 2, 1) := by decide +kernel
theorem d_M_root_153 : decode b_M_root 153 = .ok (.invokevirtual 81, 3) := by decide +kernel
theorem d_M_root_156 : decode b_M_root 156 = .ok (.aload_n 0, 1) := by decide +kernel
theorem d_M_root_157 : decode b_M_root 157 = .ok (.iconst 0, 1) := by decide +kernel
theorem d_M_root_158 : decode b_M_root 158 = .ok (.bipush 9, 2) := by decide +kernel
theorem d_M_root_160 : decode b_M_root 160 = .ok (.bipush 12, 2) := by decide +kernel
theorem d_M_root_162 : decode b_M_root 162 = .ok (.iconst 0, 1) := by decide +kernel
theorem d_M_root_163 : decode b_M_root 163 = .ok (.iconst 0, 1) := by decide +kernel
theorem d_M_root_164 : decode b_M_root 164 = .ok (.invokevirtual 81, 3) := by decide +kernel
theorem d_M_root_167 : decode b_M_root 167 = .ok (.aload_n 0, 1) := by decide +kernel
theorem d_M_root_168 : decode b_M_root 168 = .ok (.bipush 10, 2) := by decide +kernel
theorem d_M_root_170 : decode b_M_root 170 = .ok (.bipush 10, 2) := by decide +kernel
theorem d_M_root_172 : decode b_M_root 172 = .ok (.iconst 0, 1) := by decide +kernel
theorem d_M_root_173 : decode b_M_root 173 = .ok (.iconst 0, 1) := by decide +kernel
theorem d_M_root_174 : decode b_M_root 174 = .ok (.iconst 0, 1) := by decide +kernel
theorem d_M_root_175 : decode b_M_root 175 = .ok (.invokevirtual 81, 3) := by decide +kernel
theorem d_M_root_178 : decode b_M_root 178 = .ok (.iinc 2 (-1), 3) := by decide +kernel
theorem d_M_root_181 : decode b_M_root 181 = .ok (.goto (-145), 3) := by decide +kernel
theorem d_M_root_184 : decode b_M_root 184 = .ok (.return_, 1) := by decide +kernel
theorem d_M_countOnes_0 : decode b_M_countOnes 0 = .ok (.aload_n 0, 1) := by decide +kernel
theorem d_M_countOnes_1 : decode b_M_countOnes 1 = .ok (.bipush 11, 2) := by decide +kernel
theorem d_M_countOnes_3 : decode b_M_countOnes 3 = .ok (.bipush 8, 2) := by decide +kernel
theorem d_M_countOnes_5 : decode b_M_countOnes 5 = .ok (.iconst 0, 1) := by decide +kernel
theorem d_M_countOnes_6 : decode b_M_countOnes 6 = .ok (.iconst 0, 1) := by decide +kernel
theorem d_M_countOnes_7 : decode b_M_countOnes 7 = .ok (.iconst 0, 1) := by decide +kernel
theorem d_M_countOnes_8 : decode b_M_countOnes 8 = .ok (.invokevirtual 81, 3) := by decide +kernel
theorem d_M_countOnes_11 : decode b_M_countOnes 11 = .ok (.aload_n 0, 1) := by decide +kernel
theorem d_M_countOnes_12 : decode b_M_countOnes 12 = .ok (.bipush 11, 2) := by decide +kernel
theorem d_M_countOnes_14 : decode b_M_countOnes 14 = .ok (.bipush 9, 2) := by decide +kernel
theorem d_M_countOnes_16 : decode b_M_countOnes 16 = .ok (.iconst 0, 1) := by decide +kernel
theorem d_M_countOnes_17 : decode b_M_countOnes 17 = .ok (.iconst 1, 1) := by decide +kernel
theorem d_M_countOnes_18 : decode b_M_countOnes 18 = .ok (.iconst 0, 1) := by decide +kernel
theorem d_M_countOnes_19 : decode b_M_countOnes 19 = .ok (.invokevirtual 81, 3) := by decide +kernel
theorem d_M_countOnes_22 : decode b_M_countOnes 22 = .ok (.iconst 0, 1) := by decide +kernel
theorem d_M_countOnes_23 : decode b_M_countOnes 23 = .ok (.istore_n 2, 1) := by decide +kernel
theorem d_M_countOnes_24 : decode b_M_countOnes 24 = .ok (.iload_n 2, 1) := by decide +kernel
theorem d_M_countOnes_25 : decode b_M_countOnes 25 = .ok (.bipush 16, 2) := by decide +kernel
theorem d_M_countOnes_27 : decode b_M_countOnes 27 = .ok (.if_icmp .ge 31, 3) := by decide +kernel
theorem d_M_countOnes_30 : decode b_M_countOnes 30 = .ok (.aload_n 0, 1) := by decide +kernel
theorem d_M_countOnes_31 : decode b_M_countOnes 31 = .ok (.bipush 8, 2) := by decide +kernel
theorem d_M_countOnes_33 : decode b_M_countOnes 33 = .ok (.iconst 0, 1) := by decide +kernel
theorem d_M_countOnes_34 : decode b_M_countOnes 34 = .ok (.iload_n 1, 1) := by decide +kernel
theorem d_M_countOnes_35 : decode b_M_countOnes 35 = .ok (.iload_n 2, 1) := by decide +kernel
theorem d_M_countOnes_36 : decode b_M_countOnes 36 = .ok (.iconst 1, 1) := by decide +kernel
theorem d_M_countOnes_37 : decode b_M_countOnes 37 = .ok (.invokevirtual 81, 3) := by decide +kernel
theorem d_M_countOnes_40 : decode b_M_countOnes 40 = .ok (.aload_n 0, 1) := by decide +kernel
theorem d_M_countOnes_41 : decode b_M_countOnes 41 = .ok (.iconst 1, 1) := by decide +kernel
theorem d_M_countOnes_42 : decode b_M_countOnes 42 = .ok (.bipush 8, 2) := by decide +kernel
theorem d_M_countOnes_44 : decode b_M_countOnes 44 = .ok (.bipush 8, 2) := by decide +kernel
theorem d_M_countOnes_46 : decode b_M_countOnes 46 = .ok (.bipush 9, 2) := by decide +kernel
theorem d_M_countOnes_48 : decode b_M_countOnes 48 = .ok (.iconst 0, 1) := by decide +kernel
theorem d_M_countOnes_49 : decode b_M_countOnes 49 = .ok (.invokevirtual 81, 3) := by decide +kernel
theorem d_M_countOnes_52 : decode b_M_countOnes 52 = .ok (.iinc 2 1, 3) := by decide +kernel
theorem d_M_countOnes_55 : decode b_M_countOnes 55 = .ok (.goto (-31), 3) := by decide +kernel
theorem d_M_countOnes_58 : decode b_M_countOnes 58 = .ok (.return_, 1) := by decide +kernel
theorem d_M_performAll_0 : decode b_M_performAll 0 = .ok (.iconst 0, 1) := by decide +kernel
theorem d_M_performAll_1 : decode b_M_performAll 1 = .ok (.istore_n 1, 1) := by decide +kernel
theorem d_M_performAll_2 : decode b_M_performAll 2 = .ok (.iconst 0, 1) := by decide +kernel
theorem d_M_performAll_3 : decode b_M_performAll 3 = .ok (.istore_n 2, 1) := by decide +kernel
theorem d_M_performAll_4 : decode b_M_performAll 4 = .ok (.iload_n 2, 1) := by decide +kernel
theorem d_M_performAll_5 : decode b_M_performAll 5 = .ok (.sipush 160, 3) := by decide +kernel
theorem d_M_performAll_8 : decode b_M_performAll 8 = .ok (.if_icmp .ge 42, 3) := by decide +kernel
theorem d_M_performAll_11 : decode b_M_performAll 11 = .ok (.iload_n 1, 1) := by decide +kernel
theorem d_M_performAll_12 : decode b_M_performAll 12 = .ok (.aload_n 0, 1) := by decide +kernel
theorem d_M_performAll_13 : decode b_M_performAll 13 = .ok (.getfield 78, 3) := by decide +kernel
theorem d_M_performAll_16 : decode b_M_performAll 16 = .ok (.if_icmp .ge 34, 3) := by decide +kernel
theorem d_M_performAll_19 : decode b_M_performAll 19 = .ok (.aload_n 0, 1) := by decide +kernel
theorem d_M_performAll_20 : decode b_M_performAll 20 = .ok (.iload_n 1, 1) := by decide +kernel
theorem d_M_performAll_21 : decode b_M_performAll 21 = .ok (.invokevirtual 107, 3) := by decide +kernel
theorem d_M_performAll_24 : decode b_M_performAll 24 = .ok (.istore_n 3, 1) := by decide +kernel
theorem d_M_performAll_25 : decode b_M_performAll 25 = .ok (.iload_n 1, 1) := by decide +kernel
theorem d_M_performAll_26 : decode b_M_performAll 26 = .ok (.iload_n 3, 1) := by decide +kernel
theorem d_M_performAll_27 : decode b_M_performAll 27 = .ok (.ifCond .eq 7, 3) := by decide +kernel
theorem d_M_performAll_30 : decode b_M_performAll 30 = .ok (.iconst 1, 1) := by decide +kernel
theorem d_M_performAll_31 : decode b_M_performAll 31 = .ok (.goto 11, 3) := by decide +kernel
theorem d_M_performAll_34 : decode b_M_performAll 34 = .ok (.iconst 1, 1) := by decide +kernel
theorem d_M_performAll_35 : decode b_M_performAll 35 = .ok (.aload_n 0, 1) := by decide +kernel
theorem d_M_performAll_36 : decode b_M_performAll 36 = .ok (.getfield 41, 3) := by decide +kernel
theorem d_M_performAll_39 : decode b_M_performAll 39 = .ok (.iload_n 1, 1) := by decide +kernel
theorem d_M_performAll_40 : decode b_M_performAll 40 = .ok (.iaload, 1) := by decide +kernel
theorem d_M_performAll_41 : decode b_M_performAll 41 = .ok (.iadd, 1) := by decide +kernel
theorem d_M_performAll_42 : decode b_M_performAll 42 = .ok (.iadd, 1) := by decide +kernel
theorem d_M_performAll_43 : decode b_M_performAll 43 = .ok (.istore_n 1, 1) := by decide +kernel
theorem d_M_performAll_44 : decode b_M_performAll 44 = .ok (.iinc 2 1, 3) := by decide +kernel
theorem d_M_performAll_47 : decode b_M_performAll 47 = .ok (.goto (-43), 3) := by decide +kernel
theorem d_M_performAll_50 : decode b_M_performAll 50 = .ok (.return_, 1) := by decide +kernel
theorem d_M_perform_0 : decode b_M_perform 0 = .ok (.aload_n 0, 1) := by decide +kernel
theorem d_M_perform_1 : decode b_M_perform 1 = .ok (.getfield 29, 3) := by decide +kernel
theorem d_M_perform_4 : decode b_M_perform 4 = .ok (.iload_n 1, 1) := by decide +kernel
theorem d_M_perform_5 : decode b_M_perform 5 = .ok (.iaload, 1) := by decide +kernel
theorem d_M_perform_6 : decode b_M_perform 6 = .ok (.istore_n 2, 1) := by decide +kernel
theorem d_M_perform_7 : decode b_M_perform 7 = .ok (.iload_n 2, 1) := by decide +kernel
theorem d_M_perform_8 : decode b_M_perform 8 = .ok (.bipush 8, 2) := by decide +kernel
theorem d_M_perform_10 : decode b_M_perform 10 = .ok (.if_icmp .ne 25, 3) := by decide +kernel
theorem d_M_perform_13 : decode b_M_perform 13 = .ok (.aload_n 0, 1) := by decide +kernel
theorem d_M_perform_14 : decode b_M_perform 14 = .ok (.getfield 22, 3) := by decide +kernel
theorem d_M_perform_17 : decode b_M_perform 17 = .ok (.bipush 32, 2) := by decide +kernel
theorem d_M_perform_19 : decode b_M_perform 19 = .ok (.aload_n 0, 1) := by decide +kernel
theorem d_M_perform_20 : decode b_M_perform 20 = .ok (.getfield 35, 3) := by decide +kernel
theorem d_M_perform_23 : decode b_M_perform 23 = .ok (.iload_n 1, 1) := by decide +kernel
theorem d_M_perform_24 : decode b_M_perform 24 = .ok (.iaload, 1) := by decide +kernel
theorem d_M_perform_25 : decode b_M_perform 25 = .ok (.imul, 1) := by decide +kernel
theorem d_M_perform_26 : decode b_M_perform 26 = .ok (.aload_n 0, 1) := by decide +kernel
theorem d_M_perform_27 : decode b_M_perform 27 = .ok (.getfield 38, 3) := by decide +kernel
theorem d_M_perform_30 : decode b_M_perform 30 = .ok (.iload_n 1, 1) := by decide +kernel
theorem d_M_perform_31 : decode b_M_perform 31 = .ok (.iaload, 1) := by decide +kernel
theorem d_M_perform_32 : decode b_M_perform 32 = .ok (.iadd, 1) := by decide +kernel
theorem d_M_perform_33 : decode b_M_perform 33 = .ok (.baload, 1) := by decide +kernel
theorem d_M_perform_34 : decode b_M_perform 34 = .ok (.ireturn, 1) := by decide +kernel
theorem d_M_perform_35 : decode b_M_perform 35 = .ok (.iload_n 2, 1) := by decide +kernel
theorem d_M_perform_36 : decode b_M_perform 36 = .ok (.bipush 9, 2) := by decide +kernel
theorem d_M_perform_38 : decode b_M_perform 38 = .ok (.if_icmp .ne 8, 3) := by decide +kernel
theorem d_M_perform_41 : decode b_M_perform 41 = .ok (.aload_n 0, 1) := by decide +kernel
theorem d_M_perform_42 : decode b_M_perform 42 = .ok (.getfield 110, 3) := by decide +kernel
theorem d_M_perform_45 : decode b_M_perform 45 = .ok (.ireturn, 1) := by decide +kernel
theorem d_M_perform_46 : decode b_M_perform 46 = .ok (.iload_n 2, 1) := by decide +kernel
theorem d_M_perform_47 : decode b_M_perform 47 = .ok (.bipush 12, 2) := by decide +kernel
theorem d_M_perform_49 : decode b_M_perform 49 = .ok (.if_icmp .ne 14, 3) := by decide +kernel
theorem d_M_perform_52 : decode b_M_perform 52 = .ok (.aload_n 0, 1) := by decide +kernel
theorem d_M_perform_53 : decode b_M_perform 53 = .ok (.aload_n 0, 1) := by decide +kernel
theorem d_M_perform_54 : decode b_M_perform 54 = .ok (.getfield 35, 3) := by decide +kernel
theorem d_M_perform_57 : decode b_M_perform 57 = .ok (.iload_n 1, 1) := by decide +kernel
theorem d_M_perform_58 : decode b_M_perform 58 = .ok (.iaload, 1) := by decide +kernel
theorem d_M_perform_59 : decode b_M_perform 59 = .ok (.invokevirtual 68, 3) := by decide +kernel
theorem d_M_perform_62 : decode b_M_perform 62 = .ok (.ireturn, 1) := by decide +kernel
theorem d_M_perform_63 : decode b_M_perform 63 = .ok (.iload_n 2, 1) := by decide +kernel
theorem d_M_perform_64 : decode b_M_perform 64 = .ok (.bipush 10, 2) := by decide +kernel
theorem d_M_perform_66 : decode b_M_perform 66 = .ok (.if_icmp .ne 28, 3) := by decide +kernel
theorem d_M_perform_69 : decode b_M_perform 69 = .ok (.aload_n 0, 1) := by decide +kernel
theorem d_M_perform_70 : decode b_M_perform 70 = .ok (.getfield 22, 3) := by decide +kernel
theorem d_M_perform_73 : decode b_M_perform 73 = .ok (.bipush 32, 2) := by decide +kernel
theorem d_M_perform_75 : decode b_M_perform 75 = .ok (.aload_n 0, 1) := by decide +kernel
theorem d_M_perform_76 : decode b_M_perform 76 = .ok (.getfield 32, 3) := by decide +kernel
theorem d_M_perform_79 : decode b_M_perform 79 = .ok (.iload_n 1, 1) := by decide +kernel
theorem d_M_perform_80 : decode b_M_perform 80 = .ok (.iaload, 1) := by decide +kernel
theorem d_M_perform_81 : decode b_M_perform 81 = .ok (.imul, 1) := by decide +kernel
theorem d_M_perform_82 : decode b_M_perform 82 = .ok (.aload_n 0, 1) := by decide +kernel
theorem d_M_perform_83 : decode b_M_perform 83 = .ok (.getfield 38, 3) := by decide +kernel
theorem d_M_perform_86 : decode b_M_perform 86 = .ok (.iload_n 1, 1) := by decide +kernel
theorem d_M_perform_87 : decode b_M_perform 87 = .ok (.iaload, 1) := by decide +kernel
theorem d_M_perform_88 : decode b_M_perform 88 = .ok (.iadd, 1) := by decide +kernel
theorem d_M_perform_89 : decode b_M_perform 89 = .ok (.iconst 1, 1) := by decide +kernel
theorem d_M_perform_90 : decode b_M_perform 90 = .ok (.bastore, 1) := by decide +kernel
theorem d_M_perform_91 : decode b_M_perform 91 = .ok (.goto 175, 3) := by decide +kernel
theorem d_M_perform_94 : decode b_M_perform 94 = .ok (.iload_n 2, 1) := by decide +kernel
theorem d_M_perform_95 : decode b_M_perform 95 = .ok (.bipush 11, 2) := by decide +kernel
theorem d_M_perform_97 : decode b_M_perform 97 = .ok (.if_icmp .ne 22, 3) := by decide +kernel
theorem d_M_perform_100 : decode b_M_perform 100 = .ok (.aload_n 0, 1) := by decide +kernel
theorem d_M_perform_101 : decode b_M_perform 101 = .ok (.aload_n 0, 1) := by decide +kernel
theorem d_M_perform_102 : decode b_M_perform 102 = .ok (.getfield 32, 3) := by decide +kernel
theorem d_M_perform_105 : decode b_M_perform 105 = .ok (.iload_n 1, 1) := by decide +kernel
theorem d_M_perform_106 : decode b_M_perform 106 = .ok (.iaload, 1) := by decide +kernel
theorem d_M_perform_107 : decode b_M_perform 107 = .ok (.aload_n 0, 1) := by decide +kernel
theorem d_M_perform_108 : decode b_M_perform 108 = .ok (.getfield 38, 3) := by decide +kernel
theorem d_M_perform_111 : decode b_M_perform 111 = .ok (.iload_n 1, 1) := by decide +kernel
theorem d_M_perform_112 : decode b_M_perform 112 = .ok (.iaload, 1) := by decide +kernel
theorem d_M_perform_113 : decode b_M_perform 113 = .ok (.invokevirtual 51, 3) := by decide +kernel
theorem d_M_perform_116 : decode b_M_perform 116 = .ok (.goto 150, 3) := by decide +kernel
theorem d_M_perform_119 : decode b_M_perform 119 = .ok (.iload_n 2, 1) := by decide +kernel
theorem d_M_perform_120 : decode b_M_perform 120 = .ok (.ifCond .ne 28, 3) := by decide +kernel
end
section
theorem d_M_perform_123 : decode b_M_perform 123 = .ok (.aload_n 0, 1) := by decide +kernel
theorem d_M_perform_124 : decode b_M_perform 124 = .ok (.aload_n 0, 1) := by decide +kernel
theorem d_M_perform_125 : decode b_M_perform 125 = .ok (.getfield 32, 3) := by decide +kernel
theorem d_M_perform_128 : decode b_M_perform 128 = .ok (.iload_n 1, 1) := by decide +kernel
theorem d_M_perform_129 : decode b_M_perform 129 = .ok (.iaload, 1) := by decide +kernel
theorem d_M_perform_130 : decode b_M_perform 130 = .ok (.aload_n 0, 1) := by decide +kernel
theorem d_M_perform_131 : decode b_M_perform 131 = .ok (.getfield 35, 3) := by decide +kernel
theorem d_M_perform_134 : decode b_M_perform 134 = .ok (.iload_n 1, 1) := by decide +kernel
theorem d_M_perform_135 : decode b_M_perform 135 = .ok (.iaload, 1) := by decide +kernel
theorem d_M_perform_136 : decode b_M_perform 136 = .ok (.aload_n 0, 1) := by decide +kernel
theorem d_M_perform_137 : decode b_M_perform 137 = .ok (.getfield 38, 3) := by decide +kernel
theorem d_M_perform_140 : decode b_M_perform 140 = .ok (.iload_n 1, 1) := by decide +kernel
theorem d_M_perform_141 : decode b_M_perform 141 = .ok (.iaload, 1) := by decide +kernel
theorem d_M_perform_142 : decode b_M_perform 142 = .ok (.invokevirtual 114, 3) := by decide +kernel
theorem d_M_perform_145 : decode b_M_perform 145 = .ok (.goto 121, 3) := by decide +kernel
theorem d_M_perform_148 : decode b_M_perform 148 = .ok (.iload_n 2, 1) := by decide +kernel
theorem d_M_perform_149 : decode b_M_perform 149 = .ok (.bipush 6, 2) := by decide +kernel
theorem d_M_perform_151 : decode b_M_perform 151 = .ok (.if_icmp .ne 22, 3) := by decide +kernel
theorem d_M_perform_154 : decode b_M_perform 154 = .ok (.aload_n 0, 1) := by decide +kernel
theorem d_M_perform_155 : decode b_M_perform 155 = .ok (.aload_n 0, 1) := by decide +kernel
theorem d_M_perform_156 : decode b_M_perform 156 = .ok (.getfield 32, 3) := by decide +kernel
theorem d_M_perform_159 : decode b_M_perform 159 = .ok (.iload_n 1, 1) := by decide +kernel
theorem d_M_perform_160 : decode b_M_perform 160 = .ok (.iaload, 1) := by decide +kernel
theorem d_M_perform_161 : decode b_M_perform 161 = .ok (.aload_n 0, 1) := by decide +kernel
theorem d_M_perform_162 : decode b_M_perform 162 = .ok (.getfield 35, 3) := by decide +kernel
theorem d_M_perform_165 : decode b_M_perform 165 = .ok (.iload_n 1, 1) := by decide +kernel
theorem d_M_perform_166 : decode b_M_perform 166 = .ok (.iaload, 1) := by decide +kernel
theorem d_M_perform_167 : decode b_M_perform 167 = .ok (.invokevirtual 55, 3) := by decide +kernel
theorem d_M_perform_170 : decode b_M_perform 170 = .ok (.goto 96, 3) := by decide +kernel
theorem d_M_perform_173 : decode b_M_perform 173 = .ok (.iload_n 2, 1) := by decide +kernel
theorem d_M_perform_174 : decode b_M_perform 174 = .ok (.bipush 7, 2) := by decide +kernel
theorem d_M_perform_176 : decode b_M_perform 176 = .ok (.if_icmp .ne 22, 3) := by decide +kernel
theorem d_M_perform_179 : decode b_M_perform 179 = .ok (.aload_n 0, 1) := by decide +kernel
theorem d_M_perform_180 : decode b_M_perform 180 = .ok (.aload_n 0, 1) := by decide +kernel
theorem d_M_perform_181 : decode b_M_perform 181 = .ok (.getfield 32, 3) := by decide +kernel
theorem d_M_perform_184 : decode b_M_perform 184 = .ok (.iload_n 1, 1) := by decide +kernel
theorem d_M_perform_185 : decode b_M_perform 185 = .ok (.iaload, 1) := by decide +kernel
theorem d_M_perform_186 : decode b_M_perform 186 = .ok (.aload_n 0, 1) := by decide +kernel
theorem d_M_perform_187 : decode b_M_perform 187 = .ok (.getfield 35, 3) := by decide +kernel
theorem d_M_perform_190 : decode b_M_perform 190 = .ok (.iload_n 1, 1) := by decide +kernel
theorem d_M_perform_191 : decode b_M_perform 191 = .ok (.iaload, 1) := by decide +kernel
theorem d_M_perform_192 : decode b_M_perform 192 = .ok (.invokevirtual 118, 3) := by decide +kernel
theorem d_M_perform_195 : decode b_M_perform 195 = .ok (.goto 71, 3) := by decide +kernel
theorem d_M_perform_198 : decode b_M_perform 198 = .ok (.iload_n 2, 1) := by decide +kernel
theorem d_M_perform_199 : decode b_M_perform 199 = .ok (.iconst 1, 1) := by decide +kernel
theorem d_M_perform_200 : decode b_M_perform 200 = .ok (.if_icmp .eq 8, 3) := by decide +kernel
theorem d_M_perform_203 : decode b_M_perform 203 = .ok (.iload_n 2, 1) := by decide +kernel
theorem d_M_perform_204 : decode b_M_perform 204 = .ok (.iconst 2, 1) := by decide +kernel
theorem d_M_perform_205 : decode b_M_perform 205 = .ok (.if_icmp .ne 38, 3) := by decide +kernel
theorem d_M_perform_208 : decode b_M_perform 208 = .ok (.aload_n 0, 1) := by decide +kernel
theorem d_M_perform_209 : decode b_M_perform 209 = .ok (.aload_n 0, 1) := by decide +kernel
theorem d_M_perform_210 : decode b_M_perform 210 = .ok (.getfield 32, 3) := by decide +kernel
theorem d_M_perform_213 : decode b_M_perform 213 = .ok (.iload_n 1, 1) := by decide +kernel
theorem d_M_perform_214 : decode b_M_perform 214 = .ok (.iaload, 1) := by decide +kernel
theorem d_M_perform_215 : decode b_M_perform 215 = .ok (.aload_n 0, 1) := by decide +kernel
theorem d_M_perform_216 : decode b_M_perform 216 = .ok (.getfield 35, 3) := by decide +kernel
theorem d_M_perform_219 : decode b_M_perform 219 = .ok (.iload_n 1, 1) := by decide +kernel
theorem d_M_perform_220 : decode b_M_perform 220 = .ok (.iaload, 1) := by decide +kernel
theorem d_M_perform_221 : decode b_M_perform 221 = .ok (.aload_n 0, 1) := by decide +kernel
theorem d_M_perform_222 : decode b_M_perform 222 = .ok (.getfield 38, 3) := by decide +kernel
theorem d_M_perform_225 : decode b_M_perform 225 = .ok (.iload_n 1, 1) := by decide +kernel
theorem d_M_perform_226 : decode b_M_perform 226 = .ok (.iaload, 1) := by decide +kernel
theorem d_M_perform_227 : decode b_M_perform 227 = .ok (.iload_n 2, 1) := by decide +kernel
theorem d_M_perform_228 : decode b_M_perform 228 = .ok (.iconst 2, 1) := by decide +kernel
theorem d_M_perform_229 : decode b_M_perform 229 = .ok (.if_icmp .ne 7, 3) := by decide +kernel
theorem d_M_perform_232 : decode b_M_perform 232 = .ok (.iconst 1, 1) := by decide +kernel
theorem d_M_perform_233 : decode b_M_perform 233 = .ok (.goto 4, 3) := by decide +kernel
theorem d_M_perform_236 : decode b_M_perform 236 = .ok (.iconst 0, 1) := by decide +kernel
theorem d_M_perform_237 : decode b_M_perform 237 = .ok (.invokevirtual 121, 3) := by decide +kernel
theorem d_M_perform_240 : decode b_M_perform 240 = .ok (.goto 26, 3) := by decide +kernel
theorem d_M_perform_243 : decode b_M_perform 243 = .ok (.aload_n 0, 1) := by decide +kernel
theorem d_M_perform_244 : decode b_M_perform 244 = .ok (.iload_n 2, 1) := by decide +kernel
theorem d_M_perform_245 : decode b_M_perform 245 = .ok (.aload_n 0, 1) := by decide +kernel
theorem d_M_perform_246 : decode b_M_perform 246 = .ok (.getfield 32, 3) := by decide +kernel
theorem d_M_perform_249 : decode b_M_perform 249 = .ok (.iload_n 1, 1) := by decide +kernel
theorem d_M_perform_250 : decode b_M_perform 250 = .ok (.iaload, 1) := by decide +kernel
theorem d_M_perform_251 : decode b_M_perform 251 = .ok (.aload_n 0, 1) := by decide +kernel
theorem d_M_perform_252 : decode b_M_perform 252 = .ok (.getfield 35, 3) := by decide +kernel
theorem d_M_perform_255 : decode b_M_perform 255 = .ok (.iload_n 1, 1) := by decide +kernel
theorem d_M_perform_256 : decode b_M_perform 256 = .ok (.iaload, 1) := by decide +kernel
theorem d_M_perform_257 : decode b_M_perform 257 = .ok (.aload_n 0, 1) := by decide +kernel
theorem d_M_perform_258 : decode b_M_perform 258 = .ok (.getfield 38, 3) := by decide +kernel
theorem d_M_perform_261 : decode b_M_perform 261 = .ok (.iload_n 1, 1) := by decide +kernel
theorem d_M_perform_262 : decode b_M_perform 262 = .ok (.iaload, 1) := by decide +kernel
theorem d_M_perform_263 : decode b_M_perform 263 = .ok (.invokevirtual 125, 3) := by decide +kernel
theorem d_M_perform_266 : decode b_M_perform 266 = .ok (.iconst 1, 1) := by decide +kernel
theorem d_M_perform_267 : decode b_M_perform 267 = .ok (.ireturn, 1) := by decide +kernel
theorem d_M_isZero_0 : decode b_M_isZero 0 = .ok (.iconst 0, 1) := by decide +kernel
theorem d_M_isZero_1 : decode b_M_isZero 1 = .ok (.istore_n 2, 1) := by decide +kernel
theorem d_M_isZero_2 : decode b_M_isZero 2 = .ok (.iload_n 2, 1) := by decide +kernel
theorem d_M_isZero_3 : decode b_M_isZero 3 = .ok (.bipush 32, 2) := by decide +kernel
theorem d_M_isZero_5 : decode b_M_isZero 5 = .ok (.if_icmp .ge 25, 3) := by decide +kernel
theorem d_M_isZero_8 : decode b_M_isZero 8 = .ok (.aload_n 0, 1) := by decide +kernel
theorem d_M_isZero_9 : decode b_M_isZero 9 = .ok (.getfield 22, 3) := by decide +kernel
theorem d_M_isZero_12 : decode b_M_isZero 12 = .ok (.bipush 32, 2) := by decide +kernel
theorem d_M_isZero_14 : decode b_M_isZero 14 = .ok (.iload_n 1, 1) := by decide +kernel
theorem d_M_isZero_15 : decode b_M_isZero 15 = .ok (.imul, 1) := by decide +kernel
theorem d_M_isZero_16 : decode b_M_isZero 16 = .ok (.iload_n 2, 1) := by decide +kernel
theorem d_M_isZero_17 : decode b_M_isZero 17 = .ok (.iadd, 1) := by decide +kernel
theorem d_M_isZero_18 : decode b_M_isZero 18 = .ok (.baload, 1) := by decide +kernel
theorem d_M_isZero_19 : decode b_M_isZero 19 = .ok (.ifCond .eq 5, 3) := by decide +kernel
theorem d_M_isZero_22 : decode b_M_isZero 22 = .ok (.iconst 0, 1) := by decide +kernel
theorem d_M_isZero_23 : decode b_M_isZero 23 = .ok (.ireturn, 1) := by decide +kernel
theorem d_M_isZero_24 : decode b_M_isZero 24 = .ok (.iinc 2 1, 3) := by decide +kernel
theorem d_M_isZero_27 : decode b_M_isZero 27 = .ok (.goto (-25), 3) := by decide +kernel
theorem d_M_isZero_30 : decode b_M_isZero 30 = .ok (.iconst 1, 1) := by decide +kernel
theorem d_M_isZero_31 : decode b_M_isZero 31 = .ok (.ireturn, 1) := by decide +kernel
theorem d_M_loadConstant_0 : decode b_M_loadConstant 0 = .ok (.iconst 0, 1) := by decide +kernel
theorem d_M_loadConstant_1 : decode b_M_loadConstant 1 = .ok (.istore_n 3, 1) := by decide +kernel
theorem d_M_loadConstant_2 : decode b_M_loadConstant 2 = .ok (.iload_n 3, 1) := by decide +kernel
theorem d_M_loadConstant_3 : decode b_M_loadConstant 3 = .ok (.bipush 32, 2) := by decide +kernel
theorem d_M_loadConstant_5 : decode b_M_loadConstant 5 = .ok (.if_icmp .ge 33, 3) := by decide +kernel
theorem d_M_loadConstant_8 : decode b_M_loadConstant 8 = .ok (.aload_n 0, 1) := by decide +kernel
theorem d_M_loadConstant_9 : decode b_M_loadConstant 9 = .ok (.getfield 22, 3) := by decide +kernel
theorem d_M_loadConstant_12 : decode b_M_loadConstant 12 = .ok (.bipush 32, 2) := by decide +kernel
theorem d_M_loadConstant_14 : decode b_M_loadConstant 14 = .ok (.iload_n 1, 1) := by decide +kernel
theorem d_M_loadConstant_15 : decode b_M_loadConstant 15 = .ok (.imul, 1) := by decide +kernel
theorem d_M_loadConstant_16 : decode b_M_loadConstant 16 = .ok (.iload_n 3, 1) := by decide +kernel
theorem d_M_loadConstant_17 : decode b_M_loadConstant 17 = .ok (.iadd, 1) := by decide +kernel
theorem d_M_loadConstant_18 : decode b_M_loadConstant 18 = .ok (.iload_n 2, 1) := by decide +kernel
theorem d_M_loadConstant_19 : decode b_M_loadConstant 19 = .ok (.iload_n 3, 1) := by decide +kernel
theorem d_M_loadConstant_20 : decode b_M_loadConstant 20 = .ok (.iushr, 1) := by decide +kernel
theorem d_M_loadConstant_21 : decode b_M_loadConstant 21 = .ok (.iconst 1, 1) := by decide +kernel
theorem d_M_loadConstant_22 : decode b_M_loadConstant 22 = .ok (.iand, 1) := by decide +kernel
theorem d_M_loadConstant_23 : decode b_M_loadConstant 23 = .ok (.ifCond .eq 7, 3) := by decide +kernel
theorem d_M_loadConstant_26 : decode b_M_loadConstant 26 = .ok (.iconst 1, 1) := by decide +kernel
theorem d_M_loadConstant_27 : decode b_M_loadConstant 27 = .ok (.goto 4, 3) := by decide +kernel
theorem d_M_loadConstant_30 : decode b_M_loadConstant 30 = .ok (.iconst 0, 1) := by decide +kernel
theorem d_M_loadConstant_31 : decode b_M_loadConstant 31 = .ok (.bastore, 1) := by decide +kernel
theorem d_M_loadConstant_32 : decode b_M_loadConstant 32 = .ok (.iinc 3 1, 3) := by decide +kernel
theorem d_M_loadConstant_35 : decode b_M_loadConstant 35 = .ok (.goto (-33), 3) := by decide +kernel
theorem d_M_loadConstant_38 : decode b_M_loadConstant 38 = .ok (.return_, 1) := by decide +kernel
theorem d_M_keepFresh_0 : decode b_M_keepFresh 0 = .ok (.iconst 0, 1) := by decide +kernel
theorem d_M_keepFresh_1 : decode b_M_keepFresh 1 = .ok (.istore_n 2, 1) := by decide +kernel
theorem d_M_keepFresh_2 : decode b_M_keepFresh 2 = .ok (.iload_n 2, 1) := by decide +kernel
theorem d_M_keepFresh_3 : decode b_M_keepFresh 3 = .ok (.bipush 32, 2) := by decide +kernel
theorem d_M_keepFresh_5 : decode b_M_keepFresh 5 = .ok (.if_icmp .ge 26, 3) := by decide +kernel
theorem d_M_keepFresh_8 : decode b_M_keepFresh 8 = .ok (.aload_n 0, 1) := by decide +kernel
theorem d_M_keepFresh_9 : decode b_M_keepFresh 9 = .ok (.getfield 22, 3) := by decide +kernel
theorem d_M_keepFresh_12 : decode b_M_keepFresh 12 = .ok (.bipush 32, 2) := by decide +kernel
theorem d_M_keepFresh_14 : decode b_M_keepFresh 14 = .ok (.iload_n 1, 1) := by decide +kernel
theorem d_M_keepFresh_15 : decode b_M_keepFresh 15 = .ok (.imul, 1) := by decide +kernel
theorem d_M_keepFresh_16 : decode b_M_keepFresh 16 = .ok (.iload_n 2, 1) := by decide +kernel
theorem d_M_keepFresh_17 : decode b_M_keepFresh 17 = .ok (.iadd, 1) := by decide +kernel
theorem d_M_keepFresh_18 : decode b_M_keepFresh 18 = .ok (.aload_n 0, 1) := by decide +kernel
theorem d_M_keepFresh_19 : decode b_M_keepFresh 19 = .ok (.getfield 26, 3) := by decide +kernel
theorem d_M_keepFresh_22 : decode b_M_keepFresh 22 = .ok (.iload_n 2, 1) := by decide +kernel
theorem d_M_keepFresh_23 : decode b_M_keepFresh 23 = .ok (.baload, 1) := by decide +kernel
theorem d_M_keepFresh_24 : decode b_M_keepFresh 24 = .ok (.bastore, 1) := by decide +kernel
theorem d_M_keepFresh_25 : decode b_M_keepFresh 25 = .ok (.iinc 2 1, 3) := by decide +kernel
theorem d_M_keepFresh_28 : decode b_M_keepFresh 28 = .ok (.goto (-26), 3) := by decide +kernel
theorem d_M_keepFresh_31 : decode b_M_keepFresh 31 = .ok (.return_, 1) := by decide +kernel
theorem d_M_shift_0 : decode b_M_shift 0 = .ok (.iconst 0, 1) := by decide +kernel
theorem d_M_shift_1 : decode b_M_shift 1 = .ok (.istore 4, 2) := by decide +kernel
theorem d_M_shift_3 : decode b_M_shift 3 = .ok (.iload 4, 2) := by decide +kernel
theorem d_M_shift_5 : decode b_M_shift 5 = .ok (.bipush 32, 2) := by decide +kernel
theorem d_M_shift_7 : decode b_M_shift 7 = .ok (.if_icmp .ge 54, 3) := by decide +kernel
theorem d_M_shift_10 : decode b_M_shift 10 = .ok (.iload 4, 2) := by decide +kernel
theorem d_M_shift_12 : decode b_M_shift 12 = .ok (.iload_n 3, 1) := by decide +kernel
theorem d_M_shift_13 : decode b_M_shift 13 = .ok (.isub, 1) := by decide +kernel
theorem d_M_shift_14 : decode b_M_shift 14 = .ok (.istore 5, 2) := by decide +kernel
theorem d_M_shift_16 : decode b_M_shift 16 = .ok (.aload_n 0, 1) := by decide +kernel
theorem d_M_shift_17 : decode b_M_shift 17 = .ok (.getfield 26, 3) := by decide +kernel
theorem d_M_shift_20 : decode b_M_shift 20 = .ok (.iload 4, 2) := by decide +kernel
theorem d_M_shift_22 : decode b_M_shift 22 = .ok (.iload 5, 2) := by decide +kernel
theorem d_M_shift_24 : decode b_M_shift 24 = .ok (.ifCond .lt 29, 3) := by decide +kernel
theorem d_M_shift_27 : decode b_M_shift 27 = .ok (.iload 5, 2) := by decide +kernel
theorem d_M_shift_29 : decode b_M_shift 29 = .ok (.bipush 32, 2) := by decide +kernel
theorem d_M_shift_31 : decode b_M_shift 31 = .ok (.if_icmp .ge 22, 3) := by decide +kernel
theorem d_M_shift_34 : decode b_M_shift 34 = .ok (.aload_n 0, 1) := by decide +kernel
theorem d_M_shift_35 : decode b_M_shift 35 = .ok (.getfield 22, 3) := by decide +kernel
theorem d_M_shift_38 : decode b_M_shift 38 = .ok (.bipush 32, 2) := by decide +kernel
theorem d_M_shift_40 : decode b_M_shift 40 = .ok (.iload_n 2, 1) := by decide +kernel
theorem d_M_shift_41 : decode b_M_shift 41 = .ok (.imul, 1) := by decide +kernel
theorem d_M_shift_42 : decode b_M_shift 42 = .ok (.iload 5, 2) := by decide +kernel
theorem d_M_shift_44 : decode b_M_shift 44 = .ok (.iadd, 1) := by decide +kernel
theorem d_M_shift_45 : decode b_M_shift 45 = .ok (.baload, 1) := by decide +kernel
theorem d_M_shift_46 : decode b_M_shift 46 = .ok (.ifCond .eq 7, 3) := by decide +kernel
theorem d_M_shift_49 : decode b_M_shift 49 = .ok (.iconst 1, 1) := by decide +kernel
theorem d_M_shift_50 : decode b_M_shift 50 = .ok (.goto 4, 3) := by decide +kernel
theorem d_M_shift_53 : decode b_M_shift 53 = .ok (.iconst 0, 1) := by decide +kernel
theorem d_M_shift_54 : decode b_M_shift 54 = .ok (.bastore, 1) := by decide +kernel
theorem d_M_shift_55 : decode b_M_shift 55 = .ok (.iinc 4 1, 3) := by decide +kernel
theorem d_M_shift_58 : decode b_M_shift 58 = .ok (.goto (-55), 3) := by decide +kernel
theorem d_M_shift_61 : decode b_M_shift 61 = .ok (.aload_n 0, 1) := by decide +kernel
theorem d_M_shift_62 : decode b_M_shift 62 = .ok (.iload_n 1, 1) := by decide +kernel
theorem d_M_shift_63 : decode b_M_shift 63 = .ok (.invokevirtual 128, 3) := by decide +kernel
theorem d_M_shift_66 : decode b_M_shift 66 = .ok (.return_, 1) := by decide +kernel
theorem d_M_widen_0 : decode b_M_widen 0 = .ok (.iconst 0, 1) := by decide +kernel
theorem d_M_widen_1 : decode b_M_widen 1 = .ok (.istore_n 3, 1) := by decide +kernel
theorem d_M_widen_2 : decode b_M_widen 2 = .ok (.iload_n 3, 1) := by decide +kernel
theorem d_M_widen_3 : decode b_M_widen 3 = .ok (.bipush 32, 2) := by decide +kernel
theorem d_M_widen_5 : decode b_M_widen 5 = .ok (.if_icmp .ge 37, 3) := by decide +kernel
theorem d_M_widen_8 : decode b_M_widen 8 = .ok (.aload_n 0, 1) := by decide +kernel
theorem d_M_widen_9 : decode b_M_widen 9 = .ok (.getfield 26, 3) := by decide +kernel
theorem d_M_widen_12 : decode b_M_widen 12 = .ok (.iload_n 3, 1) := by decide +kernel
theorem d_M_widen_13 : decode b_M_widen 13 = .ok (.aload_n 0, 1) := by decide +kernel
theorem d_M_widen_14 : decode b_M_widen 14 = .ok (.getfield 22, 3) := by decide +kernel
theorem d_M_widen_17 : decode b_M_widen 17 = .ok (.bipush 32, 2) := by decide +kernel
theorem d_M_widen_19 : decode b_M_widen 19 = .ok (.iload_n 2, 1) := by decide +kernel
theorem d_M_widen_20 : decode b_M_widen 20 = .ok (.imul, 1) := by decide +kernel
theorem d_M_widen_21 : decode b_M_widen 21 = .ok (.iload_n 3, 1) := by decide +kernel
theorem d_M_widen_22 : decode b_M_widen 22 = .ok (.bipush 16, 2) := by decide +kernel
theorem d_M_widen_24 : decode b_M_widen 24 = .ok (.if_icmp .ge 7, 3) := by decide +kernel
theorem d_M_widen_27 : decode b_M_widen 27 = .ok (.iload_n 3, 1) := by decide +kernel
theorem d_M_widen_28 : decode b_M_widen 28 = .ok (.goto 5, 3) := by decide +kernel
theorem d_M_widen_31 : decode b_M_widen 31 = .ok (.bipush 15, 2) := by decide +kernel
theorem d_M_widen_33 : decode b_M_widen 33 = .ok (.iadd, 1) := by decide +kernel
theorem d_M_widen_34 : decode b_M_widen 34 = .ok (.baload, 1) := by decide +kernel
theorem d_M_widen_35 : decode b_M_widen 35 = .ok (.bastore, 1) := by decide +kernel
theorem d_M_widen_36 : decode b_M_widen 36 = .ok (.iinc 3 1, 3) := by decide +kernel
theorem d_M_widen_39 : decode b_M_widen 39 = .ok (.goto (-37), 3) := by decide +kernel
theorem d_M_widen_42 : decode b_M_widen 42 = .ok (.aload_n 0, 1) := by decide +kernel
theorem d_M_widen_43 : decode b_M_widen 43 = .ok (.iload_n 1, 1) := by decide +kernel
theorem d_M_widen_44 : decode b_M_widen 44 = .ok (.invokevirtual 128, 3) := by decide +kernel
theorem d_M_widen_47 : decode b_M_widen 47 = .ok (.return_, 1) := by decide +kernel
theorem d_M_lowHalf_0 : decode b_M_lowHalf 0 = .ok (.iconst 0, 1) := by decide +kernel
theorem d_M_lowHalf_1 : decode b_M_lowHalf 1 = .ok (.istore_n 3, 1) := by decide +kernel
theorem d_M_lowHalf_2 : decode b_M_lowHalf 2 = .ok (.iload_n 3, 1) := by decide +kernel
theorem d_M_lowHalf_3 : decode b_M_lowHalf 3 = .ok (.bipush 32, 2) := by decide +kernel
theorem d_M_lowHalf_5 : decode b_M_lowHalf 5 = .ok (.if_icmp .ge 40, 3) := by decide +kernel
theorem d_M_lowHalf_8 : decode b_M_lowHalf 8 = .ok (.aload_n 0, 1) := by decide +kernel
theorem d_M_lowHalf_9 : decode b_M_lowHalf 9 = .ok (.getfield 26, 3) := by decide +kernel
theorem d_M_lowHalf_12 : decode b_M_lowHalf 12 = .ok (.iload_n 3, 1) := by decide +kernel
theorem d_M_lowHalf_13 : decode b_M_lowHalf 13 = .ok (.iload_n 3, 1) := by decide +kernel
theorem d_M_lowHalf_14 : decode b_M_lowHalf 14 = .ok (.bipush 16, 2) := by decide +kernel
theorem d_M_lowHalf_16 : decode b_M_lowHalf 16 = .ok (.if_icmp .ge 21, 3) := by decide +kernel
theorem d_M_lowHalf_19 : decode b_M_lowHalf 19 = .ok (.aload_n 0, 1) := by decide +kernel
theorem d_M_lowHalf_20 : decode b_M_lowHalf 20 = .ok (.getfield 22, 3) := by decide +kernel
theorem d_M_lowHalf_23 : decode b_M_lowHalf 23 = .ok (.bipush 32, 2) := by decide +kernel
theorem d_M_lowHalf_25 : decode b_M_lowHalf 25 = .ok (.iload_n 2, 1) := by decide +kernel
theorem d_M_lowHalf_26 : decode b_M_lowHalf 26 = .ok (.imul, 1) := by decide +kernel
theorem d_M_lowHalf_27 : decode b_M_lowHalf 27 = .ok (.iload_n 3, 1) := by decide +kernel
theorem d_M_lowHalf_28 : decode b_M_lowHalf 28 = .ok (.iadd, 1) := by decide +kernel
theorem d_M_lowHalf_29 : decode b_M_lowHalf 29 = .ok (.baload, 1) := by decide +kernel
theorem d_M_lowHalf_30 : decode b_M_lowHalf 30 = .ok (.ifCond .eq 7, 3) := by decide +kernel
theorem d_M_lowHalf_33 : decode b_M_lowHalf 33 = .ok (.iconst 1, 1) := by decide +kernel
theorem d_M_lowHalf_34 : decode b_M_lowHalf 34 = .ok (.goto 4, 3) := by decide +kernel
theorem d_M_lowHalf_37 : decode b_M_lowHalf 37 = .ok (.iconst 0, 1) := by decide +kernel
theorem d_M_lowHalf_38 : decode b_M_lowHalf 38 = .ok (.bastore, 1) := by decide +kernel
theorem d_M_lowHalf_39 : decode b_M_lowHalf 39 = .ok (.iinc 3 1, 3) := by decide +kernel
theorem d_M_lowHalf_42 : decode b_M_lowHalf 42 = .ok (.goto (-40), 3) := by decide +kernel
theorem d_M_lowHalf_45 : decode b_M_lowHalf 45 = .ok (.aload_n 0, 1) := by decide +kernel
theorem d_M_lowHalf_46 : decode b_M_lowHalf 46 = .ok (.iload_n 1, 1) := by decide +kernel
theorem d_M_lowHalf_47 : decode b_M_lowHalf 47 = .ok (.invokevirtual 128, 3) := by decide +kernel
theorem d_M_lowHalf_50 : decode b_M_lowHalf 50 = .ok (.return_, 1) := by decide +kernel
theorem d_M_addSerially_0 : decode b_M_addSerially 0 = .ok (.iload 4, 2) := by decide +kernel
theorem d_M_addSerially_2 : decode b_M_addSerially 2 = .ok (.istore 5, 2) := by decide +kernel
theorem d_M_addSerially_4 : decode b_M_addSerially 4 = .ok (.iconst 0, 1) := by decide +kernel
theorem d_M_addSerially_5 : decode b_M_addSerially 5 = .ok (.istore 6, 2) := by decide +kernel
theorem d_M_addSerially_7 : decode b_M_addSerially 7 = .ok (.iload 6, 2) := by decide +kernel
theorem d_M_addSerially_9 : decode b_M_addSerially 9 = .ok (.bipush 32, 2) := by decide +kernel
theorem d_M_addSerially_11 : decode b_M_addSerially 11 = .ok (.if_icmp .ge 107, 3) := by decide +kernel
theorem d_M_addSerially_14 : decode b_M_addSerially 14 = .ok (.aload_n 0, 1) := by decide +kernel
theorem d_M_addSerially_15 : decode b_M_addSerially 15 = .ok (.getfield 22, 3) := by decide +kernel
theorem d_M_addSerially_18 : decode b_M_addSerially 18 = .ok (.bipush 32, 2) := by decide +kernel
theorem d_M_addSerially_20 : decode b_M_addSerially 20 = .ok (.iload_n 2, 1) := by decide +kernel
theorem d_M_addSerially_21 : decode b_M_addSerially 21 = .ok (.imul, 1) := by decide +kernel
theorem d_M_addSerially_22 : decode b_M_addSerially 22 = .ok (.iload 6, 2) := by decide +kernel
theorem d_M_addSerially_24 : decode b_M_addSerially 24 = .ok (.iadd, 1) := by decide +kernel
theorem d_M_addSerially_25 : decode b_M_addSerially 25 = .ok (.baload, 1) := by decide +kernel
theorem d_M_addSerially_26 : decode b_M_addSerially 26 = .ok (.istore 7, 2) := by decide +kernel
theorem d_M_addSerially_28 : decode b_M_addSerially 28 = .ok (.aload_n 0, 1) := by decide +kernel
theorem d_M_addSerially_29 : decode b_M_addSerially 29 = .ok (.getfield 22, 3) := by decide +kernel
theorem d_M_addSerially_32 : decode b_M_addSerially 32 = .ok (.bipush 32, 2) := by decide +kernel
theorem d_M_addSerially_34 : decode b_M_addSerially 34 = .ok (.iload_n 3, 1) := by decide +kernel
theorem d_M_addSerially_35 : decode b_M_addSerially 35 = .ok (.imul, 1) := by decide +kernel
theorem d_M_addSerially_36 : decode b_M_addSerially 36 = .ok (.iload 6, 2) := by decide +kernel
theorem d_M_addSerially_38 : decode b_M_addSerially 38 = .ok (.iadd, 1) := by decide +kernel
theorem d_M_addSerially_39 : decode b_M_addSerially 39 = .ok (.baload, 1) := by decide +kernel
theorem d_M_addSerially_40 : decode b_M_addSerially 40 = .ok (.iload 4, 2) := by decide +kernel
theorem d_M_addSerially_42 : decode b_M_addSerially 42 = .ok (.if_icmp .eq 7, 3) := by decide +kernel
theorem d_M_addSerially_45 : decode b_M_addSerially 45 = .ok (.iconst 1, 1) := by decide +kernel
theorem d_M_addSerially_46 : decode b_M_addSerially 46 = .ok (.goto 4, 3) := by decide +kernel
theorem d_M_addSerially_49 : decode b_M_addSerially 49 = .ok (.iconst 0, 1) := by decide +kernel
theorem d_M_addSerially_50 : decode b_M_addSerially 50 = .ok (.istore 8, 2) := by decide +kernel
theorem d_M_addSerially_52 : decode b_M_addSerially 52 = .ok (.iload 7, 2) := by decide +kernel
theorem d_M_addSerially_54 : decode b_M_addSerially 54 = .ok (.iload 8, 2) := by decide +kernel
theorem d_M_addSerially_56 : decode b_M_addSerially 56 = .ok (.if_icmp .eq 7, 3) := by decide +kernel
theorem d_M_addSerially_59 : decode b_M_addSerially 59 = .ok (.iconst 1, 1) := by decide +kernel
theorem d_M_addSerially_60 : decode b_M_addSerially 60 = .ok (.goto 4, 3) := by decide +kernel
theorem d_M_addSerially_63 : decode b_M_addSerially 63 = .ok (.iconst 0, 1) := by decide +kernel
theorem d_M_addSerially_64 : decode b_M_addSerially 64 = .ok (.istore 9, 2) := by decide +kernel
theorem d_M_addSerially_66 : decode b_M_addSerially 66 = .ok (.aload_n 0, 1) := by decide +kernel
theorem d_M_addSerially_67 : decode b_M_addSerially 67 = .ok (.getfield 26, 3) := by decide +kernel
theorem d_M_addSerially_70 : decode b_M_addSerially 70 = .ok (.iload 6, 2) := by decide +kernel
theorem d_M_addSerially_72 : decode b_M_addSerially 72 = .ok (.iload 9, 2) := by decide +kernel
theorem d_M_addSerially_74 : decode b_M_addSerially 74 = .ok (.iload 5, 2) := by decide +kernel
theorem d_M_addSerially_76 : decode b_M_addSerially 76 = .ok (.if_icmp .eq 7, 3) := by decide +kernel
theorem d_M_addSerially_79 : decode b_M_addSerially 79 = .ok (.iconst 1, 1) := by decide +kernel
theorem d_M_addSerially_80 : decode b_M_addSerially 80 = .ok (.goto 4, 3) := by decide +kernel
theorem d_M_addSerially_83 : decode b_M_addSerially 83 = .ok (.iconst 0, 1) := by decide +kernel
theorem d_M_addSerially_84 : decode b_M_addSerially 84 = .ok (.bastore, 1) := by decide +kernel
theorem d_M_addSerially_85 : decode b_M_addSerially 85 = .ok (.iload 7, 2) := by decide +kernel
theorem d_M_addSerially_87 : decode b_M_addSerially 87 = .ok (.ifCond .eq 8, 3) := by decide +kernel
theorem d_M_addSerially_90 : decode b_M_addSerially 90 = .ok (.iload 8, 2) := by decide +kernel
theorem d_M_addSerially_92 : decode b_M_addSerially 92 = .ok (.ifCond .ne 13, 3) := by decide +kernel
theorem d_M_addSerially_95 : decode b_M_addSerially 95 = .ok (.iload 9, 2) := by decide +kernel
theorem d_M_addSerially_97 : decode b_M_addSerially 97 = .ok (.ifCond .eq 12, 3) := by decide +kernel
theorem d_M_addSerially_100 : decode b_M_addSerially 100 = .ok (.iload 5, 2) := by decide +kernel
theorem d_M_addSerially_102 : decode b_M_addSerially 102 = .ok (.ifCond .eq 7, 3) := by decide +kernel
theorem d_M_addSerially_105 : decode b_M_addSerially 105 = .ok (.iconst 1, 1) := by decide +kernel
theorem d_M_addSerially_106 : decode b_M_addSerially 106 = .ok (.goto 4, 3) := by decide +kernel
theorem d_M_addSerially_109 : decode b_M_addSerially 109 = .ok (.iconst 0, 1) := by decide +kernel
theorem d_M_addSerially_110 : decode b_M_addSerially 110 = .ok (.istore 5, 2) := by decide +kernel
theorem d_M_addSerially_112 : decode b_M_addSerially 112 = .ok (.iinc 6 1, 3) := by decide +kernel
theorem d_M_addSerially_115 : decode b_M_addSerially 115 = .ok (.goto (-108), 3) := by decide +kernel
theorem d_M_addSerially_118 : decode b_M_addSerially 118 = .ok (.aload_n 0, 1) := by decide +kernel
theorem d_M_addSerially_119 : decode b_M_addSerially 119 = .ok (.iload 5, 2) := by decide +kernel
theorem d_M_addSerially_121 : decode b_M_addSerially 121 = .ok (.putfield 110, 3) := by decide +kernel
theorem d_M_addSerially_124 : decode b_M_addSerially 124 = .ok (.aload_n 0, 1) := by decide +kernel
theorem d_M_addSerially_125 : decode b_M_addSerially 125 = .ok (.iload_n 1, 1) := by decide +kernel
theorem d_M_addSerially_126 : decode b_M_addSerially 126 = .ok (.invokevirtual 128, 3) := by decide +kernel
theorem d_M_addSerially_129 : decode b_M_addSerially 129 = .ok (.return_, 1) := by decide +kernel
theorem d_M_combine_0 : decode b_M_combine 0 = .ok (.iconst 0, 1) := by decide +kernel
theorem d_M_combine_1 : decode b_M_combine 1 = .ok (.istore 5, 2) := by decide +kernel
theorem d_M_combine_3 : decode b_M_combine 3 = .ok (.iload 5, 2) := by decide +kernel
theorem d_M_combine_5 : decode b_M_combine 5 = .ok (.bipush 32, 2) := by decide +kernel
theorem d_M_combine_7 : decode b_M_combine 7 = .ok (.if_icmp .ge 103, 3) := by decide +kernel
theorem d_M_combine_10 : decode b_M_combine 10 = .ok (.aload_n 0, 1) := by decide +kernel
theorem d_M_combine_11 : decode b_M_combine 11 = .ok (.getfield 22, 3) := by decide +kernel
theorem d_M_combine_14 : decode b_M_combine 14 = .ok (.bipush 32, 2) := by decide +kernel
theorem d_M_combine_16 : decode b_M_combine 16 = .ok (.iload_n 3, 1) := by decide +kernel
theorem d_M_combine_17 : decode b_M_combine 17 = .ok (.imul, 1) := by decide +kernel
theorem d_M_combine_18 : decode b_M_combine 18 = .ok (.iload 5, 2) := by decide +kernel
theorem d_M_combine_20 : decode b_M_combine 20 = .ok (.iadd, 1) := by decide +kernel
theorem d_M_combine_21 : decode b_M_combine 21 = .ok (.baload, 1) := by decide +kernel
theorem d_M_combine_22 : decode b_M_combine 22 = .ok (.istore 6, 2) := by decide +kernel
theorem d_M_combine_24 : decode b_M_combine 24 = .ok (.aload_n 0, 1) := by decide +kernel
theorem d_M_combine_25 : decode b_M_combine 25 = .ok (.getfield 22, 3) := by decide +kernel
theorem d_M_combine_28 : decode b_M_combine 28 = .ok (.bipush 32, 2) := by decide +kernel
theorem d_M_combine_30 : decode b_M_combine 30 = .ok (.iload 4, 2) := by decide +kernel
theorem d_M_combine_32 : decode b_M_combine 32 = .ok (.imul, 1) := by decide +kernel
theorem d_M_combine_33 : decode b_M_combine 33 = .ok (.iload 5, 2) := by decide +kernel
theorem d_M_combine_35 : decode b_M_combine 35 = .ok (.iadd, 1) := by decide +kernel
theorem d_M_combine_36 : decode b_M_combine 36 = .ok (.baload, 1) := by decide +kernel
theorem d_M_combine_37 : decode b_M_combine 37 = .ok (.istore 7, 2) := by decide +kernel
theorem d_M_combine_39 : decode b_M_combine 39 = .ok (.aload_n 0, 1) := by decide +kernel
theorem d_M_combine_40 : decode b_M_combine 40 = .ok (.getfield 26, 3) := by decide +kernel
theorem d_M_combine_43 : decode b_M_combine 43 = .ok (.iload 5, 2) := by decide +kernel
theorem d_M_combine_45 : decode b_M_combine 45 = .ok (.iload_n 1, 1) := by decide +kernel
theorem d_M_combine_46 : decode b_M_combine 46 = .ok (.iconst 3, 1) := by decide +kernel
theorem d_M_combine_47 : decode b_M_combine 47 = .ok (.if_icmp .ne 21, 3) := by decide +kernel
theorem d_M_combine_50 : decode b_M_combine 50 = .ok (.iload 6, 2) := by decide +kernel
theorem d_M_combine_52 : decode b_M_combine 52 = .ok (.ifCond .eq 12, 3) := by decide +kernel
theorem d_M_combine_55 : decode b_M_combine 55 = .ok (.iload 7, 2) := by decide +kernel
theorem d_M_combine_57 : decode b_M_combine 57 = .ok (.ifCond .eq 7, 3) := by decide +kernel
theorem d_M_combine_60 : decode b_M_combine 60 = .ok (.iconst 1, 1) := by decide +kernel
theorem d_M_combine_61 : decode b_M_combine 61 = .ok (.goto 42, 3) := by decide +kernel
theorem d_M_combine_64 : decode b_M_combine 64 = .ok (.iconst 0, 1) := by decide +kernel
theorem d_M_combine_65 : decode b_M_combine 65 = .ok (.goto 38, 3) := by decide +kernel
theorem d_M_combine_68 : decode b_M_combine 68 = .ok (.iload_n 1, 1) := by decide +kernel
theorem d_M_combine_69 : decode b_M_combine 69 = .ok (.iconst 4, 1) := by decide +kernel
theorem d_M_combine_70 : decode b_M_combine 70 = .ok (.if_icmp .ne 21, 3) := by decide +kernel
theorem d_M_combine_73 : decode b_M_combine 73 = .ok (.iload 6, 2) := by decide +kernel
theorem d_M_combine_75 : decode b_M_combine 75 = .ok (.ifCond .ne 8, 3) := by decide +kernel
theorem d_M_combine_78 : decode b_M_combine 78 = .ok (.iload 7, 2) := by decide +kernel
theorem d_M_combine_80 : decode b_M_combine 80 = .ok (.ifCond .eq 7, 3) := by decide +kernel
theorem d_M_combine_83 : decode b_M_combine 83 = .ok (.iconst 1, 1) := by decide +kernel
theorem d_M_combine_84 : decode b_M_combine 84 = .ok (.goto 19, 3) := by decide +kernel
end
section
theorem d_M_combine_87 : decode b_M_combine 87 = .ok (.iconst 0, 1) := by decide +kernel
theorem d_M_combine_88 : decode b_M_combine 88 = .ok (.goto 15, 3) := by decide +kernel
theorem d_M_combine_91 : decode b_M_combine 91 = .ok (.iload 6, 2) := by decide +kernel
theorem d_M_combine_93 : decode b_M_combine 93 = .ok (.iload 7, 2) := by decide +kernel
theorem d_M_combine_95 : decode b_M_combine 95 = .ok (.if_icmp .eq 7, 3) := by decide +kernel
theorem d_M_combine_98 : decode b_M_combine 98 = .ok (.iconst 1, 1) := by decide +kernel
theorem d_M_combine_99 : decode b_M_combine 99 = .ok (.goto 4, 3) := by decide +kernel
theorem d_M_combine_102 : decode b_M_combine 102 = .ok (.iconst 0, 1) := by decide +kernel
theorem d_M_combine_103 : decode b_M_combine 103 = .ok (.bastore, 1) := by decide +kernel
theorem d_M_combine_104 : decode b_M_combine 104 = .ok (.iinc 5 1, 3) := by decide +kernel
theorem d_M_combine_107 : decode b_M_combine 107 = .ok (.goto (-104), 3) := by decide +kernel
theorem d_M_combine_110 : decode b_M_combine 110 = .ok (.aload_n 0, 1) := by decide +kernel
theorem d_M_combine_111 : decode b_M_combine 111 = .ok (.iload_n 2, 1) := by decide +kernel
theorem d_M_combine_112 : decode b_M_combine 112 = .ok (.invokevirtual 128, 3) := by decide +kernel
theorem d_M_combine_115 : decode b_M_combine 115 = .ok (.return_, 1) := by decide +kernel
theorem d_T_init_0 : decode b_T_init 0 = .ok (.aload_n 0, 1) := by decide +kernel
theorem d_T_init_1 : decode b_T_init 1 = .ok (.invokespecial 1, 3) := by decide +kernel
theorem d_T_init_4 : decode b_T_init 4 = .ok (.aload_n 0, 1) := by decide +kernel
theorem d_T_init_5 : decode b_T_init 5 = .ok (.bipush 8, 2) := by decide +kernel
theorem d_T_init_7 : decode b_T_init 7 = .ok (.newarray .int, 2) := by decide +kernel
theorem d_T_init_9 : decode b_T_init 9 = .ok (.putfield 7, 3) := by decide +kernel
theorem d_T_init_12 : decode b_T_init 12 = .ok (.aload_n 0, 1) := by decide +kernel
theorem d_T_init_13 : decode b_T_init 13 = .ok (.bipush 32, 2) := by decide +kernel
theorem d_T_init_15 : decode b_T_init 15 = .ok (.newarray .int, 2) := by decide +kernel
theorem d_T_init_17 : decode b_T_init 17 = .ok (.putfield 13, 3) := by decide +kernel
theorem d_T_init_20 : decode b_T_init 20 = .ok (.aload_n 0, 1) := by decide +kernel
theorem d_T_init_21 : decode b_T_init 21 = .ok (.bipush 32, 2) := by decide +kernel
theorem d_T_init_23 : decode b_T_init 23 = .ok (.newarray .int, 2) := by decide +kernel
theorem d_T_init_25 : decode b_T_init 25 = .ok (.putfield 16, 3) := by decide +kernel
theorem d_T_init_28 : decode b_T_init 28 = .ok (.aload_n 0, 1) := by decide +kernel
theorem d_T_init_29 : decode b_T_init 29 = .ok (.bipush 32, 2) := by decide +kernel
theorem d_T_init_31 : decode b_T_init 31 = .ok (.newarray .int, 2) := by decide +kernel
theorem d_T_init_33 : decode b_T_init 33 = .ok (.putfield 19, 3) := by decide +kernel
theorem d_T_init_36 : decode b_T_init 36 = .ok (.aload_n 0, 1) := by decide +kernel
theorem d_T_init_37 : decode b_T_init 37 = .ok (.bipush 32, 2) := by decide +kernel
theorem d_T_init_39 : decode b_T_init 39 = .ok (.newarray .int, 2) := by decide +kernel
theorem d_T_init_41 : decode b_T_init 41 = .ok (.putfield 22, 3) := by decide +kernel
theorem d_T_init_44 : decode b_T_init 44 = .ok (.return_, 1) := by decide +kernel
theorem d_T_emit_0 : decode b_T_emit 0 = .ok (.iload_n 1, 1) := by decide +kernel
theorem d_T_emit_1 : decode b_T_emit 1 = .ok (.ifCond .lt 18, 3) := by decide +kernel
theorem d_T_emit_4 : decode b_T_emit 4 = .ok (.iload_n 1, 1) := by decide +kernel
theorem d_T_emit_5 : decode b_T_emit 5 = .ok (.bipush 18, 2) := by decide +kernel
theorem d_T_emit_7 : decode b_T_emit 7 = .ok (.if_icmp .gt 12, 3) := by decide +kernel
theorem d_T_emit_10 : decode b_T_emit 10 = .ok (.aload_n 0, 1) := by decide +kernel
theorem d_T_emit_11 : decode b_T_emit 11 = .ok (.getfield 25, 3) := by decide +kernel
theorem d_T_emit_14 : decode b_T_emit 14 = .ok (.bipush 32, 2) := by decide +kernel
theorem d_T_emit_16 : decode b_T_emit 16 = .ok (.if_icmp .ne 5, 3) := by decide +kernel
theorem d_T_emit_19 : decode b_T_emit 19 = .ok (.iconst (-1), 1) := by decide +kernel
theorem d_T_emit_20 : decode b_T_emit 20 = .ok (.ireturn, 1) := by decide +kernel
theorem d_T_emit_21 : decode b_T_emit 21 = .ok (.aload_n 0, 1) := by decide +kernel
theorem d_T_emit_22 : decode b_T_emit 22 = .ok (.getfield 13, 3) := by decide +kernel
theorem d_T_emit_25 : decode b_T_emit 25 = .ok (.aload_n 0, 1) := by decide +kernel
theorem d_T_emit_26 : decode b_T_emit 26 = .ok (.getfield 25, 3) := by decide +kernel
theorem d_T_emit_29 : decode b_T_emit 29 = .ok (.iload_n 1, 1) := by decide +kernel
theorem d_T_emit_30 : decode b_T_emit 30 = .ok (.iastore, 1) := by decide +kernel
theorem d_T_emit_31 : decode b_T_emit 31 = .ok (.aload_n 0, 1) := by decide +kernel
theorem d_T_emit_32 : decode b_T_emit 32 = .ok (.getfield 16, 3) := by decide +kernel
theorem d_T_emit_35 : decode b_T_emit 35 = .ok (.aload_n 0, 1) := by decide +kernel
theorem d_T_emit_36 : decode b_T_emit 36 = .ok (.getfield 25, 3) := by decide +kernel
theorem d_T_emit_39 : decode b_T_emit 39 = .ok (.iload_n 2, 1) := by decide +kernel
theorem d_T_emit_40 : decode b_T_emit 40 = .ok (.bipush 7, 2) := by decide +kernel
theorem d_T_emit_42 : decode b_T_emit 42 = .ok (.iand, 1) := by decide +kernel
theorem d_T_emit_43 : decode b_T_emit 43 = .ok (.iastore, 1) := by decide +kernel
theorem d_T_emit_44 : decode b_T_emit 44 = .ok (.aload_n 0, 1) := by decide +kernel
theorem d_T_emit_45 : decode b_T_emit 45 = .ok (.getfield 19, 3) := by decide +kernel
theorem d_T_emit_48 : decode b_T_emit 48 = .ok (.aload_n 0, 1) := by decide +kernel
theorem d_T_emit_49 : decode b_T_emit 49 = .ok (.getfield 25, 3) := by decide +kernel
theorem d_T_emit_52 : decode b_T_emit 52 = .ok (.iload_n 3, 1) := by decide +kernel
theorem d_T_emit_53 : decode b_T_emit 53 = .ok (.iastore, 1) := by decide +kernel
theorem d_T_emit_54 : decode b_T_emit 54 = .ok (.aload_n 0, 1) := by decide +kernel
theorem d_T_emit_55 : decode b_T_emit 55 = .ok (.getfield 22, 3) := by decide +kernel
theorem d_T_emit_58 : decode b_T_emit 58 = .ok (.aload_n 0, 1) := by decide +kernel
theorem d_T_emit_59 : decode b_T_emit 59 = .ok (.getfield 25, 3) := by decide +kernel
theorem d_T_emit_62 : decode b_T_emit 62 = .ok (.iload 4, 2) := by decide +kernel
theorem d_T_emit_64 : decode b_T_emit 64 = .ok (.iastore, 1) := by decide +kernel
theorem d_T_emit_65 : decode b_T_emit 65 = .ok (.aload_n 0, 1) := by decide +kernel
theorem d_T_emit_66 : decode b_T_emit 66 = .ok (.dup, 1) := by decide +kernel
theorem d_T_emit_67 : decode b_T_emit 67 = .ok (.getfield 25, 3) := by decide +kernel
theorem d_T_emit_70 : decode b_T_emit 70 = .ok (.iconst 1, 1) := by decide +kernel
theorem d_T_emit_71 : decode b_T_emit 71 = .ok (.iadd, 1) := by decide +kernel
theorem d_T_emit_72 : decode b_T_emit 72 = .ok (.putfield 25, 3) := by decide +kernel
theorem d_T_emit_75 : decode b_T_emit 75 = .ok (.aload_n 0, 1) := by decide +kernel
theorem d_T_emit_76 : decode b_T_emit 76 = .ok (.getfield 25, 3) := by decide +kernel
theorem d_T_emit_79 : decode b_T_emit 79 = .ok (.ireturn, 1) := by decide +kernel
theorem d_T_clear_0 : decode b_T_clear 0 = .ok (.aload_n 0, 1) := by decide +kernel
theorem d_T_clear_1 : decode b_T_clear 1 = .ok (.iconst 0, 1) := by decide +kernel
theorem d_T_clear_2 : decode b_T_clear 2 = .ok (.putfield 25, 3) := by decide +kernel
theorem d_T_clear_5 : decode b_T_clear 5 = .ok (.aload_n 0, 1) := by decide +kernel
theorem d_T_clear_6 : decode b_T_clear 6 = .ok (.iconst 0, 1) := by decide +kernel
theorem d_T_clear_7 : decode b_T_clear 7 = .ok (.putfield 29, 3) := by decide +kernel
theorem d_T_clear_10 : decode b_T_clear 10 = .ok (.return_, 1) := by decide +kernel
theorem d_T_wrapped_0 : decode b_T_wrapped 0 = .ok (.iload_n 0, 1) := by decide +kernel
theorem d_T_wrapped_1 : decode b_T_wrapped 1 = .ok (.ldc 32, 2) := by decide +kernel
theorem d_T_wrapped_3 : decode b_T_wrapped 3 = .ok (.iand, 1) := by decide +kernel
theorem d_T_wrapped_4 : decode b_T_wrapped 4 = .ok (.istore_n 1, 1) := by decide +kernel
theorem d_T_wrapped_5 : decode b_T_wrapped 5 = .ok (.iload_n 1, 1) := by decide +kernel
theorem d_T_wrapped_6 : decode b_T_wrapped 6 = .ok (.sipush 32767, 3) := by decide +kernel
theorem d_T_wrapped_9 : decode b_T_wrapped 9 = .ok (.if_icmp .le 10, 3) := by decide +kernel
theorem d_T_wrapped_12 : decode b_T_wrapped 12 = .ok (.iload_n 1, 1) := by decide +kernel
theorem d_T_wrapped_13 : decode b_T_wrapped 13 = .ok (.ldc 33, 2) := by decide +kernel
theorem d_T_wrapped_15 : decode b_T_wrapped 15 = .ok (.isub, 1) := by decide +kernel
theorem d_T_wrapped_16 : decode b_T_wrapped 16 = .ok (.goto 4, 3) := by decide +kernel
theorem d_T_wrapped_19 : decode b_T_wrapped 19 = .ok (.iload_n 1, 1) := by decide +kernel
theorem d_T_wrapped_20 : decode b_T_wrapped 20 = .ok (.ireturn, 1) := by decide +kernel
theorem d_T_plain_0 : decode b_T_plain 0 = .ok (.iload_n 0, 1) := by decide +kernel
theorem d_T_plain_1 : decode b_T_plain 1 = .ok (.ifCond .ge 10, 3) := by decide +kernel
theorem d_T_plain_4 : decode b_T_plain 4 = .ok (.iload_n 0, 1) := by decide +kernel
theorem d_T_plain_5 : decode b_T_plain 5 = .ok (.ldc 33, 2) := by decide +kernel
theorem d_T_plain_7 : decode b_T_plain 7 = .ok (.iadd, 1) := by decide +kernel
theorem d_T_plain_8 : decode b_T_plain 8 = .ok (.goto 4, 3) := by decide +kernel
theorem d_T_plain_11 : decode b_T_plain 11 = .ok (.iload_n 0, 1) := by decide +kernel
theorem d_T_plain_12 : decode b_T_plain 12 = .ok (.ireturn, 1) := by decide +kernel
theorem d_T_set_0 : decode b_T_set 0 = .ok (.aload_n 0, 1) := by decide +kernel
theorem d_T_set_1 : decode b_T_set 1 = .ok (.getfield 7, 3) := by decide +kernel
theorem d_T_set_4 : decode b_T_set 4 = .ok (.iload_n 1, 1) := by decide +kernel
theorem d_T_set_5 : decode b_T_set 5 = .ok (.bipush 7, 2) := by decide +kernel
theorem d_T_set_7 : decode b_T_set 7 = .ok (.iand, 1) := by decide +kernel
theorem d_T_set_8 : decode b_T_set 8 = .ok (.iload_n 2, 1) := by decide +kernel
theorem d_T_set_9 : decode b_T_set 9 = .ok (.invokestatic 34, 3) := by decide +kernel
theorem d_T_set_12 : decode b_T_set 12 = .ok (.iastore, 1) := by decide +kernel
theorem d_T_set_13 : decode b_T_set 13 = .ok (.return_, 1) := by decide +kernel
theorem d_T_get_0 : decode b_T_get 0 = .ok (.aload_n 0, 1) := by decide +kernel
theorem d_T_get_1 : decode b_T_get 1 = .ok (.getfield 7, 3) := by decide +kernel
theorem d_T_get_4 : decode b_T_get 4 = .ok (.iload_n 1, 1) := by decide +kernel
theorem d_T_get_5 : decode b_T_get 5 = .ok (.bipush 7, 2) := by decide +kernel
theorem d_T_get_7 : decode b_T_get 7 = .ok (.iand, 1) := by decide +kernel
theorem d_T_get_8 : decode b_T_get 8 = .ok (.iaload, 1) := by decide +kernel
theorem d_T_get_9 : decode b_T_get 9 = .ok (.ireturn, 1) := by decide +kernel
theorem d_T_rewind_0 : decode b_T_rewind 0 = .ok (.aload_n 0, 1) := by decide +kernel
theorem d_T_rewind_1 : decode b_T_rewind 1 = .ok (.iconst 0, 1) := by decide +kernel
theorem d_T_rewind_2 : decode b_T_rewind 2 = .ok (.putfield 29, 3) := by decide +kernel
theorem d_T_rewind_5 : decode b_T_rewind 5 = .ok (.return_, 1) := by decide +kernel
theorem d_T_power_0 : decode b_T_power 0 = .ok (.iconst 1, 1) := by decide +kernel
theorem d_T_power_1 : decode b_T_power 1 = .ok (.istore_n 1, 1) := by decide +kernel
theorem d_T_power_2 : decode b_T_power 2 = .ok (.iconst 0, 1) := by decide +kernel
theorem d_T_power_3 : decode b_T_power 3 = .ok (.istore_n 2, 1) := by decide +kernel
theorem d_T_power_4 : decode b_T_power 4 = .ok (.iload_n 2, 1) := by decide +kernel
theorem d_T_power_5 : decode b_T_power 5 = .ok (.iload_n 0, 1) := by decide +kernel
theorem d_T_power_6 : decode b_T_power 6 = .ok (.if_icmp .ge 19, 3) := by decide +kernel
theorem d_T_power_9 : decode b_T_power 9 = .ok (.iload_n 2, 1) := by decide +kernel
theorem d_T_power_10 : decode b_T_power 10 = .ok (.bipush 15, 2) := by decide +kernel
theorem d_T_power_12 : decode b_T_power 12 = .ok (.if_icmp .ge 13, 3) := by decide +kernel
theorem d_T_power_15 : decode b_T_power 15 = .ok (.iload_n 1, 1) := by decide +kernel
theorem d_T_power_16 : decode b_T_power 16 = .ok (.iconst 2, 1) := by decide +kernel
theorem d_T_power_17 : decode b_T_power 17 = .ok (.imul, 1) := by decide +kernel
theorem d_T_power_18 : decode b_T_power 18 = .ok (.istore_n 1, 1) := by decide +kernel
theorem d_T_power_19 : decode b_T_power 19 = .ok (.iinc 2 1, 3) := by decide +kernel
theorem d_T_power_22 : decode b_T_power 22 = .ok (.goto (-18), 3) := by decide +kernel
theorem d_T_power_25 : decode b_T_power 25 = .ok (.iload_n 1, 1) := by decide +kernel
theorem d_T_power_26 : decode b_T_power 26 = .ok (.ireturn, 1) := by decide +kernel
theorem d_T_down_0 : decode b_T_down 0 = .ok (.iload_n 1, 1) := by decide +kernel
theorem d_T_down_1 : decode b_T_down 1 = .ok (.ifCond .gt 5, 3) := by decide +kernel
theorem d_T_down_4 : decode b_T_down 4 = .ok (.iconst 0, 1) := by decide +kernel
theorem d_T_down_5 : decode b_T_down 5 = .ok (.ireturn, 1) := by decide +kernel
theorem d_T_down_6 : decode b_T_down 6 = .ok (.iload_n 0, 1) := by decide +kernel
theorem d_T_down_7 : decode b_T_down 7 = .ok (.iload_n 1, 1) := by decide +kernel
theorem d_T_down_8 : decode b_T_down 8 = .ok (.idiv, 1) := by decide +kernel
theorem d_T_down_9 : decode b_T_down 9 = .ok (.istore_n 2, 1) := by decide +kernel
theorem d_T_down_10 : decode b_T_down 10 = .ok (.iload_n 2, 1) := by decide +kernel
theorem d_T_down_11 : decode b_T_down 11 = .ok (.iload_n 1, 1) := by decide +kernel
theorem d_T_down_12 : decode b_T_down 12 = .ok (.imul, 1) := by decide +kernel
theorem d_T_down_13 : decode b_T_down 13 = .ok (.iload_n 0, 1) := by decide +kernel
theorem d_T_down_14 : decode b_T_down 14 = .ok (.if_icmp .le 9, 3) := by decide +kernel
theorem d_T_down_17 : decode b_T_down 17 = .ok (.iload_n 2, 1) := by decide +kernel
theorem d_T_down_18 : decode b_T_down 18 = .ok (.iconst 1, 1) := by decide +kernel
theorem d_T_down_19 : decode b_T_down 19 = .ok (.isub, 1) := by decide +kernel
theorem d_T_down_20 : decode b_T_down 20 = .ok (.goto 4, 3) := by decide +kernel
theorem d_T_down_23 : decode b_T_down 23 = .ok (.iload_n 2, 1) := by decide +kernel
theorem d_T_down_24 : decode b_T_down 24 = .ok (.ireturn, 1) := by decide +kernel
theorem d_T_quotient_0 : decode b_T_quotient 0 = .ok (.iload_n 1, 1) := by decide +kernel
theorem d_T_quotient_1 : decode b_T_quotient 1 = .ok (.ifCond .ne 7, 3) := by decide +kernel
theorem d_T_quotient_4 : decode b_T_quotient 4 = .ok (.iconst 0, 1) := by decide +kernel
theorem d_T_quotient_5 : decode b_T_quotient 5 = .ok (.goto 6, 3) := by decide +kernel
theorem d_T_quotient_8 : decode b_T_quotient 8 = .ok (.iload_n 0, 1) := by decide +kernel
theorem d_T_quotient_9 : decode b_T_quotient 9 = .ok (.iload_n 1, 1) := by decide +kernel
theorem d_T_quotient_10 : decode b_T_quotient 10 = .ok (.idiv, 1) := by decide +kernel
theorem d_T_quotient_11 : decode b_T_quotient 11 = .ok (.ireturn, 1) := by decide +kernel
theorem d_T_root_0 : decode b_T_root 0 = .ok (.iconst 0, 1) := by decide +kernel
theorem d_T_root_1 : decode b_T_root 1 = .ok (.istore_n 1, 1) := by decide +kernel
theorem d_T_root_2 : decode b_T_root 2 = .ok (.iload_n 1, 1) := by decide +kernel
theorem d_T_root_3 : decode b_T_root 3 = .ok (.sipush 256, 3) := by decide +kernel
theorem d_T_root_6 : decode b_T_root 6 = .ok (.if_icmp .ge 20, 3) := by decide +kernel
theorem d_T_root_9 : decode b_T_root 9 = .ok (.iload_n 1, 1) := by decide +kernel
theorem d_T_root_10 : decode b_T_root 10 = .ok (.iconst 1, 1) := by decide +kernel
theorem d_T_root_11 : decode b_T_root 11 = .ok (.iadd, 1) := by decide +kernel
theorem d_T_root_12 : decode b_T_root 12 = .ok (.iload_n 1, 1) := by decide +kernel
theorem d_T_root_13 : decode b_T_root 13 = .ok (.iconst 1, 1) := by decide +kernel
theorem d_T_root_14 : decode b_T_root 14 = .ok (.iadd, 1) := by decide +kernel
theorem d_T_root_15 : decode b_T_root 15 = .ok (.imul, 1) := by decide +kernel
theorem d_T_root_16 : decode b_T_root 16 = .ok (.iload_n 0, 1) := by decide +kernel
theorem d_T_root_17 : decode b_T_root 17 = .ok (.if_icmp .gt 9, 3) := by decide +kernel
theorem d_T_root_20 : decode b_T_root 20 = .ok (.iinc 1 1, 3) := by decide +kernel
theorem d_T_root_23 : decode b_T_root 23 = .ok (.goto (-21), 3) := by decide +kernel
theorem d_T_root_26 : decode b_T_root 26 = .ok (.iload_n 1, 1) := by decide +kernel
theorem d_T_root_27 : decode b_T_root 27 = .ok (.ireturn, 1) := by decide +kernel
theorem d_T_ones_0 : decode b_T_ones 0 = .ok (.iconst 0, 1) := by decide +kernel
theorem d_T_ones_1 : decode b_T_ones 1 = .ok (.istore_n 1, 1) := by decide +kernel
theorem d_T_ones_2 : decode b_T_ones 2 = .ok (.iload_n 0, 1) := by decide +kernel
theorem d_T_ones_3 : decode b_T_ones 3 = .ok (.istore_n 2, 1) := by decide +kernel
theorem d_T_ones_4 : decode b_T_ones 4 = .ok (.iconst 0, 1) := by decide +kernel
theorem d_T_ones_5 : decode b_T_ones 5 = .ok (.istore_n 3, 1) := by decide +kernel
theorem d_T_ones_6 : decode b_T_ones 6 = .ok (.iload_n 3, 1) := by decide +kernel
theorem d_T_ones_7 : decode b_T_ones 7 = .ok (.bipush 16, 2) := by decide +kernel
theorem d_T_ones_9 : decode b_T_ones 9 = .ok (.if_icmp .ge 19, 3) := by decide +kernel
theorem d_T_ones_12 : decode b_T_ones 12 = .ok (.iload_n 1, 1) := by decide +kernel
theorem d_T_ones_13 : decode b_T_ones 13 = .ok (.iload_n 2, 1) := by decide +kernel
theorem d_T_ones_14 : decode b_T_ones 14 = .ok (.iconst 2, 1) := by decide +kernel
theorem d_T_ones_15 : decode b_T_ones 15 = .ok (.irem, 1) := by decide +kernel
theorem d_T_ones_16 : decode b_T_ones 16 = .ok (.iadd, 1) := by decide +kernel
theorem d_T_ones_17 : decode b_T_ones 17 = .ok (.istore_n 1, 1) := by decide +kernel
theorem d_T_ones_18 : decode b_T_ones 18 = .ok (.iload_n 2, 1) := by decide +kernel
theorem d_T_ones_19 : decode b_T_ones 19 = .ok (.iconst 2, 1) := by decide +kernel
theorem d_T_ones_20 : decode b_T_ones 20 = .ok (.idiv, 1) := by decide +kernel
theorem d_T_ones_21 : decode b_T_ones 21 = .ok (.istore_n 2, 1) := by decide +kernel
theorem d_T_ones_22 : decode b_T_ones 22 = .ok (.iinc 3 1, 3) := by decide +kernel
theorem d_T_ones_25 : decode b_T_ones 25 = .ok (.goto (-19), 3) := by decide +kernel
theorem d_T_ones_28 : decode b_T_ones 28 = .ok (.iload_n 1, 1) := by decide +kernel
theorem d_T_ones_29 : decode b_T_ones 29 = .ok (.ireturn, 1) := by decide +kernel
theorem d_T_two_0 : decode b_T_two 0 = .ok (.iload_n 0, 1) := by decide +kernel
theorem d_T_two_1 : decode b_T_two 1 = .ok (.iconst 2, 1) := by decide +kernel
theorem d_T_two_2 : decode b_T_two 2 = .ok (.if_icmp .ne 7, 3) := by decide +kernel
theorem d_T_two_5 : decode b_T_two 5 = .ok (.iload_n 1, 1) := by decide +kernel
theorem d_T_two_6 : decode b_T_two 6 = .ok (.iload_n 2, 1) := by decide +kernel
theorem d_T_two_7 : decode b_T_two 7 = .ok (.iadd, 1) := by decide +kernel
theorem d_T_two_8 : decode b_T_two 8 = .ok (.ireturn, 1) := by decide +kernel
theorem d_T_two_9 : decode b_T_two 9 = .ok (.iload_n 0, 1) := by decide +kernel
theorem d_T_two_10 : decode b_T_two 10 = .ok (.iconst 3, 1) := by decide +kernel
theorem d_T_two_11 : decode b_T_two 11 = .ok (.if_icmp .ne 7, 3) := by decide +kernel
theorem d_T_two_14 : decode b_T_two 14 = .ok (.iload_n 1, 1) := by decide +kernel
theorem d_T_two_15 : decode b_T_two 15 = .ok (.iload_n 2, 1) := by decide +kernel
theorem d_T_two_16 : decode b_T_two 16 = .ok (.isub, 1) := by decide +kernel
theorem d_T_two_17 : decode b_T_two 17 = .ok (.ireturn, 1) := by decide +kernel
theorem d_T_two_18 : decode b_T_two 18 = .ok (.iload_n 0, 1) := by decide +kernel
theorem d_T_two_19 : decode b_T_two 19 = .ok (.iconst 4, 1) := by decide +kernel
theorem d_T_two_20 : decode b_T_two 20 = .ok (.if_icmp .ne 7, 3) := by decide +kernel
theorem d_T_two_23 : decode b_T_two 23 = .ok (.iload_n 1, 1) := by decide +kernel
theorem d_T_two_24 : decode b_T_two 24 = .ok (.iload_n 2, 1) := by decide +kernel
theorem d_T_two_25 : decode b_T_two 25 = .ok (.imul, 1) := by decide +kernel
theorem d_T_two_26 : decode b_T_two 26 = .ok (.ireturn, 1) := by decide +kernel
theorem d_T_two_27 : decode b_T_two 27 = .ok (.iload_n 0, 1) := by decide +kernel
theorem d_T_two_28 : decode b_T_two 28 = .ok (.iconst 5, 1) := by decide +kernel
theorem d_T_two_29 : decode b_T_two 29 = .ok (.if_icmp .ne 12, 3) := by decide +kernel
theorem d_T_two_32 : decode b_T_two 32 = .ok (.iload_n 1, 1) := by decide +kernel
theorem d_T_two_33 : decode b_T_two 33 = .ok (.iload_n 2, 1) := by decide +kernel
theorem d_T_two_34 : decode b_T_two 34 = .ok (.imul, 1) := by decide +kernel
theorem d_T_two_35 : decode b_T_two 35 = .ok (.ldc 33, 2) := by decide +kernel
theorem d_T_two_37 : decode b_T_two 37 = .ok (.invokestatic 38, 3) := by decide +kernel
theorem d_T_two_40 : decode b_T_two 40 = .ok (.ireturn, 1) := by decide +kernel
theorem d_T_two_41 : decode b_T_two 41 = .ok (.iload_n 0, 1) := by decide +kernel
theorem d_T_two_42 : decode b_T_two 42 = .ok (.bipush 6, 2) := by decide +kernel
theorem d_T_two_44 : decode b_T_two 44 = .ok (.if_icmp .ne 9, 3) := by decide +kernel
theorem d_T_two_47 : decode b_T_two 47 = .ok (.iload_n 1, 1) := by decide +kernel
theorem d_T_two_48 : decode b_T_two 48 = .ok (.iload_n 2, 1) := by decide +kernel
theorem d_T_two_49 : decode b_T_two 49 = .ok (.invokestatic 42, 3) := by decide +kernel
theorem d_T_two_52 : decode b_T_two 52 = .ok (.ireturn, 1) := by decide +kernel
theorem d_T_two_53 : decode b_T_two 53 = .ok (.iload_n 0, 1) := by decide +kernel
theorem d_T_two_54 : decode b_T_two 54 = .ok (.bipush 7, 2) := by decide +kernel
theorem d_T_two_56 : decode b_T_two 56 = .ok (.if_icmp .ne 13, 3) := by decide +kernel
theorem d_T_two_59 : decode b_T_two 59 = .ok (.iload_n 1, 1) := by decide +kernel
theorem d_T_two_60 : decode b_T_two 60 = .ok (.iload_n 2, 1) := by decide +kernel
theorem d_T_two_61 : decode b_T_two 61 = .ok (.iload_n 1, 1) := by decide +kernel
theorem d_T_two_62 : decode b_T_two 62 = .ok (.iload_n 2, 1) := by decide +kernel
theorem d_T_two_63 : decode b_T_two 63 = .ok (.invokestatic 42, 3) := by decide +kernel
theorem d_T_two_66 : decode b_T_two 66 = .ok (.imul, 1) := by decide +kernel
theorem d_T_two_67 : decode b_T_two 67 = .ok (.isub, 1) := by decide +kernel
theorem d_T_two_68 : decode b_T_two 68 = .ok (.ireturn, 1) := by decide +kernel
theorem d_T_two_69 : decode b_T_two 69 = .ok (.iload_n 0, 1) := by decide +kernel
theorem d_T_two_70 : decode b_T_two 70 = .ok (.bipush 8, 2) := by decide +kernel
theorem d_T_two_72 : decode b_T_two 72 = .ok (.if_icmp .ne 7, 3) := by decide +kernel
theorem d_T_two_75 : decode b_T_two 75 = .ok (.iload_n 1, 1) := by decide +kernel
theorem d_T_two_76 : decode b_T_two 76 = .ok (.iload_n 2, 1) := by decide +kernel
theorem d_T_two_77 : decode b_T_two 77 = .ok (.iand, 1) := by decide +kernel
theorem d_T_two_78 : decode b_T_two 78 = .ok (.ireturn, 1) := by decide +kernel
theorem d_T_two_79 : decode b_T_two 79 = .ok (.iload_n 0, 1) := by decide +kernel
theorem d_T_two_80 : decode b_T_two 80 = .ok (.bipush 9, 2) := by decide +kernel
theorem d_T_two_82 : decode b_T_two 82 = .ok (.if_icmp .ne 7, 3) := by decide +kernel
theorem d_T_two_85 : decode b_T_two 85 = .ok (.iload_n 1, 1) := by decide +kernel
theorem d_T_two_86 : decode b_T_two 86 = .ok (.iload_n 2, 1) := by decide +kernel
theorem d_T_two_87 : decode b_T_two 87 = .ok (.ior, 1) := by decide +kernel
theorem d_T_two_88 : decode b_T_two 88 = .ok (.ireturn, 1) := by decide +kernel
theorem d_T_two_89 : decode b_T_two 89 = .ok (.iload_n 0, 1) := by decide +kernel
theorem d_T_two_90 : decode b_T_two 90 = .ok (.bipush 10, 2) := by decide +kernel
theorem d_T_two_92 : decode b_T_two 92 = .ok (.if_icmp .ne 7, 3) := by decide +kernel
theorem d_T_two_95 : decode b_T_two 95 = .ok (.iload_n 1, 1) := by decide +kernel
theorem d_T_two_96 : decode b_T_two 96 = .ok (.iload_n 2, 1) := by decide +kernel
theorem d_T_two_97 : decode b_T_two 97 = .ok (.ixor, 1) := by decide +kernel
theorem d_T_two_98 : decode b_T_two 98 = .ok (.ireturn, 1) := by decide +kernel
theorem d_T_two_99 : decode b_T_two 99 = .ok (.iload_n 0, 1) := by decide +kernel
theorem d_T_two_100 : decode b_T_two 100 = .ok (.bipush 13, 2) := by decide +kernel
theorem d_T_two_102 : decode b_T_two 102 = .ok (.if_icmp .ne 14, 3) := by decide +kernel
theorem d_T_two_105 : decode b_T_two 105 = .ok (.iload_n 1, 1) := by decide +kernel
theorem d_T_two_106 : decode b_T_two 106 = .ok (.iload_n 2, 1) := by decide +kernel
theorem d_T_two_107 : decode b_T_two 107 = .ok (.if_icmp .ge 7, 3) := by decide +kernel
theorem d_T_two_110 : decode b_T_two 110 = .ok (.iconst 1, 1) := by decide +kernel
theorem d_T_two_111 : decode b_T_two 111 = .ok (.goto 4, 3) := by decide +kernel
theorem d_T_two_114 : decode b_T_two 114 = .ok (.iconst 0, 1) := by decide +kernel
theorem d_T_two_115 : decode b_T_two 115 = .ok (.ireturn, 1) := by decide +kernel
theorem d_T_two_116 : decode b_T_two 116 = .ok (.iload_n 1, 1) := by decide +kernel
theorem d_T_two_117 : decode b_T_two 117 = .ok (.iload_n 2, 1) := by decide +kernel
theorem d_T_two_118 : decode b_T_two 118 = .ok (.if_icmp .ne 7, 3) := by decide +kernel
theorem d_T_two_121 : decode b_T_two 121 = .ok (.iconst 1, 1) := by decide +kernel
theorem d_T_two_122 : decode b_T_two 122 = .ok (.goto 4, 3) := by decide +kernel
theorem d_T_two_125 : decode b_T_two 125 = .ok (.iconst 0, 1) := by decide +kernel
theorem d_T_two_126 : decode b_T_two 126 = .ok (.ireturn, 1) := by decide +kernel
theorem d_T_result_0 : decode b_T_result 0 = .ok (.aload_n 0, 1) := by decide +kernel
theorem d_T_result_1 : decode b_T_result 1 = .ok (.getfield 13, 3) := by decide +kernel
theorem d_T_result_4 : decode b_T_result 4 = .ok (.iload_n 1, 1) := by decide +kernel
theorem d_T_result_5 : decode b_T_result 5 = .ok (.iaload, 1) := by decide +kernel
theorem d_T_result_6 : decode b_T_result 6 = .ok (.istore_n 2, 1) := by decide +kernel
theorem d_T_result_7 : decode b_T_result 7 = .ok (.aload_n 0, 1) := by decide +kernel
theorem d_T_result_8 : decode b_T_result 8 = .ok (.getfield 7, 3) := by decide +kernel
theorem d_T_result_11 : decode b_T_result 11 = .ok (.aload_n 0, 1) := by decide +kernel
theorem d_T_result_12 : decode b_T_result 12 = .ok (.getfield 19, 3) := by decide +kernel
theorem d_T_result_15 : decode b_T_result 15 = .ok (.iload_n 1, 1) := by decide +kernel
theorem d_T_result_16 : decode b_T_result 16 = .ok (.iaload, 1) := by decide +kernel
theorem d_T_result_17 : decode b_T_result 17 = .ok (.bipush 7, 2) := by decide +kernel
theorem d_T_result_19 : decode b_T_result 19 = .ok (.iand, 1) := by decide +kernel
theorem d_T_result_20 : decode b_T_result 20 = .ok (.iaload, 1) := by decide +kernel
theorem d_T_result_21 : decode b_T_result 21 = .ok (.istore_n 3, 1) := by decide +kernel
theorem d_T_result_22 : decode b_T_result 22 = .ok (.aload_n 0, 1) := by decide +kernel
theorem d_T_result_23 : decode b_T_result 23 = .ok (.getfield 7, 3) := by decide +kernel
theorem d_T_result_26 : decode b_T_result 26 = .ok (.aload_n 0, 1) := by decide +kernel
theorem d_T_result_27 : decode b_T_result 27 = .ok (.getfield 22, 3) := by decide +kernel
theorem d_T_result_30 : decode b_T_result 30 = .ok (.iload_n 1, 1) := by decide +kernel
theorem d_T_result_31 : decode b_T_result 31 = .ok (.iaload, 1) := by decide +kernel
theorem d_T_result_32 : decode b_T_result 32 = .ok (.bipush 7, 2) := by decide +kernel
theorem d_T_result_34 : decode b_T_result 34 = .ok (.iand, 1) := by decide +kernel
theorem d_T_result_35 : decode b_T_result 35 = .ok (.iaload, 1) := by decide +kernel
theorem d_T_result_36 : decode b_T_result 36 = .ok (.istore 4, 2) := by decide +kernel
theorem d_T_result_38 : decode b_T_result 38 = .ok (.aload_n 0, 1) := by decide +kernel
theorem d_T_result_39 : decode b_T_result 39 = .ok (.getfield 22, 3) := by decide +kernel
theorem d_T_result_42 : decode b_T_result 42 = .ok (.iload_n 1, 1) := by decide +kernel
theorem d_T_result_43 : decode b_T_result 43 = .ok (.iaload, 1) := by decide +kernel
theorem d_T_result_44 : decode b_T_result 44 = .ok (.bipush 15, 2) := by decide +kernel
theorem d_T_result_46 : decode b_T_result 46 = .ok (.iand, 1) := by decide +kernel
theorem d_T_result_47 : decode b_T_result 47 = .ok (.invokestatic 45, 3) := by decide +kernel
theorem d_T_result_50 : decode b_T_result 50 = .ok (.istore 5, 2) := by decide +kernel
theorem d_T_result_52 : decode b_T_result 52 = .ok (.iload_n 3, 1) := by decide +kernel
theorem d_T_result_53 : decode b_T_result 53 = .ok (.invokestatic 48, 3) := by decide +kernel
theorem d_T_result_56 : decode b_T_result 56 = .ok (.istore 6, 2) := by decide +kernel
theorem d_T_result_58 : decode b_T_result 58 = .ok (.iload_n 2, 1) := by decide +kernel
theorem d_T_result_59 : decode b_T_result 59 = .ok (.ifCond .ne 10, 3) := by decide +kernel
theorem d_T_result_62 : decode b_T_result 62 = .ok (.aload_n 0, 1) := by decide +kernel
theorem d_T_result_63 : decode b_T_result 63 = .ok (.getfield 19, 3) := by decide +kernel
theorem d_T_result_66 : decode b_T_result 66 = .ok (.iload_n 1, 1) := by decide +kernel
theorem d_T_result_67 : decode b_T_result 67 = .ok (.iaload, 1) := by decide +kernel
theorem d_T_result_68 : decode b_T_result 68 = .ok (.ireturn, 1) := by decide +kernel
theorem d_T_result_69 : decode b_T_result 69 = .ok (.iload_n 2, 1) := by decide +kernel
theorem d_T_result_70 : decode b_T_result 70 = .ok (.iconst 1, 1) := by decide +kernel
theorem d_T_result_71 : decode b_T_result 71 = .ok (.if_icmp .ne 5, 3) := by decide +kernel
theorem d_T_result_74 : decode b_T_result 74 = .ok (.iload_n 3, 1) := by decide +kernel
theorem d_T_result_75 : decode b_T_result 75 = .ok (.ireturn, 1) := by decide +kernel
theorem d_T_result_76 : decode b_T_result 76 = .ok (.iload_n 2, 1) := by decide +kernel
theorem d_T_result_77 : decode b_T_result 77 = .ok (.bipush 11, 2) := by decide +kernel
theorem d_T_result_79 : decode b_T_result 79 = .ok (.if_icmp .ne 8, 3) := by decide +kernel
theorem d_T_result_82 : decode b_T_result 82 = .ok (.iload_n 3, 1) := by decide +kernel
theorem d_T_result_83 : decode b_T_result 83 = .ok (.iload 5, 2) := by decide +kernel
theorem d_T_result_85 : decode b_T_result 85 = .ok (.imul, 1) := by decide +kernel
theorem d_T_result_86 : decode b_T_result 86 = .ok (.ireturn, 1) := by decide +kernel
theorem d_T_result_87 : decode b_T_result 87 = .ok (.iload_n 2, 1) := by decide +kernel
end
section
theorem d_T_result_88 : decode b_T_result 88 = .ok (.bipush 12, 2) := by decide +kernel
theorem d_T_result_90 : decode b_T_result 90 = .ok (.if_icmp .ne 10, 3) := by decide +kernel
theorem d_T_result_93 : decode b_T_result 93 = .ok (.iload_n 3, 1) := by decide +kernel
theorem d_T_result_94 : decode b_T_result 94 = .ok (.iload 5, 2) := by decide +kernel
theorem d_T_result_96 : decode b_T_result 96 = .ok (.invokestatic 38, 3) := by decide +kernel
theorem d_T_result_99 : decode b_T_result 99 = .ok (.ireturn, 1) := by decide +kernel
theorem d_T_result_100 : decode b_T_result 100 = .ok (.iload_n 2, 1) := by decide +kernel
theorem d_T_result_101 : decode b_T_result 101 = .ok (.bipush 15, 2) := by decide +kernel
theorem d_T_result_103 : decode b_T_result 103 = .ok (.if_icmp .ne 9, 3) := by decide +kernel
theorem d_T_result_106 : decode b_T_result 106 = .ok (.iload 6, 2) := by decide +kernel
theorem d_T_result_108 : decode b_T_result 108 = .ok (.invokestatic 51, 3) := by decide +kernel
theorem d_T_result_111 : decode b_T_result 111 = .ok (.ireturn, 1) := by decide +kernel
theorem d_T_result_112 : decode b_T_result 112 = .ok (.iload_n 2, 1) := by decide +kernel
theorem d_T_result_113 : decode b_T_result 113 = .ok (.bipush 16, 2) := by decide +kernel
theorem d_T_result_115 : decode b_T_result 115 = .ok (.if_icmp .ne 9, 3) := by decide +kernel
theorem d_T_result_118 : decode b_T_result 118 = .ok (.iload 6, 2) := by decide +kernel
theorem d_T_result_120 : decode b_T_result 120 = .ok (.invokestatic 54, 3) := by decide +kernel
theorem d_T_result_123 : decode b_T_result 123 = .ok (.ireturn, 1) := by decide +kernel
theorem d_T_result_124 : decode b_T_result 124 = .ok (.iload_n 2, 1) := by decide +kernel
theorem d_T_result_125 : decode b_T_result 125 = .ok (.iload_n 3, 1) := by decide +kernel
theorem d_T_result_126 : decode b_T_result 126 = .ok (.iload 4, 2) := by decide +kernel
theorem d_T_result_128 : decode b_T_result 128 = .ok (.invokestatic 57, 3) := by decide +kernel
theorem d_T_result_131 : decode b_T_result 131 = .ok (.ireturn, 1) := by decide +kernel
theorem d_T_carryOut_0 : decode b_T_carryOut 0 = .ok (.aload_n 0, 1) := by decide +kernel
theorem d_T_carryOut_1 : decode b_T_carryOut 1 = .ok (.getfield 7, 3) := by decide +kernel
theorem d_T_carryOut_4 : decode b_T_carryOut 4 = .ok (.aload_n 0, 1) := by decide +kernel
theorem d_T_carryOut_5 : decode b_T_carryOut 5 = .ok (.getfield 19, 3) := by decide +kernel
theorem d_T_carryOut_8 : decode b_T_carryOut 8 = .ok (.iload_n 1, 1) := by decide +kernel
theorem d_T_carryOut_9 : decode b_T_carryOut 9 = .ok (.iaload, 1) := by decide +kernel
theorem d_T_carryOut_10 : decode b_T_carryOut 10 = .ok (.bipush 7, 2) := by decide +kernel
theorem d_T_carryOut_12 : decode b_T_carryOut 12 = .ok (.iand, 1) := by decide +kernel
theorem d_T_carryOut_13 : decode b_T_carryOut 13 = .ok (.iaload, 1) := by decide +kernel
theorem d_T_carryOut_14 : decode b_T_carryOut 14 = .ok (.istore_n 2, 1) := by decide +kernel
theorem d_T_carryOut_15 : decode b_T_carryOut 15 = .ok (.aload_n 0, 1) := by decide +kernel
theorem d_T_carryOut_16 : decode b_T_carryOut 16 = .ok (.getfield 22, 3) := by decide +kernel
theorem d_T_carryOut_19 : decode b_T_carryOut 19 = .ok (.iload_n 1, 1) := by decide +kernel
theorem d_T_carryOut_20 : decode b_T_carryOut 20 = .ok (.iaload, 1) := by decide +kernel
theorem d_T_carryOut_21 : decode b_T_carryOut 21 = .ok (.istore_n 3, 1) := by decide +kernel
theorem d_T_carryOut_22 : decode b_T_carryOut 22 = .ok (.aload_n 0, 1) := by decide +kernel
theorem d_T_carryOut_23 : decode b_T_carryOut 23 = .ok (.iload_n 1, 1) := by decide +kernel
theorem d_T_carryOut_24 : decode b_T_carryOut 24 = .ok (.iconst 1, 1) := by decide +kernel
theorem d_T_carryOut_25 : decode b_T_carryOut 25 = .ok (.iadd, 1) := by decide +kernel
theorem d_T_carryOut_26 : decode b_T_carryOut 26 = .ok (.putfield 29, 3) := by decide +kernel
theorem d_T_carryOut_29 : decode b_T_carryOut 29 = .ok (.aload_n 0, 1) := by decide +kernel
theorem d_T_carryOut_30 : decode b_T_carryOut 30 = .ok (.getfield 13, 3) := by decide +kernel
theorem d_T_carryOut_33 : decode b_T_carryOut 33 = .ok (.iload_n 1, 1) := by decide +kernel
theorem d_T_carryOut_34 : decode b_T_carryOut 34 = .ok (.iaload, 1) := by decide +kernel
theorem d_T_carryOut_35 : decode b_T_carryOut 35 = .ok (.bipush 17, 2) := by decide +kernel
theorem d_T_carryOut_37 : decode b_T_carryOut 37 = .ok (.if_icmp .ne 23, 3) := by decide +kernel
theorem d_T_carryOut_40 : decode b_T_carryOut 40 = .ok (.iload_n 2, 1) := by decide +kernel
theorem d_T_carryOut_41 : decode b_T_carryOut 41 = .ok (.ifCond .ne 83, 3) := by decide +kernel
theorem d_T_carryOut_44 : decode b_T_carryOut 44 = .ok (.aload_n 0, 1) := by decide +kernel
theorem d_T_carryOut_45 : decode b_T_carryOut 45 = .ok (.dup, 1) := by decide +kernel
theorem d_T_carryOut_46 : decode b_T_carryOut 46 = .ok (.getfield 29, 3) := by decide +kernel
theorem d_T_carryOut_49 : decode b_T_carryOut 49 = .ok (.iload_n 3, 1) := by decide +kernel
theorem d_T_carryOut_50 : decode b_T_carryOut 50 = .ok (.bipush 7, 2) := by decide +kernel
theorem d_T_carryOut_52 : decode b_T_carryOut 52 = .ok (.iand, 1) := by decide +kernel
theorem d_T_carryOut_53 : decode b_T_carryOut 53 = .ok (.iadd, 1) := by decide +kernel
theorem d_T_carryOut_54 : decode b_T_carryOut 54 = .ok (.putfield 29, 3) := by decide +kernel
theorem d_T_carryOut_57 : decode b_T_carryOut 57 = .ok (.goto 67, 3) := by decide +kernel
theorem d_T_carryOut_60 : decode b_T_carryOut 60 = .ok (.aload_n 0, 1) := by decide +kernel
theorem d_T_carryOut_61 : decode b_T_carryOut 61 = .ok (.getfield 13, 3) := by decide +kernel
theorem d_T_carryOut_64 : decode b_T_carryOut 64 = .ok (.iload_n 1, 1) := by decide +kernel
theorem d_T_carryOut_65 : decode b_T_carryOut 65 = .ok (.iaload, 1) := by decide +kernel
theorem d_T_carryOut_66 : decode b_T_carryOut 66 = .ok (.bipush 18, 2) := by decide +kernel
theorem d_T_carryOut_68 : decode b_T_carryOut 68 = .ok (.if_icmp .ne 33, 3) := by decide +kernel
theorem d_T_carryOut_71 : decode b_T_carryOut 71 = .ok (.iload_n 2, 1) := by decide +kernel
theorem d_T_carryOut_72 : decode b_T_carryOut 72 = .ok (.ifCond .eq 52, 3) := by decide +kernel
theorem d_T_carryOut_75 : decode b_T_carryOut 75 = .ok (.aload_n 0, 1) := by decide +kernel
theorem d_T_carryOut_76 : decode b_T_carryOut 76 = .ok (.iload_n 1, 1) := by decide +kernel
theorem d_T_carryOut_77 : decode b_T_carryOut 77 = .ok (.iload_n 3, 1) := by decide +kernel
theorem d_T_carryOut_78 : decode b_T_carryOut 78 = .ok (.bipush 31, 2) := by decide +kernel
theorem d_T_carryOut_80 : decode b_T_carryOut 80 = .ok (.iand, 1) := by decide +kernel
theorem d_T_carryOut_81 : decode b_T_carryOut 81 = .ok (.isub, 1) := by decide +kernel
theorem d_T_carryOut_82 : decode b_T_carryOut 82 = .ok (.ifCond .ge 7, 3) := by decide +kernel
theorem d_T_carryOut_85 : decode b_T_carryOut 85 = .ok (.iconst 0, 1) := by decide +kernel
theorem d_T_carryOut_86 : decode b_T_carryOut 86 = .ok (.goto 9, 3) := by decide +kernel
theorem d_T_carryOut_89 : decode b_T_carryOut 89 = .ok (.iload_n 1, 1) := by decide +kernel
theorem d_T_carryOut_90 : decode b_T_carryOut 90 = .ok (.iload_n 3, 1) := by decide +kernel
theorem d_T_carryOut_91 : decode b_T_carryOut 91 = .ok (.bipush 31, 2) := by decide +kernel
theorem d_T_carryOut_93 : decode b_T_carryOut 93 = .ok (.iand, 1) := by decide +kernel
theorem d_T_carryOut_94 : decode b_T_carryOut 94 = .ok (.isub, 1) := by decide +kernel
theorem d_T_carryOut_95 : decode b_T_carryOut 95 = .ok (.putfield 29, 3) := by decide +kernel
theorem d_T_carryOut_98 : decode b_T_carryOut 98 = .ok (.goto 26, 3) := by decide +kernel
theorem d_T_carryOut_101 : decode b_T_carryOut 101 = .ok (.aload_n 0, 1) := by decide +kernel
theorem d_T_carryOut_102 : decode b_T_carryOut 102 = .ok (.iload_n 1, 1) := by decide +kernel
theorem d_T_carryOut_103 : decode b_T_carryOut 103 = .ok (.invokevirtual 61, 3) := by decide +kernel
theorem d_T_carryOut_106 : decode b_T_carryOut 106 = .ok (.istore 4, 2) := by decide +kernel
theorem d_T_carryOut_108 : decode b_T_carryOut 108 = .ok (.aload_n 0, 1) := by decide +kernel
theorem d_T_carryOut_109 : decode b_T_carryOut 109 = .ok (.getfield 7, 3) := by decide +kernel
theorem d_T_carryOut_112 : decode b_T_carryOut 112 = .ok (.aload_n 0, 1) := by decide +kernel
theorem d_T_carryOut_113 : decode b_T_carryOut 113 = .ok (.getfield 16, 3) := by decide +kernel
theorem d_T_carryOut_116 : decode b_T_carryOut 116 = .ok (.iload_n 1, 1) := by decide +kernel
theorem d_T_carryOut_117 : decode b_T_carryOut 117 = .ok (.iaload, 1) := by decide +kernel
theorem d_T_carryOut_118 : decode b_T_carryOut 118 = .ok (.iload 4, 2) := by decide +kernel
theorem d_T_carryOut_120 : decode b_T_carryOut 120 = .ok (.invokestatic 34, 3) := by decide +kernel
theorem d_T_carryOut_123 : decode b_T_carryOut 123 = .ok (.iastore, 1) := by decide +kernel
theorem d_T_carryOut_124 : decode b_T_carryOut 124 = .ok (.return_, 1) := by decide +kernel
theorem d_T_run_0 : decode b_T_run 0 = .ok (.iload_n 1, 1) := by decide +kernel
theorem d_T_run_1 : decode b_T_run 1 = .ok (.ifCond .ge 7, 3) := by decide +kernel
theorem d_T_run_4 : decode b_T_run 4 = .ok (.iconst 0, 1) := by decide +kernel
theorem d_T_run_5 : decode b_T_run 5 = .ok (.goto 15, 3) := by decide +kernel
theorem d_T_run_8 : decode b_T_run 8 = .ok (.iload_n 1, 1) := by decide +kernel
theorem d_T_run_9 : decode b_T_run 9 = .ok (.bipush 60, 2) := by decide +kernel
theorem d_T_run_11 : decode b_T_run 11 = .ok (.if_icmp .le 8, 3) := by decide +kernel
theorem d_T_run_14 : decode b_T_run 14 = .ok (.bipush 60, 2) := by decide +kernel
theorem d_T_run_16 : decode b_T_run 16 = .ok (.goto 4, 3) := by decide +kernel
theorem d_T_run_19 : decode b_T_run 19 = .ok (.iload_n 1, 1) := by decide +kernel
theorem d_T_run_20 : decode b_T_run 20 = .ok (.istore_n 2, 1) := by decide +kernel
theorem d_T_run_21 : decode b_T_run 21 = .ok (.iconst 0, 1) := by decide +kernel
theorem d_T_run_22 : decode b_T_run 22 = .ok (.istore_n 3, 1) := by decide +kernel
theorem d_T_run_23 : decode b_T_run 23 = .ok (.iload_n 3, 1) := by decide +kernel
theorem d_T_run_24 : decode b_T_run 24 = .ok (.iload_n 2, 1) := by decide +kernel
theorem d_T_run_25 : decode b_T_run 25 = .ok (.if_icmp .ge 30, 3) := by decide +kernel
theorem d_T_run_28 : decode b_T_run 28 = .ok (.aload_n 0, 1) := by decide +kernel
theorem d_T_run_29 : decode b_T_run 29 = .ok (.getfield 29, 3) := by decide +kernel
theorem d_T_run_32 : decode b_T_run 32 = .ok (.aload_n 0, 1) := by decide +kernel
theorem d_T_run_33 : decode b_T_run 33 = .ok (.getfield 25, 3) := by decide +kernel
theorem d_T_run_36 : decode b_T_run 36 = .ok (.if_icmp .lt 5, 3) := by decide +kernel
theorem d_T_run_39 : decode b_T_run 39 = .ok (.iload_n 3, 1) := by decide +kernel
theorem d_T_run_40 : decode b_T_run 40 = .ok (.ireturn, 1) := by decide +kernel
theorem d_T_run_41 : decode b_T_run 41 = .ok (.aload_n 0, 1) := by decide +kernel
theorem d_T_run_42 : decode b_T_run 42 = .ok (.aload_n 0, 1) := by decide +kernel
theorem d_T_run_43 : decode b_T_run 43 = .ok (.getfield 29, 3) := by decide +kernel
theorem d_T_run_46 : decode b_T_run 46 = .ok (.invokevirtual 64, 3) := by decide +kernel
theorem d_T_run_49 : decode b_T_run 49 = .ok (.iinc 3 1, 3) := by decide +kernel
theorem d_T_run_52 : decode b_T_run 52 = .ok (.goto (-29), 3) := by decide +kernel
theorem d_T_run_55 : decode b_T_run 55 = .ok (.iload_n 2, 1) := by decide +kernel
theorem d_T_run_56 : decode b_T_run 56 = .ok (.ireturn, 1) := by decide +kernel
theorem d_T_next_0 : decode b_T_next 0 = .ok (.aload_n 0, 1) := by decide +kernel
theorem d_T_next_1 : decode b_T_next 1 = .ok (.getfield 29, 3) := by decide +kernel
theorem d_T_next_4 : decode b_T_next 4 = .ok (.ireturn, 1) := by decide +kernel
theorem d_T_total_0 : decode b_T_total 0 = .ok (.iconst 0, 1) := by decide +kernel
theorem d_T_total_1 : decode b_T_total 1 = .ok (.istore_n 1, 1) := by decide +kernel
theorem d_T_total_2 : decode b_T_total 2 = .ok (.iconst 0, 1) := by decide +kernel
theorem d_T_total_3 : decode b_T_total 3 = .ok (.istore_n 2, 1) := by decide +kernel
theorem d_T_total_4 : decode b_T_total 4 = .ok (.iload_n 2, 1) := by decide +kernel
theorem d_T_total_5 : decode b_T_total 5 = .ok (.bipush 8, 2) := by decide +kernel
theorem d_T_total_7 : decode b_T_total 7 = .ok (.if_icmp .ge 21, 3) := by decide +kernel
theorem d_T_total_10 : decode b_T_total 10 = .ok (.iload_n 1, 1) := by decide +kernel
theorem d_T_total_11 : decode b_T_total 11 = .ok (.aload_n 0, 1) := by decide +kernel
theorem d_T_total_12 : decode b_T_total 12 = .ok (.getfield 7, 3) := by decide +kernel
theorem d_T_total_15 : decode b_T_total 15 = .ok (.iload_n 2, 1) := by decide +kernel
theorem d_T_total_16 : decode b_T_total 16 = .ok (.iaload, 1) := by decide +kernel
theorem d_T_total_17 : decode b_T_total 17 = .ok (.invokestatic 48, 3) := by decide +kernel
theorem d_T_total_20 : decode b_T_total 20 = .ok (.iadd, 1) := by decide +kernel
theorem d_T_total_21 : decode b_T_total 21 = .ok (.istore_n 1, 1) := by decide +kernel
theorem d_T_total_22 : decode b_T_total 22 = .ok (.iinc 2 1, 3) := by decide +kernel
theorem d_T_total_25 : decode b_T_total 25 = .ok (.goto (-21), 3) := by decide +kernel
theorem d_T_total_28 : decode b_T_total 28 = .ok (.iload_n 1, 1) := by decide +kernel
theorem d_T_total_29 : decode b_T_total 29 = .ok (.ireturn, 1) := by decide +kernel
theorem d_L_law_0 : decode code 0 = .ok (.new 7, 3) := by decide +kernel
theorem d_L_law_3 : decode code 3 = .ok (.dup, 1) := by decide +kernel
theorem d_L_law_4 : decode code 4 = .ok (.invokespecial 9, 3) := by decide +kernel
theorem d_L_law_7 : decode code 7 = .ok (.astore_n 1, 1) := by decide +kernel
theorem d_L_law_8 : decode code 8 = .ok (.new 10, 3) := by decide +kernel
theorem d_L_law_11 : decode code 11 = .ok (.dup, 1) := by decide +kernel
theorem d_L_law_12 : decode code 12 = .ok (.invokespecial 12, 3) := by decide +kernel
theorem d_L_law_15 : decode code 15 = .ok (.astore_n 2, 1) := by decide +kernel
theorem d_L_law_16 : decode code 16 = .ok (.iconst 0, 1) := by decide +kernel
theorem d_L_law_17 : decode code 17 = .ok (.istore_n 3, 1) := by decide +kernel
theorem d_L_law_18 : decode code 18 = .ok (.iload_n 3, 1) := by decide +kernel
theorem d_L_law_19 : decode code 19 = .ok (.aload_n 0, 1) := by decide +kernel
theorem d_L_law_20 : decode code 20 = .ok (.arraylength, 1) := by decide +kernel
theorem d_L_law_21 : decode code 21 = .ok (.iconst 5, 1) := by decide +kernel
theorem d_L_law_22 : decode code 22 = .ok (.isub, 1) := by decide +kernel
theorem d_L_law_23 : decode code 23 = .ok (.if_icmp .gt 241, 3) := by decide +kernel
theorem d_L_law_26 : decode code 26 = .ok (.aload_n 0, 1) := by decide +kernel
theorem d_L_law_27 : decode code 27 = .ok (.iload_n 3, 1) := by decide +kernel
theorem d_L_law_28 : decode code 28 = .ok (.iaload, 1) := by decide +kernel
theorem d_L_law_29 : decode code 29 = .ok (.bipush 7, 2) := by decide +kernel
theorem d_L_law_31 : decode code 31 = .ok (.iand, 1) := by decide +kernel
theorem d_L_law_32 : decode code 32 = .ok (.tableswitch 226 0 7 #[48, 101, 112, 143, 166, 177, 200, 213], 48) := by decide +kernel
theorem d_L_law_80 : decode code 80 = .ok (.aload_n 1, 1) := by decide +kernel
theorem d_L_law_81 : decode code 81 = .ok (.aload_n 0, 1) := by decide +kernel
theorem d_L_law_82 : decode code 82 = .ok (.iload_n 3, 1) := by decide +kernel
theorem d_L_law_83 : decode code 83 = .ok (.iconst 1, 1) := by decide +kernel
theorem d_L_law_84 : decode code 84 = .ok (.iadd, 1) := by decide +kernel
theorem d_L_law_85 : decode code 85 = .ok (.iaload, 1) := by decide +kernel
theorem d_L_law_86 : decode code 86 = .ok (.aload_n 0, 1) := by decide +kernel
theorem d_L_law_87 : decode code 87 = .ok (.iload_n 3, 1) := by decide +kernel
theorem d_L_law_88 : decode code 88 = .ok (.iconst 2, 1) := by decide +kernel
theorem d_L_law_89 : decode code 89 = .ok (.iadd, 1) := by decide +kernel
theorem d_L_law_90 : decode code 90 = .ok (.iaload, 1) := by decide +kernel
theorem d_L_law_91 : decode code 91 = .ok (.aload_n 0, 1) := by decide +kernel
theorem d_L_law_92 : decode code 92 = .ok (.iload_n 3, 1) := by decide +kernel
theorem d_L_law_93 : decode code 93 = .ok (.iconst 3, 1) := by decide +kernel
theorem d_L_law_94 : decode code 94 = .ok (.iadd, 1) := by decide +kernel
theorem d_L_law_95 : decode code 95 = .ok (.iaload, 1) := by decide +kernel
theorem d_L_law_96 : decode code 96 = .ok (.aload_n 0, 1) := by decide +kernel
theorem d_L_law_97 : decode code 97 = .ok (.iload_n 3, 1) := by decide +kernel
theorem d_L_law_98 : decode code 98 = .ok (.iconst 4, 1) := by decide +kernel
theorem d_L_law_99 : decode code 99 = .ok (.iadd, 1) := by decide +kernel
theorem d_L_law_100 : decode code 100 = .ok (.iaload, 1) := by decide +kernel
theorem d_L_law_101 : decode code 101 = .ok (.invokevirtual 13, 3) := by decide +kernel
theorem d_L_law_104 : decode code 104 = .ok (.aload_n 2, 1) := by decide +kernel
theorem d_L_law_105 : decode code 105 = .ok (.aload_n 0, 1) := by decide +kernel
theorem d_L_law_106 : decode code 106 = .ok (.iload_n 3, 1) := by decide +kernel
theorem d_L_law_107 : decode code 107 = .ok (.iconst 1, 1) := by decide +kernel
theorem d_L_law_108 : decode code 108 = .ok (.iadd, 1) := by decide +kernel
theorem d_L_law_109 : decode code 109 = .ok (.iaload, 1) := by decide +kernel
theorem d_L_law_110 : decode code 110 = .ok (.aload_n 0, 1) := by decide +kernel
theorem d_L_law_111 : decode code 111 = .ok (.iload_n 3, 1) := by decide +kernel
theorem d_L_law_112 : decode code 112 = .ok (.iconst 2, 1) := by decide +kernel
theorem d_L_law_113 : decode code 113 = .ok (.iadd, 1) := by decide +kernel
theorem d_L_law_114 : decode code 114 = .ok (.iaload, 1) := by decide +kernel
theorem d_L_law_115 : decode code 115 = .ok (.aload_n 0, 1) := by decide +kernel
theorem d_L_law_116 : decode code 116 = .ok (.iload_n 3, 1) := by decide +kernel
theorem d_L_law_117 : decode code 117 = .ok (.iconst 3, 1) := by decide +kernel
theorem d_L_law_118 : decode code 118 = .ok (.iadd, 1) := by decide +kernel
theorem d_L_law_119 : decode code 119 = .ok (.iaload, 1) := by decide +kernel
theorem d_L_law_120 : decode code 120 = .ok (.aload_n 0, 1) := by decide +kernel
theorem d_L_law_121 : decode code 121 = .ok (.iload_n 3, 1) := by decide +kernel
theorem d_L_law_122 : decode code 122 = .ok (.iconst 4, 1) := by decide +kernel
theorem d_L_law_123 : decode code 123 = .ok (.iadd, 1) := by decide +kernel
theorem d_L_law_124 : decode code 124 = .ok (.iaload, 1) := by decide +kernel
theorem d_L_law_125 : decode code 125 = .ok (.invokevirtual 17, 3) := by decide +kernel
theorem d_L_law_128 : decode code 128 = .ok (.if_icmp .eq 130, 3) := by decide +kernel
theorem d_L_law_131 : decode code 131 = .ok (.iconst 0, 1) := by decide +kernel
theorem d_L_law_132 : decode code 132 = .ok (.ireturn, 1) := by decide +kernel
theorem d_L_law_133 : decode code 133 = .ok (.aload_n 1, 1) := by decide +kernel
theorem d_L_law_134 : decode code 134 = .ok (.invokevirtual 18, 3) := by decide +kernel
theorem d_L_law_137 : decode code 137 = .ok (.aload_n 2, 1) := by decide +kernel
theorem d_L_law_138 : decode code 138 = .ok (.invokevirtual 21, 3) := by decide +kernel
theorem d_L_law_141 : decode code 141 = .ok (.goto 117, 3) := by decide +kernel
theorem d_L_law_144 : decode code 144 = .ok (.aload_n 1, 1) := by decide +kernel
theorem d_L_law_145 : decode code 145 = .ok (.aload_n 0, 1) := by decide +kernel
theorem d_L_law_146 : decode code 146 = .ok (.iload_n 3, 1) := by decide +kernel
theorem d_L_law_147 : decode code 147 = .ok (.iconst 1, 1) := by decide +kernel
theorem d_L_law_148 : decode code 148 = .ok (.iadd, 1) := by decide +kernel
theorem d_L_law_149 : decode code 149 = .ok (.iaload, 1) := by decide +kernel
theorem d_L_law_150 : decode code 150 = .ok (.aload_n 0, 1) := by decide +kernel
theorem d_L_law_151 : decode code 151 = .ok (.iload_n 3, 1) := by decide +kernel
theorem d_L_law_152 : decode code 152 = .ok (.iconst 2, 1) := by decide +kernel
theorem d_L_law_153 : decode code 153 = .ok (.iadd, 1) := by decide +kernel
theorem d_L_law_154 : decode code 154 = .ok (.iaload, 1) := by decide +kernel
theorem d_L_law_155 : decode code 155 = .ok (.invokevirtual 22, 3) := by decide +kernel
theorem d_L_law_158 : decode code 158 = .ok (.aload_n 2, 1) := by decide +kernel
theorem d_L_law_159 : decode code 159 = .ok (.aload_n 0, 1) := by decide +kernel
theorem d_L_law_160 : decode code 160 = .ok (.iload_n 3, 1) := by decide +kernel
theorem d_L_law_161 : decode code 161 = .ok (.iconst 1, 1) := by decide +kernel
theorem d_L_law_162 : decode code 162 = .ok (.iadd, 1) := by decide +kernel
theorem d_L_law_163 : decode code 163 = .ok (.iaload, 1) := by decide +kernel
theorem d_L_law_164 : decode code 164 = .ok (.aload_n 0, 1) := by decide +kernel
theorem d_L_law_165 : decode code 165 = .ok (.iload_n 3, 1) := by decide +kernel
theorem d_L_law_166 : decode code 166 = .ok (.iconst 2, 1) := by decide +kernel
theorem d_L_law_167 : decode code 167 = .ok (.iadd, 1) := by decide +kernel
theorem d_L_law_168 : decode code 168 = .ok (.iaload, 1) := by decide +kernel
theorem d_L_law_169 : decode code 169 = .ok (.invokevirtual 26, 3) := by decide +kernel
theorem d_L_law_172 : decode code 172 = .ok (.goto 86, 3) := by decide +kernel
theorem d_L_law_175 : decode code 175 = .ok (.aload_n 1, 1) := by decide +kernel
theorem d_L_law_176 : decode code 176 = .ok (.aload_n 0, 1) := by decide +kernel
theorem d_L_law_177 : decode code 177 = .ok (.iload_n 3, 1) := by decide +kernel
theorem d_L_law_178 : decode code 178 = .ok (.iconst 1, 1) := by decide +kernel
theorem d_L_law_179 : decode code 179 = .ok (.iadd, 1) := by decide +kernel
theorem d_L_law_180 : decode code 180 = .ok (.iaload, 1) := by decide +kernel
theorem d_L_law_181 : decode code 181 = .ok (.invokevirtual 27, 3) := by decide +kernel
theorem d_L_law_184 : decode code 184 = .ok (.aload_n 2, 1) := by decide +kernel
theorem d_L_law_185 : decode code 185 = .ok (.aload_n 0, 1) := by decide +kernel
theorem d_L_law_186 : decode code 186 = .ok (.iload_n 3, 1) := by decide +kernel
theorem d_L_law_187 : decode code 187 = .ok (.iconst 1, 1) := by decide +kernel
theorem d_L_law_188 : decode code 188 = .ok (.iadd, 1) := by decide +kernel
theorem d_L_law_189 : decode code 189 = .ok (.iaload, 1) := by decide +kernel
theorem d_L_law_190 : decode code 190 = .ok (.invokevirtual 31, 3) := by decide +kernel
theorem d_L_law_193 : decode code 193 = .ok (.if_icmp .eq 65, 3) := by decide +kernel
theorem d_L_law_196 : decode code 196 = .ok (.iconst 0, 1) := by decide +kernel
theorem d_L_law_197 : decode code 197 = .ok (.ireturn, 1) := by decide +kernel
theorem d_L_law_198 : decode code 198 = .ok (.aload_n 1, 1) := by decide +kernel
theorem d_L_law_199 : decode code 199 = .ok (.invokevirtual 32, 3) := by decide +kernel
theorem d_L_law_202 : decode code 202 = .ok (.aload_n 2, 1) := by decide +kernel
theorem d_L_law_203 : decode code 203 = .ok (.invokevirtual 35, 3) := by decide +kernel
theorem d_L_law_206 : decode code 206 = .ok (.goto 52, 3) := by decide +kernel
theorem d_L_law_209 : decode code 209 = .ok (.aload_n 1, 1) := by decide +kernel
theorem d_L_law_210 : decode code 210 = .ok (.aload_n 0, 1) := by decide +kernel
theorem d_L_law_211 : decode code 211 = .ok (.iload_n 3, 1) := by decide +kernel
theorem d_L_law_212 : decode code 212 = .ok (.iconst 1, 1) := by decide +kernel
theorem d_L_law_213 : decode code 213 = .ok (.iadd, 1) := by decide +kernel
theorem d_L_law_214 : decode code 214 = .ok (.iaload, 1) := by decide +kernel
theorem d_L_law_215 : decode code 215 = .ok (.invokevirtual 36, 3) := by decide +kernel
theorem d_L_law_218 : decode code 218 = .ok (.aload_n 2, 1) := by decide +kernel
theorem d_L_law_219 : decode code 219 = .ok (.aload_n 0, 1) := by decide +kernel
theorem d_L_law_220 : decode code 220 = .ok (.iload_n 3, 1) := by decide +kernel
theorem d_L_law_221 : decode code 221 = .ok (.iconst 1, 1) := by decide +kernel
theorem d_L_law_222 : decode code 222 = .ok (.iadd, 1) := by decide +kernel
theorem d_L_law_223 : decode code 223 = .ok (.iaload, 1) := by decide +kernel
theorem d_L_law_224 : decode code 224 = .ok (.invokevirtual 39, 3) := by decide +kernel
theorem d_L_law_227 : decode code 227 = .ok (.if_icmp .eq 31, 3) := by decide +kernel
theorem d_L_law_230 : decode code 230 = .ok (.iconst 0, 1) := by decide +kernel
theorem d_L_law_231 : decode code 231 = .ok (.ireturn, 1) := by decide +kernel
theorem d_L_law_232 : decode code 232 = .ok (.aload_n 1, 1) := by decide +kernel
theorem d_L_law_233 : decode code 233 = .ok (.invokevirtual 40, 3) := by decide +kernel
theorem d_L_law_236 : decode code 236 = .ok (.aload_n 2, 1) := by decide +kernel
theorem d_L_law_237 : decode code 237 = .ok (.invokevirtual 44, 3) := by decide +kernel
theorem d_L_law_240 : decode code 240 = .ok (.if_icmp .eq 18, 3) := by decide +kernel
theorem d_L_law_243 : decode code 243 = .ok (.iconst 0, 1) := by decide +kernel
theorem d_L_law_244 : decode code 244 = .ok (.ireturn, 1) := by decide +kernel
theorem d_L_law_245 : decode code 245 = .ok (.aload_n 1, 1) := by decide +kernel
theorem d_L_law_246 : decode code 246 = .ok (.invokevirtual 45, 3) := by decide +kernel
theorem d_L_law_249 : decode code 249 = .ok (.aload_n 2, 1) := by decide +kernel
theorem d_L_law_250 : decode code 250 = .ok (.invokevirtual 48, 3) := by decide +kernel
theorem d_L_law_253 : decode code 253 = .ok (.if_icmp .eq 5, 3) := by decide +kernel
theorem d_L_law_256 : decode code 256 = .ok (.iconst 0, 1) := by decide +kernel
theorem d_L_law_257 : decode code 257 = .ok (.ireturn, 1) := by decide +kernel
theorem d_L_law_258 : decode code 258 = .ok (.iinc 3 5, 3) := by decide +kernel
theorem d_L_law_261 : decode code 261 = .ok (.goto (-243), 3) := by decide +kernel
theorem d_L_law_264 : decode code 264 = .ok (.iconst 1, 1) := by decide +kernel
theorem d_L_law_265 : decode code 265 = .ok (.ireturn, 1) := by decide +kernel
end
section
def rmm (f k : Nat) : Room := { frames := f, cells := 0, slots := 0, locals := k }
/-- a truth value as the machine holds it -/
def bI (b : Bool) : Int32 := if b then 1 else 0
theorem bI_nar (b : Bool) : narrow .boolean (.int (bI b)) = .int (bI b) := by cases b <;> rfl
theorem bI_fit (b : Bool) : fits .boolean (.int (bI b)) = true := by cases b <;> rfl
theorem bI_vp (b : Bool) : vp_nar .boolean (bI b) = bI b := by cases b <;> rfl
theorem bI_0 {b : Bool} : bI b = 0 ↔ b = false := by cases b <;> simp [bI]
theorem bI_n0 {b : Bool} : ¬ bI b = 0 ↔ b = true := by cases b <;> simp [bI]
theorem bI_eq {a b : Bool} : bI a = bI b ↔ a = b := by cases a <;> cases b <;> simp [bI]
/-- a method's world: the cells ws, what the tables say of their classes, what has stayed -/
def WW (D : va_G) (tys : List (ClassId × FieldType)) (A : Nat → Prop) (s : State) (ws : va_W) (H : Heap) (locs : List Loc) : Prop :=
  va_K D classes tys s ∧ va_P D classes ws H ∧ va_D A ws ∧ va_S A s.heap H locs ∧ ∀ q, s.heap.size ≤ q → A q
def CtP (D : va_G) (tys : List (ClassId × FieldType)) (av : List Value) (W0 : va_W) (sz : Nat) : Array Value → State → Prop :=
  va_Pc av (fun U => U.heap.size = sz ∧ va_P D classes W0 U.heap ∧ va_K D classes tys U ∧ va_D (fun _ => True) W0)
def CtB (D : va_G) (tys : List (ClassId × FieldType)) (A : Nat → Prop) {S : Type} (F : S → va_W) : S → State → Prop :=
  fun u t => va_P D classes (F u) t.heap ∧ va_K D classes tys t ∧ va_D A (F u)
/-- a contract without an answer: from the cells W0 the method comes to the cells F u with post u, for some u -/
def CtV (l : Launch) (y : MethodName) (b : ByteArray) (n : Nat) (rm : Room) (D : va_G) (tys : List (ClassId × FieldType)) (av : List Value) (W0 : va_W) {S : Type} (post : S → Prop) (F : S → va_W) : Prop :=
  ∀ sz : Nat, Met l y (.code y b n none :: mt_tbl) rm (CtP D tys av W0 sz) (va_Qv post (CtB D tys (va_A W0 sz) F) (va_A W0 sz)) 0 0 (va_A W0 sz)
/-- a contract with an int (or boolean) answer -/
def CtI (l : Launch) (y : MethodName) (b : ByteArray) (n : Nat) (ty : FieldType) (rm : Room) (D : va_G) (tys : List (ClassId × FieldType)) (av : List Value) (W0 : va_W) {S : Type} (post : Int32 → S → Prop) (F : S → va_W) : Prop :=
  ∀ sz : Nat, Met l y (.code y b n (some ty) :: mt_tbl) rm (CtP D tys av W0 sz) (va_Qi post (CtB D tys (va_A W0 sz) F) (va_A W0 sz)) 0 0 (va_A W0 sz)
/-- a static method of ints: an int answer, nothing else -/
def CtS (l : Launch) (y : MethodName) (b : ByteArray) (n : Nat) (rm : Room) (av : List Value) (post : Int32 → Prop) : Prop :=
  ∀ sz : Nat, Met l y (.code y b n (some .int) :: mt_tbl) rm (va_Pc av (fun U => U.heap.size = sz)) (va_Qi (fun r (_ : Unit) => post r) (fun _ _ => True) (va_A [] sz)) 0 0 (va_A [] sz)
theorem CtP.blind {D : va_G} {tys : List (ClassId × FieldType)} {av : List Value} {W0 : va_W} {sz : Nat} : FrameBlind (CtP D tys av W0 sz) := fun a U g mk q => by
  obtain ⟨q0, q1, qP, qK, qD⟩ := q
  exact ⟨q0, q1, qP, va_K.moved (u := U) (U := U.calling g mk a) (Vm.Alike.refl U.vm) qK, qD⟩
theorem CtV.of {l : Launch} {y : MethodName} {b : ByteArray} {n f k : Nat} {D : va_G} {tys : List (ClassId × FieldType)} {av : List Value} {W0 : va_W} {S : Type} {post : S → Prop} {F : S → va_W} (C : String) (hy : plainName y.cls = true) (hC : y.cls = C) (hn : (lg_sl av).length ≤ n)
    (body : ∀ (p : Program) (e : Env) (s : State) (m : MethodId) (args : Array Value) (below : List Frame) (meth : Method) (c : Code) (A : Nat → Prop) (ls : Array Slot), CallFix p m c b n s args mt_tbl C → meth.locks = false → meth.sig.returnType = none → WW D tys A s W0 s.heap [] → lv_has ls n (lv_args 0 av) →
      W p l e (rmm f k) s m args below meth c s.heap [] 0 0 (MQ below (va_Qv post (CtB D tys A F) A) args s 0 0 A) (F0 m 0 ls [])) : CtV l y b n (rmm f k) D tys av W0 post F := by
  intro sz
  refine Met.ofW (cc := b) (maxL := n) (ret := none) hy rfl ?_
  intro p e s m args below meth c s₁ B hml hv
  obtain ⟨rfl, hsz, hP, hK, hD0⟩ := hv
  have hts := atoms_spec (ws := .code y b n none :: mt_tbl) B.pre
  have hown : s.vm.findClass C = some m.cls := by rw [← hC]; exact findClass_of_methodNamed B.named
  subst hsz
  rw [lg_entry_eq]
  exact body p e s m _ below meth c (va_A W0 s.heap.size) _ ⟨B.exec, B.bytes, hml, hown, fun w hw => hts w (List.mem_cons_of_mem _ hw)⟩ B.notSynchronized B.returns ⟨hK, hP, hD0.self (sz := s.heap.size), va_S.rf, fun q h => Or.inr h⟩ (lv_entry av hn)
theorem CtI.of {l : Launch} {y : MethodName} {b : ByteArray} {n f k : Nat} {ty : FieldType} {D : va_G} {tys : List (ClassId × FieldType)} {av : List Value} {W0 : va_W} {S : Type} {post : Int32 → S → Prop} {F : S → va_W} (C : String) (hy : plainName y.cls = true) (hC : y.cls = C) (hn : (lg_sl av).length ≤ n)
    (body : ∀ (p : Program) (e : Env) (s : State) (m : MethodId) (args : Array Value) (below : List Frame) (meth : Method) (c : Code) (A : Nat → Prop) (ls : Array Slot), CallFix p m c b n s args mt_tbl C → meth.locks = false → meth.sig.returnType = some ty → WW D tys A s W0 s.heap [] → lv_has ls n (lv_args 0 av) →
      W p l e (rmm f k) s m args below meth c s.heap [] 0 0 (MQ below (va_Qi post (CtB D tys A F) A) args s 0 0 A) (F0 m 0 ls [])) : CtI l y b n ty (rmm f k) D tys av W0 post F := by
  intro sz
  refine Met.ofW (cc := b) (maxL := n) (ret := some ty) hy rfl ?_
  intro p e s m args below meth c s₁ B hml hv
  obtain ⟨rfl, hsz, hP, hK, hD0⟩ := hv
  have hts := atoms_spec (ws := .code y b n (some ty) :: mt_tbl) B.pre
  have hown : s.vm.findClass C = some m.cls := by rw [← hC]; exact findClass_of_methodNamed B.named
  subst hsz
  rw [lg_entry_eq]
  exact body p e s m _ below meth c (va_A W0 s.heap.size) _ ⟨B.exec, B.bytes, hml, hown, fun w hw => hts w (List.mem_cons_of_mem _ hw)⟩ B.notSynchronized B.returns ⟨hK, hP, hD0.self (sz := s.heap.size), va_S.rf, fun q h => Or.inr h⟩ (lv_entry av hn)
/-- what a static method keeps of the heap -/
def WS (A : Nat → Prop) (s : State) (H : Heap) (locs : List Loc) : Prop := va_S A s.heap H locs ∧ ∀ q, s.heap.size ≤ q → A q
theorem CtS.of {l : Launch} {y : MethodName} {b : ByteArray} {n f k : Nat} {av : List Value} {post : Int32 → Prop} (C : String) (hy : plainName y.cls = true) (hC : y.cls = C) (hn : (lg_sl av).length ≤ n)
    (body : ∀ (p : Program) (e : Env) (s : State) (m : MethodId) (args : Array Value) (below : List Frame) (meth : Method) (c : Code) (A : Nat → Prop) (ls : Array Slot), CallFix p m c b n s args mt_tbl C → meth.locks = false → meth.sig.returnType = some .int → WS A s s.heap [] → lv_has ls n (lv_args 0 av) →
      W p l e (rmm f k) s m args below meth c s.heap [] 0 0 (MQ below (va_Qi (fun r (_ : Unit) => post r) (fun _ _ => True) A) args s 0 0 A) (F0 m 0 ls [])) : CtS l y b n (rmm f k) av post := by
  intro sz
  refine Met.ofW (cc := b) (maxL := n) (ret := some .int) hy rfl ?_
  intro p e s m args below meth c s₁ B hml hv
  obtain ⟨rfl, hsz⟩ := hv
  have hts := atoms_spec (ws := .code y b n (some .int) :: mt_tbl) B.pre
  have hown : s.vm.findClass C = some m.cls := by rw [← hC]; exact findClass_of_methodNamed B.named
  subst hsz
  rw [lg_entry_eq]
  exact body p e s m _ below meth c (va_A [] s.heap.size) _ ⟨B.exec, B.bytes, hml, hown, fun w hw => hts w (List.mem_cons_of_mem _ hw)⟩ B.notSynchronized B.returns ⟨va_S.rf, fun q h => Or.inr h⟩ (lv_entry av hn)
section RowsA
variable {p : Program} {l : Launch} {e : Env} {R : Room} {s : State} {m : MethodId} {args : Array Value} {below : List Frame} {meth : Method} {c : Code} {H : Heap} {locs : List Loc} {cells slots : Nat} {Q : State → Prop}
variable {cc : ByteArray} {nL pc : Nat} {ls : Array Slot} {rest : List Value} {own : String} {D : va_G} {tys : List (ClassId × FieldType)} {A : Nat → Prop}
theorem WW.free {W0 : va_W} (M : WW D tys A s W0 H locs) : ∀ q, va_A W0 H.size q → A q := fun q h => by
  rcases h with ⟨k, e, h⟩ | h
  · exact M.2.2.1.2 k (q, e) h
  · exact M.2.2.2.2 q (Nat.le_trans M.2.2.2.1.1 h)
theorem retV {S : Type} {post : S → Prop} {F : S → va_W} (SF : CallFix p m c cc nL s args mt_tbl own) (hlk : meth.locks = false) (hr : meth.sig.returnType = none) (u : S) (hp : post u) (M : WW D tys A s (F u) H locs) (hd : decode cc pc = .ok (.return_, 1)) :
    W p l e R s m args below meth c H locs 0 0 (MQ below (va_Qv post (CtB D tys A F) A) args s 0 0 A) (F0 m pc ls []) :=
  W.vret SF.1 SF.2.1 hr (fun t ht hW => ⟨⟨u, rfl, hp, by rw [ht]; exact M.2.1, va_K.moved hW.alike M.1, M.2.2.1⟩, M.2.2.2.1.F ht⟩) M.2.2.2.1.2.2 hd hlk
theorem retI {S : Type} {post : Int32 → S → Prop} {F : S → va_W} {v : Int32} (SF : CallFix p m c cc nL s args mt_tbl own) (hlk : meth.locks = false) (hr : meth.sig.returnType = some .int) (u : S) (hp : post v u) (M : WW D tys A s (F u) H locs) (hd : decode cc pc = .ok (.ireturn, 1)) :
    W p l e R s m args below meth c H locs 0 0 (MQ below (va_Qi post (CtB D tys A F) A) args s 0 0 A) (F0 m pc ls [.int v]) :=
  W.iret SF.1 SF.2.1 hr (fun t ht hW => ⟨⟨v, u, rfl, hp, by rw [ht]; exact M.2.1, va_K.moved hW.alike M.1, M.2.2.1⟩, M.2.2.2.1.F ht⟩) M.2.2.2.1.2.2 hd hlk
theorem retZ {S : Type} {post : Int32 → S → Prop} {F : S → va_W} {b : Bool} (SF : CallFix p m c cc nL s args mt_tbl own) (hlk : meth.locks = false) (hr : meth.sig.returnType = some .boolean) (u : S) (hp : post (bI b) u) (M : WW D tys A s (F u) H locs) (hd : decode cc pc = .ok (.ireturn, 1)) :
    W p l e R s m args below meth c H locs 0 0 (MQ below (va_Qi post (CtB D tys A F) A) args s 0 0 A) (F0 m pc ls [.int (bI b)]) :=
  W.zret SF.1 SF.2.1 hr (bI_nar b) (fun t ht hW => ⟨⟨bI b, u, rfl, hp, by rw [ht]; exact M.2.1, va_K.moved hW.alike M.1, M.2.2.1⟩, M.2.2.2.1.F ht⟩) M.2.2.2.1.2.2 hd hlk
theorem retS {post : Int32 → Prop} {v : Int32} (SF : CallFix p m c cc nL s args mt_tbl own) (hlk : meth.locks = false) (hr : meth.sig.returnType = some .int) (hp : post v) (M : WS A s H locs) (hd : decode cc pc = .ok (.ireturn, 1)) :
    W p l e R s m args below meth c H locs 0 0 (MQ below (va_Qi (fun r (_ : Unit) => post r) (fun _ _ => True) A) args s 0 0 A) (F0 m pc ls [.int v]) :=
  W.iret SF.1 SF.2.1 hr (fun t ht hW => ⟨⟨v, (), rfl, hp, trivial⟩, M.1.F ht⟩) M.1.2.2 hd hlk
/-- a call on the whole world, no answer -/
theorem ccV {S : Type} {post : S → Prop} {F : S → va_W} {y : MethodName} {b : ByteArray} {n f k idx ci N a0 : Nat} {C : String} {fs : List Value} {T : u_T} {As st0 : List Value} {W0 : va_W} (SF : CallFix p m c cc nL s args mt_tbl own) (M : WW D tys A s W0 H locs)
    (hC : CtV l y b n (rmm f k) D tys (.ref a0 :: As) W0 post F) (hG : GoodIn mt_tbl (wsV own idx C y (.code y b n none :: mt_tbl))) (hd : y.cls = C ∧ y.cls ≠ "java/lang/invoke/MethodHandle" ∧ y.cls ≠ "java/lang/invoke/VarHandle" ∧ (parseMethodDescriptor y.desc).map (fun d => d.parameters.length) = some As.length)
    (hR : f + 1 ≤ R.frames ∧ 8 + (n + 11) + k ≤ R.locals) (hc : classes[ci]? = some (C, T, N)) (he : W0[0]? = some (a0, .inr (ci, fs))) (hls : ls.size = nL) (hst : st0 = As.reverse ++ .ref a0 :: rest) (hrm : (rest.map fun v => v.category).sum ≤ 8) (hdg : decode cc pc = .ok (.invokevirtual idx, 3)) (hcs : cells ≤ R.cells ∧ slots ≤ R.slots)
    (kk : ∀ (u : S) (H1 : Heap) (locs1 : List Loc), post u → WW D tys A s (F u) H1 locs1 → W p l e R s m args below meth c H1 locs1 cells slots Q (F0 m (pc + 3) ls rest)) : W p l e R s m args below meth c H locs cells slots Q (F0 m pc ls st0) := by
  have hFc := M.free
  obtain ⟨hK, hP, hD, hS, hA⟩ := M
  refine va_callv (va_runV (As := As) (rest := rest) SF (hC H.size) (cwV As.length SF.2.2.2.2 hG rfl rfl rfl hd hR) ⟨CtP.blind, va_recv hK hP (ci := ci) (q0 := 0) hc he, fun U hU hW => ⟨rfl, by rw [hU], by rw [hU]; exact hP, va_K.moved hW.alike hK, hD.weaken (fun _ _ _ _ => trivial)⟩⟩ rfl rfl hls hst (lv_room hrm) hdg hcs) hS (fun q _ h => hFc q h) hFc (fun u t H1 locs1 ht hvm hw hB hz1 hk1 hS => ?_)
  obtain ⟨hP1, hK1, hD1⟩ := hB
  rw [ht] at hP1
  exact kk u H1 locs1 hw ⟨va_K.moved hvm.symm hK1, hP1, hD1.weaken (fun _ q _ h => hFc q.1 h), hS, hA⟩
/-- a call on the whole world, with an int answer -/
theorem ccI {S : Type} {post : Int32 → S → Prop} {F : S → va_W} {y : MethodName} {b : ByteArray} {ty : FieldType} {n f k idx ci N a0 : Nat} {C : String} {fs : List Value} {T : u_T} {As st0 : List Value} {W0 : va_W} (SF : CallFix p m c cc nL s args mt_tbl own) (M : WW D tys A s W0 H locs)
    (hC : CtI l y b n ty (rmm f k) D tys (.ref a0 :: As) W0 post F) (hG : GoodIn mt_tbl (wsV own idx C y (.code y b n (some ty) :: mt_tbl))) (hd : y.cls = C ∧ y.cls ≠ "java/lang/invoke/MethodHandle" ∧ y.cls ≠ "java/lang/invoke/VarHandle" ∧ (parseMethodDescriptor y.desc).map (fun d => d.parameters.length) = some As.length)
    (hR : f + 1 ≤ R.frames ∧ 8 + (n + 11) + k ≤ R.locals) (hc : classes[ci]? = some (C, T, N)) (he : W0[0]? = some (a0, .inr (ci, fs))) (hls : ls.size = nL) (hst : st0 = As.reverse ++ .ref a0 :: rest) (hrm : (rest.map fun v => v.category).sum ≤ 8) (hdg : decode cc pc = .ok (.invokevirtual idx, 3)) (hcs : cells ≤ R.cells ∧ slots ≤ R.slots)
    (kk : ∀ (r : Int32) (u : S) (H1 : Heap) (locs1 : List Loc), post r u → WW D tys A s (F u) H1 locs1 → W p l e R s m args below meth c H1 locs1 cells slots Q (F0 m (pc + 3) ls (.int r :: rest))) : W p l e R s m args below meth c H locs cells slots Q (F0 m pc ls st0) := by
  have hFc := M.free
  obtain ⟨hK, hP, hD, hS, hA⟩ := M
  refine va_calli (va_runV (As := As) (rest := rest) SF (hC H.size) (cwV As.length SF.2.2.2.2 hG rfl rfl rfl hd hR) ⟨CtP.blind, va_recv hK hP (ci := ci) (q0 := 0) hc he, fun U hU hW => ⟨rfl, by rw [hU], by rw [hU]; exact hP, va_K.moved hW.alike hK, hD.weaken (fun _ _ _ _ => trivial)⟩⟩ rfl rfl hls hst (lv_room hrm) hdg hcs) hS (fun q _ h => hFc q h) hFc (fun r u t H1 locs1 ht hvm hw hB hz1 hk1 hS => ?_)
  obtain ⟨hP1, hK1, hD1⟩ := hB
  rw [ht] at hP1
  exact kk r u H1 locs1 hw ⟨va_K.moved hvm.symm hK1, hP1, hD1.weaken (fun _ q _ h => hFc q.1 h), hS, hA⟩
theorem va_A_nil {sz q : Nat} (h : va_A [] sz q) : sz ≤ q := by
  rcases h with ⟨k, e, h⟩ | h
  · simp at h
  · exact h
/-- a static call out of a static method -/
theorem ccSS {post : Int32 → Prop} {y : MethodName} {b : ByteArray} {n f k idx : Nat} {As st0 : List Value} (SF : CallFix p m c cc nL s args mt_tbl own) (M : WS A s H locs)
    (hC : CtS l y b n (rmm f k) As post) (hG : GoodIn mt_tbl (wsS own idx y (.code y b n (some .int) :: mt_tbl))) (hd : y.cls = own ∧ y.cls ≠ "java/lang/invoke/MethodHandle" ∧ y.cls ≠ "java/lang/invoke/VarHandle" ∧ (parseMethodDescriptor y.desc).map (fun d => d.parameters.length) = some As.length)
    (hR : f + 1 ≤ R.frames ∧ 8 + (n + 11) + k ≤ R.locals) (hls : ls.size = nL) (hst : st0 = As.reverse ++ rest) (hrm : (rest.map fun v => v.category).sum ≤ 8) (hdg : decode cc pc = .ok (.invokestatic idx, 3)) (hcs : cells ≤ R.cells ∧ slots ≤ R.slots)
    (kk : ∀ (r : Int32) (H1 : Heap) (locs1 : List Loc), post r → WS A s H1 locs1 → W p l e R s m args below meth c H1 locs1 cells slots Q (F0 m (pc + 3) ls (.int r :: rest))) : W p l e R s m args below meth c H locs cells slots Q (F0 m pc ls st0) := by
  obtain ⟨hS, hA⟩ := M
  have hFc : ∀ q, va_A [] H.size q → A q := fun q h => hA q (Nat.le_trans hS.1 (va_A_nil h))
  refine va_calli (va_runS (As := As) (rest := rest) SF (hC H.size) (cwS As.length SF.2.2.2.2 hG rfl rfl rfl hd hR) ⟨fun a U g mk q => ⟨q.1, q.2⟩, fun U hU hW => ⟨rfl, congrArg Array.size hU⟩⟩ rfl rfl hls hst (lv_room hrm) hdg hcs) hS (fun q _ h => hFc q h) hFc (fun r u t H1 locs1 ht hvm hw hB hz1 hk1 hS => ?_)
  exact kk r H1 locs1 hw ⟨hS, hA⟩
/-- a static call out of a method with a world: the world stays -/
theorem ccSW {post : Int32 → Prop} {y : MethodName} {b : ByteArray} {n f k idx : Nat} {As st0 : List Value} {W0 : va_W} (SF : CallFix p m c cc nL s args mt_tbl own) (M : WW D tys A s W0 H locs)
    (hC : CtS l y b n (rmm f k) As post) (hG : GoodIn mt_tbl (wsS own idx y (.code y b n (some .int) :: mt_tbl))) (hd : y.cls = own ∧ y.cls ≠ "java/lang/invoke/MethodHandle" ∧ y.cls ≠ "java/lang/invoke/VarHandle" ∧ (parseMethodDescriptor y.desc).map (fun d => d.parameters.length) = some As.length)
    (hR : f + 1 ≤ R.frames ∧ 8 + (n + 11) + k ≤ R.locals) (hls : ls.size = nL) (hst : st0 = As.reverse ++ rest) (hrm : (rest.map fun v => v.category).sum ≤ 8) (hdg : decode cc pc = .ok (.invokestatic idx, 3)) (hcs : cells ≤ R.cells ∧ slots ≤ R.slots)
    (kk : ∀ (r : Int32) (H1 : Heap) (locs1 : List Loc), post r → WW D tys A s W0 H1 locs1 → W p l e R s m args below meth c H1 locs1 cells slots Q (F0 m (pc + 3) ls (.int r :: rest))) : W p l e R s m args below meth c H locs cells slots Q (F0 m pc ls st0) := by
  obtain ⟨hK, hP, hD, hS, hA⟩ := M
  have hFc : ∀ q, va_A [] H.size q → A q := fun q h => hA q (Nat.le_trans hS.1 (va_A_nil h))
  refine va_calli (va_runS (As := As) (rest := rest) SF (hC H.size) (cwS As.length SF.2.2.2.2 hG rfl rfl rfl hd hR) ⟨fun a U g mk q => ⟨q.1, q.2⟩, fun U hU hW => ⟨rfl, congrArg Array.size hU⟩⟩ rfl rfl hls hst (lv_room hrm) hdg hcs) hS (fun q _ h => hFc q h) hFc (fun r u t H1 locs1 ht hvm hw hB hz1 hk1 hS => ?_)
  exact kk r H1 locs1 hw ⟨hK, hP.kept (fun j q hq => hk1 q.1 (hP j q hq).lt (fun h => Nat.not_le.mpr (hP j q hq).lt (va_A_nil h))), hD, hS, hA⟩
end RowsA
end
section
def mW (h : Nat → Nat) (cs : Nat → ClassId) (ln nx la st : Int32) (O Dd Aa Bb bt fr k0 k1 k2 k3 k4 : Nat → Int32) : va_W := [(h 0, .inr (0, [.int ln, .int nx, .ref (h 1), .ref (h 2), .ref (h 3), .ref (h 4), .ref (h 5), .ref (h 6), .int la, .int st, .ref (h 7), .ref (h 8), .ref (h 9), .ref (h 10), .ref (h 11)])), (h 1, .inl (cs 1, 32, .inl O)), (h 2, .inl (cs 2, 32, .inl Dd)), (h 3, .inl (cs 3, 32, .inl Aa)), (h 4, .inl (cs 4, 32, .inl Bb)), (h 5, .inl (cs 5, 448, .inl bt)), (h 6, .inl (cs 6, 32, .inl fr)), (h 7, .inl (cs 7, 160, .inl k0)), (h 8, .inl (cs 8, 160, .inl k1)), (h 9, .inl (cs 9, 160, .inl k2)), (h 10, .inl (cs 10, 160, .inl k3)), (h 11, .inl (cs 11, 160, .inl k4))]
def tysM (cs : Nat → ClassId) : List (ClassId × FieldType) := [(cs 1, .int), (cs 2, .int), (cs 3, .int), (cs 4, .int), (cs 5, .boolean), (cs 6, .boolean), (cs 7, .int), (cs 8, .int), (cs 9, .int), (cs 10, .int), (cs 11, .int)]
section RowsM
variable {p : Program} {l : Launch} {e : Env} {R : Room} {s : State} {m : MethodId} {args : Array Value} {below : List Frame} {meth : Method} {c : Code} {H : Heap} {locs : List Loc} {cells slots : Nat} {Q : State → Prop}
variable {cc : ByteArray} {nL pc : Nat} {ls : Array Slot} {rest : List Value} {D : va_G} {A : Nat → Prop} {h : Nat → Nat} {cs : Nat → ClassId}
variable {ln nx la st : Int32} {O Dd Aa Bb bt fr k0 k1 k2 k3 k4 : Nat → Int32}
theorem gM_lines (SF : CallFix p m c cc nL s args mt_tbl R_M) (M : WW D (tysM cs) A s (mW h cs ln nx la st O Dd Aa Bb bt fr k0 k1 k2 k3 k4) H locs) (hd : decode cc pc = .ok (.getfield 44, 3)) (kk : W p l e R s m args below meth c H locs cells slots Q (F0 m (pc + 3) ls (.int ln :: rest))) : W p l e R s m args below meth c H locs cells slots Q (F0 m pc ls (.ref (h 0) :: rest)) :=
  va_get (D := D) (ci := 0) (v := .int ln) (C := R_M) (T := F_M) (N := 15) SF.1 SF.2.1 SF.2.2.2.2 fi_M SF.2.2.2.1 M.1 M.2.1 0 rfl rfl 0 (by decide) (SF.2.2.2.2 _ fl_M_lines) (fun _ h9 => h9) rfl hd kk
theorem gM_nextLine (SF : CallFix p m c cc nL s args mt_tbl R_M) (M : WW D (tysM cs) A s (mW h cs ln nx la st O Dd Aa Bb bt fr k0 k1 k2 k3 k4) H locs) (hd : decode cc pc = .ok (.getfield 48, 3)) (kk : W p l e R s m args below meth c H locs cells slots Q (F0 m (pc + 3) ls (.int nx :: rest))) : W p l e R s m args below meth c H locs cells slots Q (F0 m pc ls (.ref (h 0) :: rest)) :=
  va_get (D := D) (ci := 0) (v := .int nx) (C := R_M) (T := F_M) (N := 15) SF.1 SF.2.1 SF.2.2.2.2 fi_M SF.2.2.2.1 M.1 M.2.1 0 rfl rfl 1 (by decide) (SF.2.2.2.2 _ fl_M_nextLine) (fun _ h9 => h9) rfl hd kk
theorem gM_opOf (SF : CallFix p m c cc nL s args mt_tbl R_M) (M : WW D (tysM cs) A s (mW h cs ln nx la st O Dd Aa Bb bt fr k0 k1 k2 k3 k4) H locs) (hd : decode cc pc = .ok (.getfield 7, 3)) (kk : W p l e R s m args below meth c H locs cells slots Q (F0 m (pc + 3) ls (.ref (h 1) :: rest))) : W p l e R s m args below meth c H locs cells slots Q (F0 m pc ls (.ref (h 0) :: rest)) :=
  va_get (D := D) (ci := 0) (v := .ref (h 1)) (C := R_M) (T := F_M) (N := 15) SF.1 SF.2.1 SF.2.2.2.2 fi_M SF.2.2.2.1 M.1 M.2.1 0 rfl rfl 2 (by decide) (SF.2.2.2.2 _ fl_M_opOf) (fun _ h9 => h9) rfl hd kk
theorem gM_dstOf (SF : CallFix p m c cc nL s args mt_tbl R_M) (M : WW D (tysM cs) A s (mW h cs ln nx la st O Dd Aa Bb bt fr k0 k1 k2 k3 k4) H locs) (hd : decode cc pc = .ok (.getfield 13, 3)) (kk : W p l e R s m args below meth c H locs cells slots Q (F0 m (pc + 3) ls (.ref (h 2) :: rest))) : W p l e R s m args below meth c H locs cells slots Q (F0 m pc ls (.ref (h 0) :: rest)) :=
  va_get (D := D) (ci := 0) (v := .ref (h 2)) (C := R_M) (T := F_M) (N := 15) SF.1 SF.2.1 SF.2.2.2.2 fi_M SF.2.2.2.1 M.1 M.2.1 0 rfl rfl 3 (by decide) (SF.2.2.2.2 _ fl_M_dstOf) (fun _ h9 => h9) rfl hd kk
theorem gM_aOf (SF : CallFix p m c cc nL s args mt_tbl R_M) (M : WW D (tysM cs) A s (mW h cs ln nx la st O Dd Aa Bb bt fr k0 k1 k2 k3 k4) H locs) (hd : decode cc pc = .ok (.getfield 16, 3)) (kk : W p l e R s m args below meth c H locs cells slots Q (F0 m (pc + 3) ls (.ref (h 3) :: rest))) : W p l e R s m args below meth c H locs cells slots Q (F0 m pc ls (.ref (h 0) :: rest)) :=
  va_get (D := D) (ci := 0) (v := .ref (h 3)) (C := R_M) (T := F_M) (N := 15) SF.1 SF.2.1 SF.2.2.2.2 fi_M SF.2.2.2.1 M.1 M.2.1 0 rfl rfl 4 (by decide) (SF.2.2.2.2 _ fl_M_aOf) (fun _ h9 => h9) rfl hd kk
theorem gM_bOf (SF : CallFix p m c cc nL s args mt_tbl R_M) (M : WW D (tysM cs) A s (mW h cs ln nx la st O Dd Aa Bb bt fr k0 k1 k2 k3 k4) H locs) (hd : decode cc pc = .ok (.getfield 19, 3)) (kk : W p l e R s m args below meth c H locs cells slots Q (F0 m (pc + 3) ls (.ref (h 4) :: rest))) : W p l e R s m args below meth c H locs cells slots Q (F0 m pc ls (.ref (h 0) :: rest)) :=
  va_get (D := D) (ci := 0) (v := .ref (h 4)) (C := R_M) (T := F_M) (N := 15) SF.1 SF.2.1 SF.2.2.2.2 fi_M SF.2.2.2.1 M.1 M.2.1 0 rfl rfl 5 (by decide) (SF.2.2.2.2 _ fl_M_bOf) (fun _ h9 => h9) rfl hd kk
theorem gM_bit (SF : CallFix p m c cc nL s args mt_tbl R_M) (M : WW D (tysM cs) A s (mW h cs ln nx la st O Dd Aa Bb bt fr k0 k1 k2 k3 k4) H locs) (hd : decode cc pc = .ok (.getfield 22, 3)) (kk : W p l e R s m args below meth c H locs cells slots Q (F0 m (pc + 3) ls (.ref (h 5) :: rest))) : W p l e R s m args below meth c H locs cells slots Q (F0 m pc ls (.ref (h 0) :: rest)) :=
  va_get (D := D) (ci := 0) (v := .ref (h 5)) (C := R_M) (T := F_M) (N := 15) SF.1 SF.2.1 SF.2.2.2.2 fi_M SF.2.2.2.1 M.1 M.2.1 0 rfl rfl 6 (by decide) (SF.2.2.2.2 _ fl_M_bit) (fun _ h9 => h9) rfl hd kk
theorem gM_fresh (SF : CallFix p m c cc nL s args mt_tbl R_M) (M : WW D (tysM cs) A s (mW h cs ln nx la st O Dd Aa Bb bt fr k0 k1 k2 k3 k4) H locs) (hd : decode cc pc = .ok (.getfield 26, 3)) (kk : W p l e R s m args below meth c H locs cells slots Q (F0 m (pc + 3) ls (.ref (h 6) :: rest))) : W p l e R s m args below meth c H locs cells slots Q (F0 m pc ls (.ref (h 0) :: rest)) :=
  va_get (D := D) (ci := 0) (v := .ref (h 6)) (C := R_M) (T := F_M) (N := 15) SF.1 SF.2.1 SF.2.2.2.2 fi_M SF.2.2.2.1 M.1 M.2.1 0 rfl rfl 7 (by decide) (SF.2.2.2.2 _ fl_M_fresh) (fun _ h9 => h9) rfl hd kk
theorem gM_latch (SF : CallFix p m c cc nL s args mt_tbl R_M) (M : WW D (tysM cs) A s (mW h cs ln nx la st O Dd Aa Bb bt fr k0 k1 k2 k3 k4) H locs) (hd : decode cc pc = .ok (.getfield 110, 3)) (kk : W p l e R s m args below meth c H locs cells slots Q (F0 m (pc + 3) ls (.int la :: rest))) : W p l e R s m args below meth c H locs cells slots Q (F0 m pc ls (.ref (h 0) :: rest)) :=
  va_get (D := D) (ci := 0) (v := .int la) (C := R_M) (T := F_M) (N := 15) SF.1 SF.2.1 SF.2.2.2.2 fi_M SF.2.2.2.1 M.1 M.2.1 0 rfl rfl 8 (by decide) (SF.2.2.2.2 _ fl_M_latch) (fun _ h9 => h9) rfl hd kk
theorem gM_steps (SF : CallFix p m c cc nL s args mt_tbl R_M) (M : WW D (tysM cs) A s (mW h cs ln nx la st O Dd Aa Bb bt fr k0 k1 k2 k3 k4) H locs) (hd : decode cc pc = .ok (.getfield 78, 3)) (kk : W p l e R s m args below meth c H locs cells slots Q (F0 m (pc + 3) ls (.int st :: rest))) : W p l e R s m args below meth c H locs cells slots Q (F0 m pc ls (.ref (h 0) :: rest)) :=
  va_get (D := D) (ci := 0) (v := .int st) (C := R_M) (T := F_M) (N := 15) SF.1 SF.2.1 SF.2.2.2.2 fi_M SF.2.2.2.1 M.1 M.2.1 0 rfl rfl 9 (by decide) (SF.2.2.2.2 _ fl_M_steps) (fun _ h9 => h9) rfl hd kk
theorem gM_kind (SF : CallFix p m c cc nL s args mt_tbl R_M) (M : WW D (tysM cs) A s (mW h cs ln nx la st O Dd Aa Bb bt fr k0 k1 k2 k3 k4) H locs) (hd : decode cc pc = .ok (.getfield 29, 3)) (kk : W p l e R s m args below meth c H locs cells slots Q (F0 m (pc + 3) ls (.ref (h 7) :: rest))) : W p l e R s m args below meth c H locs cells slots Q (F0 m pc ls (.ref (h 0) :: rest)) :=
  va_get (D := D) (ci := 0) (v := .ref (h 7)) (C := R_M) (T := F_M) (N := 15) SF.1 SF.2.1 SF.2.2.2.2 fi_M SF.2.2.2.1 M.1 M.2.1 0 rfl rfl 10 (by decide) (SF.2.2.2.2 _ fl_M_kind) (fun _ h9 => h9) rfl hd kk
theorem gM_to (SF : CallFix p m c cc nL s args mt_tbl R_M) (M : WW D (tysM cs) A s (mW h cs ln nx la st O Dd Aa Bb bt fr k0 k1 k2 k3 k4) H locs) (hd : decode cc pc = .ok (.getfield 32, 3)) (kk : W p l e R s m args below meth c H locs cells slots Q (F0 m (pc + 3) ls (.ref (h 8) :: rest))) : W p l e R s m args below meth c H locs cells slots Q (F0 m pc ls (.ref (h 0) :: rest)) :=
  va_get (D := D) (ci := 0) (v := .ref (h 8)) (C := R_M) (T := F_M) (N := 15) SF.1 SF.2.1 SF.2.2.2.2 fi_M SF.2.2.2.1 M.1 M.2.1 0 rfl rfl 11 (by decide) (SF.2.2.2.2 _ fl_M_to) (fun _ h9 => h9) rfl hd kk
theorem gM_from (SF : CallFix p m c cc nL s args mt_tbl R_M) (M : WW D (tysM cs) A s (mW h cs ln nx la st O Dd Aa Bb bt fr k0 k1 k2 k3 k4) H locs) (hd : decode cc pc = .ok (.getfield 35, 3)) (kk : W p l e R s m args below meth c H locs cells slots Q (F0 m (pc + 3) ls (.ref (h 9) :: rest))) : W p l e R s m args below meth c H locs cells slots Q (F0 m pc ls (.ref (h 0) :: rest)) :=
  va_get (D := D) (ci := 0) (v := .ref (h 9)) (C := R_M) (T := F_M) (N := 15) SF.1 SF.2.1 SF.2.2.2.2 fi_M SF.2.2.2.1 M.1 M.2.1 0 rfl rfl 12 (by decide) (SF.2.2.2.2 _ fl_M_from) (fun _ h9 => h9) rfl hd kk
theorem gM_other (SF : CallFix p m c cc nL s args mt_tbl R_M) (M : WW D (tysM cs) A s (mW h cs ln nx la st O Dd Aa Bb bt fr k0 k1 k2 k3 k4) H locs) (hd : decode cc pc = .ok (.getfield 38, 3)) (kk : W p l e R s m args below meth c H locs cells slots Q (F0 m (pc + 3) ls (.ref (h 10) :: rest))) : W p l e R s m args below meth c H locs cells slots Q (F0 m pc ls (.ref (h 0) :: rest)) :=
  va_get (D := D) (ci := 0) (v := .ref (h 10)) (C := R_M) (T := F_M) (N := 15) SF.1 SF.2.1 SF.2.2.2.2 fi_M SF.2.2.2.1 M.1 M.2.1 0 rfl rfl 13 (by decide) (SF.2.2.2.2 _ fl_M_other) (fun _ h9 => h9) rfl hd kk
theorem gM_skip (SF : CallFix p m c cc nL s args mt_tbl R_M) (M : WW D (tysM cs) A s (mW h cs ln nx la st O Dd Aa Bb bt fr k0 k1 k2 k3 k4) H locs) (hd : decode cc pc = .ok (.getfield 41, 3)) (kk : W p l e R s m args below meth c H locs cells slots Q (F0 m (pc + 3) ls (.ref (h 11) :: rest))) : W p l e R s m args below meth c H locs cells slots Q (F0 m pc ls (.ref (h 0) :: rest)) :=
  va_get (D := D) (ci := 0) (v := .ref (h 11)) (C := R_M) (T := F_M) (N := 15) SF.1 SF.2.1 SF.2.2.2.2 fi_M SF.2.2.2.1 M.1 M.2.1 0 rfl rfl 14 (by decide) (SF.2.2.2.2 _ fl_M_skip) (fun _ h9 => h9) rfl hd kk
theorem pM_lines {x : Int32} (SF : CallFix p m c cc nL s args mt_tbl R_M) (M : WW D (tysM cs) A s (mW h cs ln nx la st O Dd Aa Bb bt fr k0 k1 k2 k3 k4) H locs) (hd : decode cc pc = .ok (.putfield 44, 3)) (kk : ∀ (H1 : Heap) (locs1 : List Loc), WW D (tysM cs) A s (mW h cs x nx la st O Dd Aa Bb bt fr k0 k1 k2 k3 k4) H1 locs1 → W p l e R s m args below meth c H1 locs1 cells slots Q (F0 m (pc + 3) ls rest)) : W p l e R s m args below meth c H locs cells slots Q (F0 m pc ls (.int x :: .ref (h 0) :: rest)) :=
  va_put (D := D) (ci := 0) (v := .int x) (ty := .int) (C := R_M) (T := F_M) (N := 15) SF.1 SF.2.1 SF.2.2.2.2 fi_M ft_M ft_M_ok fn_M SF.2.2.2.1 M.1 M.2.1 M.2.2.1 M.2.2.2.1 0 rfl rfl 0 (by decide) (SF.2.2.2.2 _ fl_M_lines) (fun _ h9 => h9) rfl (by decide +kernel) rfl rfl (Nat.le_of_ble_eq_true rfl) hd (fun H1 locs1 hP hD hS => kk H1 locs1 ⟨M.1, hP, hD, hS, M.2.2.2.2⟩)
theorem pM_nextLine {x : Int32} (SF : CallFix p m c cc nL s args mt_tbl R_M) (M : WW D (tysM cs) A s (mW h cs ln nx la st O Dd Aa Bb bt fr k0 k1 k2 k3 k4) H locs) (hd : decode cc pc = .ok (.putfield 48, 3)) (kk : ∀ (H1 : Heap) (locs1 : List Loc), WW D (tysM cs) A s (mW h cs ln x la st O Dd Aa Bb bt fr k0 k1 k2 k3 k4) H1 locs1 → W p l e R s m args below meth c H1 locs1 cells slots Q (F0 m (pc + 3) ls rest)) : W p l e R s m args below meth c H locs cells slots Q (F0 m pc ls (.int x :: .ref (h 0) :: rest)) :=
  va_put (D := D) (ci := 0) (v := .int x) (ty := .int) (C := R_M) (T := F_M) (N := 15) SF.1 SF.2.1 SF.2.2.2.2 fi_M ft_M ft_M_ok fn_M SF.2.2.2.1 M.1 M.2.1 M.2.2.1 M.2.2.2.1 0 rfl rfl 1 (by decide) (SF.2.2.2.2 _ fl_M_nextLine) (fun _ h9 => h9) rfl (by decide +kernel) rfl rfl (Nat.le_of_ble_eq_true rfl) hd (fun H1 locs1 hP hD hS => kk H1 locs1 ⟨M.1, hP, hD, hS, M.2.2.2.2⟩)
theorem pM_latch {x : Bool} (SF : CallFix p m c cc nL s args mt_tbl R_M) (M : WW D (tysM cs) A s (mW h cs ln nx la st O Dd Aa Bb bt fr k0 k1 k2 k3 k4) H locs) (hd : decode cc pc = .ok (.putfield 110, 3)) (kk : ∀ (H1 : Heap) (locs1 : List Loc), WW D (tysM cs) A s (mW h cs ln nx (bI x) st O Dd Aa Bb bt fr k0 k1 k2 k3 k4) H1 locs1 → W p l e R s m args below meth c H1 locs1 cells slots Q (F0 m (pc + 3) ls rest)) : W p l e R s m args below meth c H locs cells slots Q (F0 m pc ls (.int (bI x) :: .ref (h 0) :: rest)) :=
  va_put (D := D) (ci := 0) (v := .int (bI x)) (ty := .boolean) (C := R_M) (T := F_M) (N := 15) SF.1 SF.2.1 SF.2.2.2.2 fi_M ft_M ft_M_ok fn_M SF.2.2.2.1 M.1 M.2.1 M.2.2.1 M.2.2.2.1 0 rfl rfl 8 (by decide) (SF.2.2.2.2 _ fl_M_latch) (fun _ h9 => h9) rfl (by decide +kernel) (bI_nar x) (bI_fit x) (Nat.le_of_ble_eq_true rfl) hd (fun H1 locs1 hP hD hS => kk H1 locs1 ⟨M.1, hP, hD, hS, M.2.2.2.2⟩)
theorem pM_steps {x : Int32} (SF : CallFix p m c cc nL s args mt_tbl R_M) (M : WW D (tysM cs) A s (mW h cs ln nx la st O Dd Aa Bb bt fr k0 k1 k2 k3 k4) H locs) (hd : decode cc pc = .ok (.putfield 78, 3)) (kk : ∀ (H1 : Heap) (locs1 : List Loc), WW D (tysM cs) A s (mW h cs ln nx la x O Dd Aa Bb bt fr k0 k1 k2 k3 k4) H1 locs1 → W p l e R s m args below meth c H1 locs1 cells slots Q (F0 m (pc + 3) ls rest)) : W p l e R s m args below meth c H locs cells slots Q (F0 m pc ls (.int x :: .ref (h 0) :: rest)) :=
  va_put (D := D) (ci := 0) (v := .int x) (ty := .int) (C := R_M) (T := F_M) (N := 15) SF.1 SF.2.1 SF.2.2.2.2 fi_M ft_M ft_M_ok fn_M SF.2.2.2.1 M.1 M.2.1 M.2.2.1 M.2.2.2.1 0 rfl rfl 9 (by decide) (SF.2.2.2.2 _ fl_M_steps) (fun _ h9 => h9) rfl (by decide +kernel) rfl rfl (Nat.le_of_ble_eq_true rfl) hd (fun H1 locs1 hP hD hS => kk H1 locs1 ⟨M.1, hP, hD, hS, M.2.2.2.2⟩)
theorem aM_opOf (SF : CallFix p m c cc nL s args mt_tbl R_M) (M : WW D (tysM cs) A s (mW h cs ln nx la st O Dd Aa Bb bt fr k0 k1 k2 k3 k4) H locs) {i : Int32} (j : Nat) (hi : i = nI j) (hj : j < 32) (hd : decode cc pc = .ok (.iaload, 1)) (kk : W p l e R s m args below meth c H locs cells slots Q (F0 m (pc + 1) ls (.int (O j) :: rest))) : W p l e R s m args below meth c H locs cells slots Q (F0 m pc ls (.int i :: .ref (h 1) :: rest)) := by
  subst hi
  refine va_iald SF.1 SF.2.1 M.1 M.2.1 1 0 rfl rfl (vp_in_nI hj (by decide)) hd ?_
  rw [nI_clamp (by omega)]
  exact kk
theorem sM_opOf (SF : CallFix p m c cc nL s args mt_tbl R_M) (M : WW D (tysM cs) A s (mW h cs ln nx la st O Dd Aa Bb bt fr k0 k1 k2 k3 k4) H locs) {i : Int32} {x : Int32} (j : Nat) (hi : i = nI j) (hj : j < 32) (hd : decode cc pc = .ok (.iastore, 1)) (kk : ∀ (H1 : Heap) (locs1 : List Loc), WW D (tysM cs) A s (mW h cs ln nx la st (upd O j x) Dd Aa Bb bt fr k0 k1 k2 k3 k4) H1 locs1 → W p l e R s m args below meth c H1 locs1 cells slots Q (F0 m (pc + 1) ls rest)) : W p l e R s m args below meth c H locs cells slots Q (F0 m pc ls (.int x :: .int i :: .ref (h 1) :: rest)) := by
  subst hi
  refine va_iast SF.1 SF.2.1 M.1 M.2.1 M.2.2.1 M.2.2.2.1 1 0 rfl rfl (vp_in_nI hj (by decide)) hd (fun H1 locs1 hP hD hS => ?_)
  rw [nI_clamp (by omega)] at hP hD
  exact kk H1 locs1 ⟨M.1, hP, hD, hS, M.2.2.2.2⟩
theorem aM_dstOf (SF : CallFix p m c cc nL s args mt_tbl R_M) (M : WW D (tysM cs) A s (mW h cs ln nx la st O Dd Aa Bb bt fr k0 k1 k2 k3 k4) H locs) {i : Int32} (j : Nat) (hi : i = nI j) (hj : j < 32) (hd : decode cc pc = .ok (.iaload, 1)) (kk : W p l e R s m args below meth c H locs cells slots Q (F0 m (pc + 1) ls (.int (Dd j) :: rest))) : W p l e R s m args below meth c H locs cells slots Q (F0 m pc ls (.int i :: .ref (h 2) :: rest)) := by
  subst hi
  refine va_iald SF.1 SF.2.1 M.1 M.2.1 2 1 rfl rfl (vp_in_nI hj (by decide)) hd ?_
  rw [nI_clamp (by omega)]
  exact kk
theorem sM_dstOf (SF : CallFix p m c cc nL s args mt_tbl R_M) (M : WW D (tysM cs) A s (mW h cs ln nx la st O Dd Aa Bb bt fr k0 k1 k2 k3 k4) H locs) {i : Int32} {x : Int32} (j : Nat) (hi : i = nI j) (hj : j < 32) (hd : decode cc pc = .ok (.iastore, 1)) (kk : ∀ (H1 : Heap) (locs1 : List Loc), WW D (tysM cs) A s (mW h cs ln nx la st O (upd Dd j x) Aa Bb bt fr k0 k1 k2 k3 k4) H1 locs1 → W p l e R s m args below meth c H1 locs1 cells slots Q (F0 m (pc + 1) ls rest)) : W p l e R s m args below meth c H locs cells slots Q (F0 m pc ls (.int x :: .int i :: .ref (h 2) :: rest)) := by
  subst hi
  refine va_iast SF.1 SF.2.1 M.1 M.2.1 M.2.2.1 M.2.2.2.1 2 1 rfl rfl (vp_in_nI hj (by decide)) hd (fun H1 locs1 hP hD hS => ?_)
  rw [nI_clamp (by omega)] at hP hD
  exact kk H1 locs1 ⟨M.1, hP, hD, hS, M.2.2.2.2⟩
theorem aM_aOf (SF : CallFix p m c cc nL s args mt_tbl R_M) (M : WW D (tysM cs) A s (mW h cs ln nx la st O Dd Aa Bb bt fr k0 k1 k2 k3 k4) H locs) {i : Int32} (j : Nat) (hi : i = nI j) (hj : j < 32) (hd : decode cc pc = .ok (.iaload, 1)) (kk : W p l e R s m args below meth c H locs cells slots Q (F0 m (pc + 1) ls (.int (Aa j) :: rest))) : W p l e R s m args below meth c H locs cells slots Q (F0 m pc ls (.int i :: .ref (h 3) :: rest)) := by
  subst hi
  refine va_iald SF.1 SF.2.1 M.1 M.2.1 3 2 rfl rfl (vp_in_nI hj (by decide)) hd ?_
  rw [nI_clamp (by omega)]
  exact kk
theorem sM_aOf (SF : CallFix p m c cc nL s args mt_tbl R_M) (M : WW D (tysM cs) A s (mW h cs ln nx la st O Dd Aa Bb bt fr k0 k1 k2 k3 k4) H locs) {i : Int32} {x : Int32} (j : Nat) (hi : i = nI j) (hj : j < 32) (hd : decode cc pc = .ok (.iastore, 1)) (kk : ∀ (H1 : Heap) (locs1 : List Loc), WW D (tysM cs) A s (mW h cs ln nx la st O Dd (upd Aa j x) Bb bt fr k0 k1 k2 k3 k4) H1 locs1 → W p l e R s m args below meth c H1 locs1 cells slots Q (F0 m (pc + 1) ls rest)) : W p l e R s m args below meth c H locs cells slots Q (F0 m pc ls (.int x :: .int i :: .ref (h 3) :: rest)) := by
  subst hi
  refine va_iast SF.1 SF.2.1 M.1 M.2.1 M.2.2.1 M.2.2.2.1 3 2 rfl rfl (vp_in_nI hj (by decide)) hd (fun H1 locs1 hP hD hS => ?_)
  rw [nI_clamp (by omega)] at hP hD
  exact kk H1 locs1 ⟨M.1, hP, hD, hS, M.2.2.2.2⟩
theorem aM_bOf (SF : CallFix p m c cc nL s args mt_tbl R_M) (M : WW D (tysM cs) A s (mW h cs ln nx la st O Dd Aa Bb bt fr k0 k1 k2 k3 k4) H locs) {i : Int32} (j : Nat) (hi : i = nI j) (hj : j < 32) (hd : decode cc pc = .ok (.iaload, 1)) (kk : W p l e R s m args below meth c H locs cells slots Q (F0 m (pc + 1) ls (.int (Bb j) :: rest))) : W p l e R s m args below meth c H locs cells slots Q (F0 m pc ls (.int i :: .ref (h 4) :: rest)) := by
  subst hi
  refine va_iald SF.1 SF.2.1 M.1 M.2.1 4 3 rfl rfl (vp_in_nI hj (by decide)) hd ?_
  rw [nI_clamp (by omega)]
  exact kk
theorem sM_bOf (SF : CallFix p m c cc nL s args mt_tbl R_M) (M : WW D (tysM cs) A s (mW h cs ln nx la st O Dd Aa Bb bt fr k0 k1 k2 k3 k4) H locs) {i : Int32} {x : Int32} (j : Nat) (hi : i = nI j) (hj : j < 32) (hd : decode cc pc = .ok (.iastore, 1)) (kk : ∀ (H1 : Heap) (locs1 : List Loc), WW D (tysM cs) A s (mW h cs ln nx la st O Dd Aa (upd Bb j x) bt fr k0 k1 k2 k3 k4) H1 locs1 → W p l e R s m args below meth c H1 locs1 cells slots Q (F0 m (pc + 1) ls rest)) : W p l e R s m args below meth c H locs cells slots Q (F0 m pc ls (.int x :: .int i :: .ref (h 4) :: rest)) := by
  subst hi
  refine va_iast SF.1 SF.2.1 M.1 M.2.1 M.2.2.1 M.2.2.2.1 4 3 rfl rfl (vp_in_nI hj (by decide)) hd (fun H1 locs1 hP hD hS => ?_)
  rw [nI_clamp (by omega)] at hP hD
  exact kk H1 locs1 ⟨M.1, hP, hD, hS, M.2.2.2.2⟩
theorem aM_bit (SF : CallFix p m c cc nL s args mt_tbl R_M) (M : WW D (tysM cs) A s (mW h cs ln nx la st O Dd Aa Bb bt fr k0 k1 k2 k3 k4) H locs) {i : Int32} (j : Nat) (hi : i = nI j) (hj : j < 448) (hd : decode cc pc = .ok (.baload, 1)) (kk : W p l e R s m args below meth c H locs cells slots Q (F0 m (pc + 1) ls (.int (bt j) :: rest))) : W p l e R s m args below meth c H locs cells slots Q (F0 m pc ls (.int i :: .ref (h 5) :: rest)) := by
  subst hi
  refine va_zald SF.1 SF.2.1 M.1 M.2.1 5 4 rfl rfl (vp_in_nI hj (by decide)) hd ?_
  rw [nI_clamp (by omega)]
  exact kk
theorem sM_bit (SF : CallFix p m c cc nL s args mt_tbl R_M) (M : WW D (tysM cs) A s (mW h cs ln nx la st O Dd Aa Bb bt fr k0 k1 k2 k3 k4) H locs) {i : Int32} {x : Bool} (j : Nat) (hi : i = nI j) (hj : j < 448) (hd : decode cc pc = .ok (.bastore, 1)) (kk : ∀ (H1 : Heap) (locs1 : List Loc), WW D (tysM cs) A s (mW h cs ln nx la st O Dd Aa Bb (upd bt j (bI x)) fr k0 k1 k2 k3 k4) H1 locs1 → W p l e R s m args below meth c H1 locs1 cells slots Q (F0 m (pc + 1) ls rest)) : W p l e R s m args below meth c H locs cells slots Q (F0 m pc ls (.int (bI x) :: .int i :: .ref (h 5) :: rest)) := by
  subst hi
  refine va_zast SF.1 SF.2.1 M.1 M.2.1 M.2.2.1 M.2.2.2.1 5 4 rfl rfl (vp_in_nI hj (by decide)) hd (fun H1 locs1 hP hD hS => ?_)
  rw [nI_clamp (by omega), bI_vp] at hP hD
  exact kk H1 locs1 ⟨M.1, hP, hD, hS, M.2.2.2.2⟩
theorem aM_fresh (SF : CallFix p m c cc nL s args mt_tbl R_M) (M : WW D (tysM cs) A s (mW h cs ln nx la st O Dd Aa Bb bt fr k0 k1 k2 k3 k4) H locs) {i : Int32} (j : Nat) (hi : i = nI j) (hj : j < 32) (hd : decode cc pc = .ok (.baload, 1)) (kk : W p l e R s m args below meth c H locs cells slots Q (F0 m (pc + 1) ls (.int (fr j) :: rest))) : W p l e R s m args below meth c H locs cells slots Q (F0 m pc ls (.int i :: .ref (h 6) :: rest)) := by
  subst hi
  refine va_zald SF.1 SF.2.1 M.1 M.2.1 6 5 rfl rfl (vp_in_nI hj (by decide)) hd ?_
  rw [nI_clamp (by omega)]
  exact kk
theorem sM_fresh (SF : CallFix p m c cc nL s args mt_tbl R_M) (M : WW D (tysM cs) A s (mW h cs ln nx la st O Dd Aa Bb bt fr k0 k1 k2 k3 k4) H locs) {i : Int32} {x : Bool} (j : Nat) (hi : i = nI j) (hj : j < 32) (hd : decode cc pc = .ok (.bastore, 1)) (kk : ∀ (H1 : Heap) (locs1 : List Loc), WW D (tysM cs) A s (mW h cs ln nx la st O Dd Aa Bb bt (upd fr j (bI x)) k0 k1 k2 k3 k4) H1 locs1 → W p l e R s m args below meth c H1 locs1 cells slots Q (F0 m (pc + 1) ls rest)) : W p l e R s m args below meth c H locs cells slots Q (F0 m pc ls (.int (bI x) :: .int i :: .ref (h 6) :: rest)) := by
  subst hi
  refine va_zast SF.1 SF.2.1 M.1 M.2.1 M.2.2.1 M.2.2.2.1 6 5 rfl rfl (vp_in_nI hj (by decide)) hd (fun H1 locs1 hP hD hS => ?_)
  rw [nI_clamp (by omega), bI_vp] at hP hD
  exact kk H1 locs1 ⟨M.1, hP, hD, hS, M.2.2.2.2⟩
theorem aM_kind (SF : CallFix p m c cc nL s args mt_tbl R_M) (M : WW D (tysM cs) A s (mW h cs ln nx la st O Dd Aa Bb bt fr k0 k1 k2 k3 k4) H locs) {i : Int32} (j : Nat) (hi : i = nI j) (hj : j < 160) (hd : decode cc pc = .ok (.iaload, 1)) (kk : W p l e R s m args below meth c H locs cells slots Q (F0 m (pc + 1) ls (.int (k0 j) :: rest))) : W p l e R s m args below meth c H locs cells slots Q (F0 m pc ls (.int i :: .ref (h 7) :: rest)) := by
  subst hi
  refine va_iald SF.1 SF.2.1 M.1 M.2.1 7 6 rfl rfl (vp_in_nI hj (by decide)) hd ?_
  rw [nI_clamp (by omega)]
  exact kk
theorem sM_kind (SF : CallFix p m c cc nL s args mt_tbl R_M) (M : WW D (tysM cs) A s (mW h cs ln nx la st O Dd Aa Bb bt fr k0 k1 k2 k3 k4) H locs) {i : Int32} {x : Int32} (j : Nat) (hi : i = nI j) (hj : j < 160) (hd : decode cc pc = .ok (.iastore, 1)) (kk : ∀ (H1 : Heap) (locs1 : List Loc), WW D (tysM cs) A s (mW h cs ln nx la st O Dd Aa Bb bt fr (upd k0 j x) k1 k2 k3 k4) H1 locs1 → W p l e R s m args below meth c H1 locs1 cells slots Q (F0 m (pc + 1) ls rest)) : W p l e R s m args below meth c H locs cells slots Q (F0 m pc ls (.int x :: .int i :: .ref (h 7) :: rest)) := by
  subst hi
  refine va_iast SF.1 SF.2.1 M.1 M.2.1 M.2.2.1 M.2.2.2.1 7 6 rfl rfl (vp_in_nI hj (by decide)) hd (fun H1 locs1 hP hD hS => ?_)
  rw [nI_clamp (by omega)] at hP hD
  exact kk H1 locs1 ⟨M.1, hP, hD, hS, M.2.2.2.2⟩
theorem aM_to (SF : CallFix p m c cc nL s args mt_tbl R_M) (M : WW D (tysM cs) A s (mW h cs ln nx la st O Dd Aa Bb bt fr k0 k1 k2 k3 k4) H locs) {i : Int32} (j : Nat) (hi : i = nI j) (hj : j < 160) (hd : decode cc pc = .ok (.iaload, 1)) (kk : W p l e R s m args below meth c H locs cells slots Q (F0 m (pc + 1) ls (.int (k1 j) :: rest))) : W p l e R s m args below meth c H locs cells slots Q (F0 m pc ls (.int i :: .ref (h 8) :: rest)) := by
  subst hi
  refine va_iald SF.1 SF.2.1 M.1 M.2.1 8 7 rfl rfl (vp_in_nI hj (by decide)) hd ?_
  rw [nI_clamp (by omega)]
  exact kk
theorem sM_to (SF : CallFix p m c cc nL s args mt_tbl R_M) (M : WW D (tysM cs) A s (mW h cs ln nx la st O Dd Aa Bb bt fr k0 k1 k2 k3 k4) H locs) {i : Int32} {x : Int32} (j : Nat) (hi : i = nI j) (hj : j < 160) (hd : decode cc pc = .ok (.iastore, 1)) (kk : ∀ (H1 : Heap) (locs1 : List Loc), WW D (tysM cs) A s (mW h cs ln nx la st O Dd Aa Bb bt fr k0 (upd k1 j x) k2 k3 k4) H1 locs1 → W p l e R s m args below meth c H1 locs1 cells slots Q (F0 m (pc + 1) ls rest)) : W p l e R s m args below meth c H locs cells slots Q (F0 m pc ls (.int x :: .int i :: .ref (h 8) :: rest)) := by
  subst hi
  refine va_iast SF.1 SF.2.1 M.1 M.2.1 M.2.2.1 M.2.2.2.1 8 7 rfl rfl (vp_in_nI hj (by decide)) hd (fun H1 locs1 hP hD hS => ?_)
  rw [nI_clamp (by omega)] at hP hD
  exact kk H1 locs1 ⟨M.1, hP, hD, hS, M.2.2.2.2⟩
theorem aM_from (SF : CallFix p m c cc nL s args mt_tbl R_M) (M : WW D (tysM cs) A s (mW h cs ln nx la st O Dd Aa Bb bt fr k0 k1 k2 k3 k4) H locs) {i : Int32} (j : Nat) (hi : i = nI j) (hj : j < 160) (hd : decode cc pc = .ok (.iaload, 1)) (kk : W p l e R s m args below meth c H locs cells slots Q (F0 m (pc + 1) ls (.int (k2 j) :: rest))) : W p l e R s m args below meth c H locs cells slots Q (F0 m pc ls (.int i :: .ref (h 9) :: rest)) := by
  subst hi
  refine va_iald SF.1 SF.2.1 M.1 M.2.1 9 8 rfl rfl (vp_in_nI hj (by decide)) hd ?_
  rw [nI_clamp (by omega)]
  exact kk
theorem sM_from (SF : CallFix p m c cc nL s args mt_tbl R_M) (M : WW D (tysM cs) A s (mW h cs ln nx la st O Dd Aa Bb bt fr k0 k1 k2 k3 k4) H locs) {i : Int32} {x : Int32} (j : Nat) (hi : i = nI j) (hj : j < 160) (hd : decode cc pc = .ok (.iastore, 1)) (kk : ∀ (H1 : Heap) (locs1 : List Loc), WW D (tysM cs) A s (mW h cs ln nx la st O Dd Aa Bb bt fr k0 k1 (upd k2 j x) k3 k4) H1 locs1 → W p l e R s m args below meth c H1 locs1 cells slots Q (F0 m (pc + 1) ls rest)) : W p l e R s m args below meth c H locs cells slots Q (F0 m pc ls (.int x :: .int i :: .ref (h 9) :: rest)) := by
  subst hi
  refine va_iast SF.1 SF.2.1 M.1 M.2.1 M.2.2.1 M.2.2.2.1 9 8 rfl rfl (vp_in_nI hj (by decide)) hd (fun H1 locs1 hP hD hS => ?_)
  rw [nI_clamp (by omega)] at hP hD
  exact kk H1 locs1 ⟨M.1, hP, hD, hS, M.2.2.2.2⟩
theorem aM_other (SF : CallFix p m c cc nL s args mt_tbl R_M) (M : WW D (tysM cs) A s (mW h cs ln nx la st O Dd Aa Bb bt fr k0 k1 k2 k3 k4) H locs) {i : Int32} (j : Nat) (hi : i = nI j) (hj : j < 160) (hd : decode cc pc = .ok (.iaload, 1)) (kk : W p l e R s m args below meth c H locs cells slots Q (F0 m (pc + 1) ls (.int (k3 j) :: rest))) : W p l e R s m args below meth c H locs cells slots Q (F0 m pc ls (.int i :: .ref (h 10) :: rest)) := by
  subst hi
  refine va_iald SF.1 SF.2.1 M.1 M.2.1 10 9 rfl rfl (vp_in_nI hj (by decide)) hd ?_
  rw [nI_clamp (by omega)]
  exact kk
theorem sM_other (SF : CallFix p m c cc nL s args mt_tbl R_M) (M : WW D (tysM cs) A s (mW h cs ln nx la st O Dd Aa Bb bt fr k0 k1 k2 k3 k4) H locs) {i : Int32} {x : Int32} (j : Nat) (hi : i = nI j) (hj : j < 160) (hd : decode cc pc = .ok (.iastore, 1)) (kk : ∀ (H1 : Heap) (locs1 : List Loc), WW D (tysM cs) A s (mW h cs ln nx la st O Dd Aa Bb bt fr k0 k1 k2 (upd k3 j x) k4) H1 locs1 → W p l e R s m args below meth c H1 locs1 cells slots Q (F0 m (pc + 1) ls rest)) : W p l e R s m args below meth c H locs cells slots Q (F0 m pc ls (.int x :: .int i :: .ref (h 10) :: rest)) := by
  subst hi
  refine va_iast SF.1 SF.2.1 M.1 M.2.1 M.2.2.1 M.2.2.2.1 10 9 rfl rfl (vp_in_nI hj (by decide)) hd (fun H1 locs1 hP hD hS => ?_)
  rw [nI_clamp (by omega)] at hP hD
  exact kk H1 locs1 ⟨M.1, hP, hD, hS, M.2.2.2.2⟩
theorem aM_skip (SF : CallFix p m c cc nL s args mt_tbl R_M) (M : WW D (tysM cs) A s (mW h cs ln nx la st O Dd Aa Bb bt fr k0 k1 k2 k3 k4) H locs) {i : Int32} (j : Nat) (hi : i = nI j) (hj : j < 160) (hd : decode cc pc = .ok (.iaload, 1)) (kk : W p l e R s m args below meth c H locs cells slots Q (F0 m (pc + 1) ls (.int (k4 j) :: rest))) : W p l e R s m args below meth c H locs cells slots Q (F0 m pc ls (.int i :: .ref (h 11) :: rest)) := by
  subst hi
  refine va_iald SF.1 SF.2.1 M.1 M.2.1 11 10 rfl rfl (vp_in_nI hj (by decide)) hd ?_
  rw [nI_clamp (by omega)]
  exact kk
theorem sM_skip (SF : CallFix p m c cc nL s args mt_tbl R_M) (M : WW D (tysM cs) A s (mW h cs ln nx la st O Dd Aa Bb bt fr k0 k1 k2 k3 k4) H locs) {i : Int32} {x : Int32} (j : Nat) (hi : i = nI j) (hj : j < 160) (hd : decode cc pc = .ok (.iastore, 1)) (kk : ∀ (H1 : Heap) (locs1 : List Loc), WW D (tysM cs) A s (mW h cs ln nx la st O Dd Aa Bb bt fr k0 k1 k2 k3 (upd k4 j x)) H1 locs1 → W p l e R s m args below meth c H1 locs1 cells slots Q (F0 m (pc + 1) ls rest)) : W p l e R s m args below meth c H locs cells slots Q (F0 m pc ls (.int x :: .int i :: .ref (h 11) :: rest)) := by
  subst hi
  refine va_iast SF.1 SF.2.1 M.1 M.2.1 M.2.2.1 M.2.2.2.1 11 10 rfl rfl (vp_in_nI hj (by decide)) hd (fun H1 locs1 hP hD hS => ?_)
  rw [nI_clamp (by omega)] at hP hD
  exact kk H1 locs1 ⟨M.1, hP, hD, hS, M.2.2.2.2⟩
end RowsM
end
section
def tW (h : Nat → Nat) (cs : Nat → ClassId) (ln nx : Int32) (V O Dd Aa Bb : Nat → Int32) : va_W := [(h 0, .inr (1, [.ref (h 1), .int ln, .ref (h 2), .ref (h 3), .ref (h 4), .ref (h 5), .int nx])), (h 1, .inl (cs 1, 8, .inl V)), (h 2, .inl (cs 2, 32, .inl O)), (h 3, .inl (cs 3, 32, .inl Dd)), (h 4, .inl (cs 4, 32, .inl Aa)), (h 5, .inl (cs 5, 32, .inl Bb))]
def tysT (cs : Nat → ClassId) : List (ClassId × FieldType) := [(cs 1, .int), (cs 2, .int), (cs 3, .int), (cs 4, .int), (cs 5, .int)]
section RowsT
variable {p : Program} {l : Launch} {e : Env} {R : Room} {s : State} {m : MethodId} {args : Array Value} {below : List Frame} {meth : Method} {c : Code} {H : Heap} {locs : List Loc} {cells slots : Nat} {Q : State → Prop}
variable {cc : ByteArray} {nL pc : Nat} {ls : Array Slot} {rest : List Value} {D : va_G} {A : Nat → Prop} {h : Nat → Nat} {cs : Nat → ClassId}
variable {ln nx : Int32} {V O Dd Aa Bb : Nat → Int32}
theorem gT_variable (SF : CallFix p m c cc nL s args mt_tbl R_T) (M : WW D (tysT cs) A s (tW h cs ln nx V O Dd Aa Bb) H locs) (hd : decode cc pc = .ok (.getfield 7, 3)) (kk : W p l e R s m args below meth c H locs cells slots Q (F0 m (pc + 3) ls (.ref (h 1) :: rest))) : W p l e R s m args below meth c H locs cells slots Q (F0 m pc ls (.ref (h 0) :: rest)) :=
  va_get (D := D) (ci := 1) (v := .ref (h 1)) (C := R_T) (T := F_T) (N := 7) SF.1 SF.2.1 SF.2.2.2.2 fi_T SF.2.2.2.1 M.1 M.2.1 0 rfl rfl 0 (by decide) (SF.2.2.2.2 _ fl_T_variable) (fun _ h9 => h9) rfl hd kk
theorem gT_lines (SF : CallFix p m c cc nL s args mt_tbl R_T) (M : WW D (tysT cs) A s (tW h cs ln nx V O Dd Aa Bb) H locs) (hd : decode cc pc = .ok (.getfield 25, 3)) (kk : W p l e R s m args below meth c H locs cells slots Q (F0 m (pc + 3) ls (.int ln :: rest))) : W p l e R s m args below meth c H locs cells slots Q (F0 m pc ls (.ref (h 0) :: rest)) :=
  va_get (D := D) (ci := 1) (v := .int ln) (C := R_T) (T := F_T) (N := 7) SF.1 SF.2.1 SF.2.2.2.2 fi_T SF.2.2.2.1 M.1 M.2.1 0 rfl rfl 1 (by decide) (SF.2.2.2.2 _ fl_T_lines) (fun _ h9 => h9) rfl hd kk
theorem gT_op (SF : CallFix p m c cc nL s args mt_tbl R_T) (M : WW D (tysT cs) A s (tW h cs ln nx V O Dd Aa Bb) H locs) (hd : decode cc pc = .ok (.getfield 13, 3)) (kk : W p l e R s m args below meth c H locs cells slots Q (F0 m (pc + 3) ls (.ref (h 2) :: rest))) : W p l e R s m args below meth c H locs cells slots Q (F0 m pc ls (.ref (h 0) :: rest)) :=
  va_get (D := D) (ci := 1) (v := .ref (h 2)) (C := R_T) (T := F_T) (N := 7) SF.1 SF.2.1 SF.2.2.2.2 fi_T SF.2.2.2.1 M.1 M.2.1 0 rfl rfl 2 (by decide) (SF.2.2.2.2 _ fl_T_op) (fun _ h9 => h9) rfl hd kk
theorem gT_dst (SF : CallFix p m c cc nL s args mt_tbl R_T) (M : WW D (tysT cs) A s (tW h cs ln nx V O Dd Aa Bb) H locs) (hd : decode cc pc = .ok (.getfield 16, 3)) (kk : W p l e R s m args below meth c H locs cells slots Q (F0 m (pc + 3) ls (.ref (h 3) :: rest))) : W p l e R s m args below meth c H locs cells slots Q (F0 m pc ls (.ref (h 0) :: rest)) :=
  va_get (D := D) (ci := 1) (v := .ref (h 3)) (C := R_T) (T := F_T) (N := 7) SF.1 SF.2.1 SF.2.2.2.2 fi_T SF.2.2.2.1 M.1 M.2.1 0 rfl rfl 3 (by decide) (SF.2.2.2.2 _ fl_T_dst) (fun _ h9 => h9) rfl hd kk
theorem gT_left (SF : CallFix p m c cc nL s args mt_tbl R_T) (M : WW D (tysT cs) A s (tW h cs ln nx V O Dd Aa Bb) H locs) (hd : decode cc pc = .ok (.getfield 19, 3)) (kk : W p l e R s m args below meth c H locs cells slots Q (F0 m (pc + 3) ls (.ref (h 4) :: rest))) : W p l e R s m args below meth c H locs cells slots Q (F0 m pc ls (.ref (h 0) :: rest)) :=
  va_get (D := D) (ci := 1) (v := .ref (h 4)) (C := R_T) (T := F_T) (N := 7) SF.1 SF.2.1 SF.2.2.2.2 fi_T SF.2.2.2.1 M.1 M.2.1 0 rfl rfl 4 (by decide) (SF.2.2.2.2 _ fl_T_left) (fun _ h9 => h9) rfl hd kk
theorem gT_right (SF : CallFix p m c cc nL s args mt_tbl R_T) (M : WW D (tysT cs) A s (tW h cs ln nx V O Dd Aa Bb) H locs) (hd : decode cc pc = .ok (.getfield 22, 3)) (kk : W p l e R s m args below meth c H locs cells slots Q (F0 m (pc + 3) ls (.ref (h 5) :: rest))) : W p l e R s m args below meth c H locs cells slots Q (F0 m pc ls (.ref (h 0) :: rest)) :=
  va_get (D := D) (ci := 1) (v := .ref (h 5)) (C := R_T) (T := F_T) (N := 7) SF.1 SF.2.1 SF.2.2.2.2 fi_T SF.2.2.2.1 M.1 M.2.1 0 rfl rfl 5 (by decide) (SF.2.2.2.2 _ fl_T_right) (fun _ h9 => h9) rfl hd kk
theorem gT_next (SF : CallFix p m c cc nL s args mt_tbl R_T) (M : WW D (tysT cs) A s (tW h cs ln nx V O Dd Aa Bb) H locs) (hd : decode cc pc = .ok (.getfield 29, 3)) (kk : W p l e R s m args below meth c H locs cells slots Q (F0 m (pc + 3) ls (.int nx :: rest))) : W p l e R s m args below meth c H locs cells slots Q (F0 m pc ls (.ref (h 0) :: rest)) :=
  va_get (D := D) (ci := 1) (v := .int nx) (C := R_T) (T := F_T) (N := 7) SF.1 SF.2.1 SF.2.2.2.2 fi_T SF.2.2.2.1 M.1 M.2.1 0 rfl rfl 6 (by decide) (SF.2.2.2.2 _ fl_T_next) (fun _ h9 => h9) rfl hd kk
theorem pT_lines {x : Int32} (SF : CallFix p m c cc nL s args mt_tbl R_T) (M : WW D (tysT cs) A s (tW h cs ln nx V O Dd Aa Bb) H locs) (hd : decode cc pc = .ok (.putfield 25, 3)) (kk : ∀ (H1 : Heap) (locs1 : List Loc), WW D (tysT cs) A s (tW h cs x nx V O Dd Aa Bb) H1 locs1 → W p l e R s m args below meth c H1 locs1 cells slots Q (F0 m (pc + 3) ls rest)) : W p l e R s m args below meth c H locs cells slots Q (F0 m pc ls (.int x :: .ref (h 0) :: rest)) :=
  va_put (D := D) (ci := 1) (v := .int x) (ty := .int) (C := R_T) (T := F_T) (N := 7) SF.1 SF.2.1 SF.2.2.2.2 fi_T ft_T ft_T_ok fn_T SF.2.2.2.1 M.1 M.2.1 M.2.2.1 M.2.2.2.1 0 rfl rfl 1 (by decide) (SF.2.2.2.2 _ fl_T_lines) (fun _ h9 => h9) rfl (by decide +kernel) rfl rfl (Nat.le_of_ble_eq_true rfl) hd (fun H1 locs1 hP hD hS => kk H1 locs1 ⟨M.1, hP, hD, hS, M.2.2.2.2⟩)
theorem pT_next {x : Int32} (SF : CallFix p m c cc nL s args mt_tbl R_T) (M : WW D (tysT cs) A s (tW h cs ln nx V O Dd Aa Bb) H locs) (hd : decode cc pc = .ok (.putfield 29, 3)) (kk : ∀ (H1 : Heap) (locs1 : List Loc), WW D (tysT cs) A s (tW h cs ln x V O Dd Aa Bb) H1 locs1 → W p l e R s m args below meth c H1 locs1 cells slots Q (F0 m (pc + 3) ls rest)) : W p l e R s m args below meth c H locs cells slots Q (F0 m pc ls (.int x :: .ref (h 0) :: rest)) :=
  va_put (D := D) (ci := 1) (v := .int x) (ty := .int) (C := R_T) (T := F_T) (N := 7) SF.1 SF.2.1 SF.2.2.2.2 fi_T ft_T ft_T_ok fn_T SF.2.2.2.1 M.1 M.2.1 M.2.2.1 M.2.2.2.1 0 rfl rfl 6 (by decide) (SF.2.2.2.2 _ fl_T_next) (fun _ h9 => h9) rfl (by decide +kernel) rfl rfl (Nat.le_of_ble_eq_true rfl) hd (fun H1 locs1 hP hD hS => kk H1 locs1 ⟨M.1, hP, hD, hS, M.2.2.2.2⟩)
theorem aT_variable (SF : CallFix p m c cc nL s args mt_tbl R_T) (M : WW D (tysT cs) A s (tW h cs ln nx V O Dd Aa Bb) H locs) {i : Int32} (j : Nat) (hi : i = nI j) (hj : j < 8) (hd : decode cc pc = .ok (.iaload, 1)) (kk : W p l e R s m args below meth c H locs cells slots Q (F0 m (pc + 1) ls (.int (V j) :: rest))) : W p l e R s m args below meth c H locs cells slots Q (F0 m pc ls (.int i :: .ref (h 1) :: rest)) := by
  subst hi
  refine va_iald SF.1 SF.2.1 M.1 M.2.1 1 0 rfl rfl (vp_in_nI hj (by decide)) hd ?_
  rw [nI_clamp (by omega)]
  exact kk
theorem sT_variable (SF : CallFix p m c cc nL s args mt_tbl R_T) (M : WW D (tysT cs) A s (tW h cs ln nx V O Dd Aa Bb) H locs) {i : Int32} {x : Int32} (j : Nat) (hi : i = nI j) (hj : j < 8) (hd : decode cc pc = .ok (.iastore, 1)) (kk : ∀ (H1 : Heap) (locs1 : List Loc), WW D (tysT cs) A s (tW h cs ln nx (upd V j x) O Dd Aa Bb) H1 locs1 → W p l e R s m args below meth c H1 locs1 cells slots Q (F0 m (pc + 1) ls rest)) : W p l e R s m args below meth c H locs cells slots Q (F0 m pc ls (.int x :: .int i :: .ref (h 1) :: rest)) := by
  subst hi
  refine va_iast SF.1 SF.2.1 M.1 M.2.1 M.2.2.1 M.2.2.2.1 1 0 rfl rfl (vp_in_nI hj (by decide)) hd (fun H1 locs1 hP hD hS => ?_)
  rw [nI_clamp (by omega)] at hP hD
  exact kk H1 locs1 ⟨M.1, hP, hD, hS, M.2.2.2.2⟩
theorem aT_op (SF : CallFix p m c cc nL s args mt_tbl R_T) (M : WW D (tysT cs) A s (tW h cs ln nx V O Dd Aa Bb) H locs) {i : Int32} (j : Nat) (hi : i = nI j) (hj : j < 32) (hd : decode cc pc = .ok (.iaload, 1)) (kk : W p l e R s m args below meth c H locs cells slots Q (F0 m (pc + 1) ls (.int (O j) :: rest))) : W p l e R s m args below meth c H locs cells slots Q (F0 m pc ls (.int i :: .ref (h 2) :: rest)) := by
  subst hi
  refine va_iald SF.1 SF.2.1 M.1 M.2.1 2 1 rfl rfl (vp_in_nI hj (by decide)) hd ?_
  rw [nI_clamp (by omega)]
  exact kk
theorem sT_op (SF : CallFix p m c cc nL s args mt_tbl R_T) (M : WW D (tysT cs) A s (tW h cs ln nx V O Dd Aa Bb) H locs) {i : Int32} {x : Int32} (j : Nat) (hi : i = nI j) (hj : j < 32) (hd : decode cc pc = .ok (.iastore, 1)) (kk : ∀ (H1 : Heap) (locs1 : List Loc), WW D (tysT cs) A s (tW h cs ln nx V (upd O j x) Dd Aa Bb) H1 locs1 → W p l e R s m args below meth c H1 locs1 cells slots Q (F0 m (pc + 1) ls rest)) : W p l e R s m args below meth c H locs cells slots Q (F0 m pc ls (.int x :: .int i :: .ref (h 2) :: rest)) := by
  subst hi
  refine va_iast SF.1 SF.2.1 M.1 M.2.1 M.2.2.1 M.2.2.2.1 2 1 rfl rfl (vp_in_nI hj (by decide)) hd (fun H1 locs1 hP hD hS => ?_)
  rw [nI_clamp (by omega)] at hP hD
  exact kk H1 locs1 ⟨M.1, hP, hD, hS, M.2.2.2.2⟩
theorem aT_dst (SF : CallFix p m c cc nL s args mt_tbl R_T) (M : WW D (tysT cs) A s (tW h cs ln nx V O Dd Aa Bb) H locs) {i : Int32} (j : Nat) (hi : i = nI j) (hj : j < 32) (hd : decode cc pc = .ok (.iaload, 1)) (kk : W p l e R s m args below meth c H locs cells slots Q (F0 m (pc + 1) ls (.int (Dd j) :: rest))) : W p l e R s m args below meth c H locs cells slots Q (F0 m pc ls (.int i :: .ref (h 3) :: rest)) := by
  subst hi
  refine va_iald SF.1 SF.2.1 M.1 M.2.1 3 2 rfl rfl (vp_in_nI hj (by decide)) hd ?_
  rw [nI_clamp (by omega)]
  exact kk
theorem sT_dst (SF : CallFix p m c cc nL s args mt_tbl R_T) (M : WW D (tysT cs) A s (tW h cs ln nx V O Dd Aa Bb) H locs) {i : Int32} {x : Int32} (j : Nat) (hi : i = nI j) (hj : j < 32) (hd : decode cc pc = .ok (.iastore, 1)) (kk : ∀ (H1 : Heap) (locs1 : List Loc), WW D (tysT cs) A s (tW h cs ln nx V O (upd Dd j x) Aa Bb) H1 locs1 → W p l e R s m args below meth c H1 locs1 cells slots Q (F0 m (pc + 1) ls rest)) : W p l e R s m args below meth c H locs cells slots Q (F0 m pc ls (.int x :: .int i :: .ref (h 3) :: rest)) := by
  subst hi
  refine va_iast SF.1 SF.2.1 M.1 M.2.1 M.2.2.1 M.2.2.2.1 3 2 rfl rfl (vp_in_nI hj (by decide)) hd (fun H1 locs1 hP hD hS => ?_)
  rw [nI_clamp (by omega)] at hP hD
  exact kk H1 locs1 ⟨M.1, hP, hD, hS, M.2.2.2.2⟩
theorem aT_left (SF : CallFix p m c cc nL s args mt_tbl R_T) (M : WW D (tysT cs) A s (tW h cs ln nx V O Dd Aa Bb) H locs) {i : Int32} (j : Nat) (hi : i = nI j) (hj : j < 32) (hd : decode cc pc = .ok (.iaload, 1)) (kk : W p l e R s m args below meth c H locs cells slots Q (F0 m (pc + 1) ls (.int (Aa j) :: rest))) : W p l e R s m args below meth c H locs cells slots Q (F0 m pc ls (.int i :: .ref (h 4) :: rest)) := by
  subst hi
  refine va_iald SF.1 SF.2.1 M.1 M.2.1 4 3 rfl rfl (vp_in_nI hj (by decide)) hd ?_
  rw [nI_clamp (by omega)]
  exact kk
theorem sT_left (SF : CallFix p m c cc nL s args mt_tbl R_T) (M : WW D (tysT cs) A s (tW h cs ln nx V O Dd Aa Bb) H locs) {i : Int32} {x : Int32} (j : Nat) (hi : i = nI j) (hj : j < 32) (hd : decode cc pc = .ok (.iastore, 1)) (kk : ∀ (H1 : Heap) (locs1 : List Loc), WW D (tysT cs) A s (tW h cs ln nx V O Dd (upd Aa j x) Bb) H1 locs1 → W p l e R s m args below meth c H1 locs1 cells slots Q (F0 m (pc + 1) ls rest)) : W p l e R s m args below meth c H locs cells slots Q (F0 m pc ls (.int x :: .int i :: .ref (h 4) :: rest)) := by
  subst hi
  refine va_iast SF.1 SF.2.1 M.1 M.2.1 M.2.2.1 M.2.2.2.1 4 3 rfl rfl (vp_in_nI hj (by decide)) hd (fun H1 locs1 hP hD hS => ?_)
  rw [nI_clamp (by omega)] at hP hD
  exact kk H1 locs1 ⟨M.1, hP, hD, hS, M.2.2.2.2⟩
theorem aT_right (SF : CallFix p m c cc nL s args mt_tbl R_T) (M : WW D (tysT cs) A s (tW h cs ln nx V O Dd Aa Bb) H locs) {i : Int32} (j : Nat) (hi : i = nI j) (hj : j < 32) (hd : decode cc pc = .ok (.iaload, 1)) (kk : W p l e R s m args below meth c H locs cells slots Q (F0 m (pc + 1) ls (.int (Bb j) :: rest))) : W p l e R s m args below meth c H locs cells slots Q (F0 m pc ls (.int i :: .ref (h 5) :: rest)) := by
  subst hi
  refine va_iald SF.1 SF.2.1 M.1 M.2.1 5 4 rfl rfl (vp_in_nI hj (by decide)) hd ?_
  rw [nI_clamp (by omega)]
  exact kk
theorem sT_right (SF : CallFix p m c cc nL s args mt_tbl R_T) (M : WW D (tysT cs) A s (tW h cs ln nx V O Dd Aa Bb) H locs) {i : Int32} {x : Int32} (j : Nat) (hi : i = nI j) (hj : j < 32) (hd : decode cc pc = .ok (.iastore, 1)) (kk : ∀ (H1 : Heap) (locs1 : List Loc), WW D (tysT cs) A s (tW h cs ln nx V O Dd Aa (upd Bb j x)) H1 locs1 → W p l e R s m args below meth c H1 locs1 cells slots Q (F0 m (pc + 1) ls rest)) : W p l e R s m args below meth c H locs cells slots Q (F0 m pc ls (.int x :: .int i :: .ref (h 5) :: rest)) := by
  subst hi
  refine va_iast SF.1 SF.2.1 M.1 M.2.1 M.2.2.1 M.2.2.2.1 5 4 rfl rfl (vp_in_nI hj (by decide)) hd (fun H1 locs1 hP hD hS => ?_)
  rw [nI_clamp (by omega)] at hP hD
  exact kk H1 locs1 ⟨M.1, hP, hD, hS, M.2.2.2.2⟩
end RowsT
end
section
/-! registers as bit vectors: how the arrays 'bit' and 'fresh' hold them -/
def bOf (Rg : Nat → BitVec 32) : Nat → Int32 := fun j => bI ((Rg (j / 32)).getLsbD (j % 32))
def fOf (B : BitVec 32) : Nat → Int32 := fun j => bI (B.getLsbD j)
def upR (Rg : Nat → BitVec 32) (r : Nat) (x : BitVec 32) : Nat → BitVec 32 := fun k => if k = r then x else Rg k
theorem upR_s (Rg : Nat → BitVec 32) (r : Nat) (x : BitVec 32) : upR Rg r x r = x := by simp [upR]
theorem upR_n (Rg : Nat → BitVec 32) {r k : Nat} (x : BitVec 32) (h : k ≠ r) : upR Rg r x k = Rg k := by simp [upR, h]
theorem bOf_at (Rg : Nat → BitVec 32) (r : Nat) {i : Nat} (hi : i < 32) : bOf Rg (32 * r + i) = bI ((Rg r).getLsbD i) := by
  unfold bOf
  rw [show (32 * r + i) / 32 = r by omega, show (32 * r + i) % 32 = i by omega]
theorem ix32 (r i : Nat) : 32 * nI r + nI i = nI (32 * r + i) := by
  rw [show (32 : Int32) = nI 32 from rfl, pk_mul, nI_add]
/-- the register r with its first i bits out of f -/
def kf (r i : Nat) (f bt : Nat → Int32) : Nat → Int32 := fun j => if 32 * r ≤ j ∧ j < 32 * r + i then f (j - 32 * r) else bt j
theorem kf_0 (r : Nat) (f bt : Nat → Int32) : kf r 0 f bt = bt := by
  funext j
  unfold kf
  rw [if_neg (by omega)]
theorem kf_s (r i : Nat) (f bt : Nat → Int32) : upd (kf r i f bt) (32 * r + i) (f i) = kf r (i + 1) f bt := by
  funext j
  unfold upd kf
  by_cases h : j = 32 * r + i
  · subst h
    rw [if_pos rfl, if_pos (by omega), show 32 * r + i - 32 * r = i by omega]
  · rw [if_neg h]
    by_cases h2 : 32 * r ≤ j ∧ j < 32 * r + i
    · rw [if_pos h2, if_pos (by omega)]
    · rw [if_neg h2, if_neg (by omega)]
theorem kf_sb {r i : Nat} {B : BitVec 32} {bt : Nat → Int32} {x : Bool} (hx : x = B.getLsbD i) : upd (kf r i (fOf B) bt) (32 * r + i) (bI x) = kf r (i + 1) (fOf B) bt := by
  subst hx
  exact kf_s r i (fOf B) bt
theorem kf_32 (r : Nat) (B : BitVec 32) (Rg : Nat → BitVec 32) : kf r 32 (fOf B) (bOf Rg) = bOf (upR Rg r B) := by
  funext j
  unfold kf bOf fOf upR
  by_cases h : 32 * r ≤ j ∧ j < 32 * r + 32
  · rw [if_pos h, if_pos (by omega), show j - 32 * r = j % 32 by omega]
  · rw [if_neg h, if_neg (by omega)]
/-- the first i bits of the fresh row out of g -/
def fz (i : Nat) (g fr : Nat → Int32) : Nat → Int32 := fun j => if j < i then g j else fr j
theorem fz_0 (g fr : Nat → Int32) : fz 0 g fr = fr := by
  funext j
  unfold fz
  rw [if_neg (by omega)]
theorem fz_s {i : Nat} {B : BitVec 32} {fr : Nat → Int32} {x : Bool} (hx : x = B.getLsbD i) : upd (fz i (fOf B) fr) i (bI x) = fz (i + 1) (fOf B) fr := by
  subst hx
  funext j
  unfold upd fz
  by_cases h : j = i
  · subst h
    rw [if_pos rfl, if_pos (by omega)]
    rfl
  · rw [if_neg h]
    by_cases h2 : j < i
    · rw [if_pos h2, if_pos (by omega)]
    · rw [if_neg h2, if_neg (by omega)]
theorem fz_32 (B B0 : BitVec 32) : fz 32 (fOf B) (fOf B0) = fOf B := by
  funext j
  unfold fz fOf
  by_cases h : j < 32
  · rw [if_pos h]
  · rw [if_neg h, BitVec.getLsbD_of_ge _ _ (by omega), BitVec.getLsbD_of_ge _ _ (by omega)]
theorem bOf_set {Rg : Nat → BitVec 32} {r i : Nat} (hi : i < 32) : upd (bOf Rg) (32 * r + i) (bI true) = bOf (upR Rg r (Rg r ||| BitVec.twoPow 32 i)) := by
  funext j
  unfold upd bOf upR
  by_cases h : j = 32 * r + i
  · subst h
    rw [if_pos rfl, show (32 * r + i) / 32 = r by omega, show (32 * r + i) % 32 = i by omega, if_pos rfl, BitVec.getLsbD_or, BitVec.getLsbD_twoPow]
    simp [hi]
  · rw [if_neg h]
    by_cases h2 : j / 32 = r
    · rw [if_pos h2, BitVec.getLsbD_or, BitVec.getLsbD_twoPow, h2, decide_eq_false (show ¬ i = j % 32 by omega)]
      simp
    · rw [if_neg h2]
theorem bOf_0 : bOf (fun _ => 0) = fun _ => 0 := by
  funext j
  simp [bOf, bI]
theorem fOf_0 : fOf 0 = fun _ => 0 := by
  funext j
  simp [fOf, bI]
section Dia
variable {p : Program} {l : Launch} {e : Env} {R : Room} {s : State} {m : MethodId} {args : Array Value} {below : List Frame} {meth : Method} {c : Code} {H : Heap} {locs : List Loc} {cells slots : Nat} {Q : State → Prop}
variable {cc : ByteArray} {nL pc : Nat} {ls : Array Slot} {rest : List Value} {own : String}
theorem dz_ne {x y : Bool} (SF : CallFix p m c cc nL s args mt_tbl own) (d1 : decode cc pc = .ok (.if_icmp .eq 7, 3)) (d2 : decode cc (pc + 3) = .ok (.iconst 1, 1)) (d3 : decode cc (pc + 4) = .ok (.goto 4, 3)) (d4 : decode cc (pc + 7) = .ok (.iconst 0, 1))
    (k : W p l e R s m args below meth c H locs cells slots Q (F0 m (pc + 8) ls (.int (bI (x ^^ y)) :: rest))) : W p l e R s m args below meth c H locs cells slots Q (F0 m pc ls (.int (bI y) :: .int (bI x) :: rest)) := by
  have hx := SF.1
  have hb := SF.2.1
  refine lv_icmp_eq (tgt := pc + 7) hx hb d1 (by omega) (fun c9 => ?_) (fun c9 => ?_)
  · rw [bI_eq] at c9
    subst c9
    refine lv_iconst hx hb d4 (show Int32.ofInt 0 = 0 by decide) ?_
    rw [Bool.xor_self] at k
    exact k
  · rw [bI_eq] at c9
    refine lv_iconst hx hb d2 (show Int32.ofInt 1 = 1 by decide) ?_
    refine lv_goto (tgt := pc + 8) hx hb d3 (by omega) ?_
    have e : (x ^^ y) = true := by cases x <;> cases y <;> simp_all
    rw [e] at k
    exact k
theorem dz_if {x : Bool} (SF : CallFix p m c cc nL s args mt_tbl own) (d1 : decode cc pc = .ok (.ifCond .eq 7, 3)) (d2 : decode cc (pc + 3) = .ok (.iconst 1, 1)) (d3 : decode cc (pc + 4) = .ok (.goto 4, 3)) (d4 : decode cc (pc + 7) = .ok (.iconst 0, 1))
    (k : W p l e R s m args below meth c H locs cells slots Q (F0 m (pc + 8) ls (.int (bI x) :: rest))) : W p l e R s m args below meth c H locs cells slots Q (F0 m pc ls (.int (bI x) :: rest)) := by
  have hx := SF.1
  have hb := SF.2.1
  refine lv_if_eq (tgt := pc + 7) hx hb d1 (by omega) (fun c9 => ?_) (fun c9 => ?_)
  · rw [bI_0] at c9
    subst c9
    exact lv_iconst hx hb d4 (show Int32.ofInt 0 = 0 by decide) k
  · rw [bI_n0] at c9
    subst c9
    refine lv_iconst hx hb d2 (show Int32.ofInt 1 = 1 by decide) ?_
    exact lv_goto (tgt := pc + 8) hx hb d3 (by omega) k
end Dia
end
section
/-! numbers of the leaf methods -/
theorem sh_u : ∀ n, n < 32 → (((nI n).toUInt32 &&& Int32.toUInt32 31).toBitVec % 32).toNat = n := by decide +kernel
theorem lc_bit (v : Int32) {i : Nat} (hi : i < 32) : ((v.toUInt32 >>> ((nI i).toUInt32 &&& Int32.toUInt32 31)).toInt32 &&& 1) = bI (v.toBitVec.getLsbD i) := by
  rw [pk_and _ 1 (show (1 : Int32).toBitVec.toNat = 2 ^ 1 - 1 from rfl), pk_ushr v (nI i) i (sh_u i hi)]
  rw [BitVec.getLsbD, Nat.testBit_eq_decide_div_mod_eq]
  rcases Nat.mod_two_eq_zero_or_one (v.toBitVec.toNat / 2 ^ i) with h | h
  · rw [show (2 : Nat) ^ 1 = 2 from rfl, h]
    rfl
  · rw [show (2 : Nat) ^ 1 = 2 from rfl, h]
    rfl
theorem sub_int {i : Nat} {o : Int32} (hi : i < 1024) (h1 : -1024 ≤ o.toInt) (h2 : o.toInt ≤ 1024) : (nI i - o).toInt = (i : Int) - o.toInt := by
  rw [Int32.toInt_sub, nI_toInt (by omega)]
  exact Int.bmod_eq_of_le (by omega) (by omega)
/-- moving bits by o places -/
def shF (x : BitVec 32) (o : Int32) : BitVec 32 := if 0 ≤ o.toInt then x <<< o.toInt.toNat else x >>> (-o.toInt).toNat
theorem shF_bit (x : BitVec 32) (o : Int32) {i : Nat} (hi : i < 32) : (shF x o).getLsbD i = (decide (0 ≤ (i : Int) - o.toInt) && x.getLsbD ((i : Int) - o.toInt).toNat) := by
  unfold shF
  by_cases h : 0 ≤ o.toInt
  · rw [if_pos h, BitVec.getLsbD_shiftLeft]
    by_cases h2 : i < o.toInt.toNat
    · rw [decide_eq_true h2, decide_eq_false (show ¬ 0 ≤ (i : Int) - o.toInt by omega)]
      simp
    · rw [decide_eq_false h2, decide_eq_true (show 0 ≤ (i : Int) - o.toInt by omega), decide_eq_true hi]
      rw [show i - o.toInt.toNat = ((i : Int) - o.toInt).toNat by omega]
      simp
  · rw [if_neg h, BitVec.getLsbD_ushiftRight, decide_eq_true (show 0 ≤ (i : Int) - o.toInt by omega), show (-o.toInt).toNat + i = ((i : Int) - o.toInt).toNat by omega]
    simp
/-- the low half, its sign repeated -/
def wdF (x : BitVec 32) : BitVec 32 := (x.setWidth 16).signExtend 32
theorem wdF_bit (x : BitVec 32) {i : Nat} (hi : i < 32) : (wdF x).getLsbD i = x.getLsbD (if i < 16 then i else 15) := by
  unfold wdF
  rw [BitVec.getLsbD_signExtend, decide_eq_true hi, BitVec.msb_eq_getLsbD_last]
  by_cases h : i < 16
  · simp [h]
  · simp [h]
def lhF (x : BitVec 32) : BitVec 32 := (x.setWidth 16).setWidth 32
theorem lhF_bit (x : BitVec 32) {i : Nat} (hi : i < 32) : (lhF x).getLsbD i = (decide (i < 16) && x.getLsbD i) := by
  unfold lhF
  rw [BitVec.getLsbD_setWidth, BitVec.getLsbD_setWidth, decide_eq_true hi, Bool.true_and]
/-- sum, or difference, by a full adder -/
def ngF (inv : Bool) (y : BitVec 32) : BitVec 32 := if inv then ~~~y else y
def adF (x y : BitVec 32) (inv : Bool) : BitVec 32 := x + ngF inv y + (BitVec.ofBool inv).setWidth 32
def cyF (x y : BitVec 32) (inv : Bool) (i : Nat) : Bool := BitVec.carry i x (ngF inv y) inv
theorem ngF_bit (inv : Bool) (y : BitVec 32) {i : Nat} (hi : i < 32) : (y.getLsbD i ^^ inv) = (ngF inv y).getLsbD i := by
  cases inv
  · simp [ngF]
  · simp [ngF, hi]
theorem adF_bit (x y : BitVec 32) (inv : Bool) {i : Nat} (hi : i < 32) : ((x.getLsbD i ^^ (y.getLsbD i ^^ inv)) ^^ cyF x y inv i) = (adF x y inv).getLsbD i := by
  unfold adF cyF
  rw [BitVec.getLsbD_add_add_bool hi, ngF_bit inv y hi, Bool.xor_assoc]
theorem cyF_0 (x y : BitVec 32) (inv : Bool) : cyF x y inv 0 = inv := by
  unfold cyF
  cases inv <;> simp [BitVec.carry, Nat.mod_one]
theorem cyF_s (x y : BitVec 32) (inv : Bool) {i : Nat} (hi : i < 32) : cyF x y inv (i + 1) = ((x.getLsbD i && (y.getLsbD i ^^ inv)) || ((x.getLsbD i ^^ (y.getLsbD i ^^ inv)) && cyF x y inv i)) := by
  unfold cyF
  rw [BitVec.carry_succ, ngF_bit inv y hi]
  cases x.getLsbD i <;> cases (ngF inv y).getLsbD i <;> cases BitVec.carry i x (ngF inv y) inv <;> rfl
/-- the low half as a number, by its bits from above -/
theorem lo_s (x : BitVec 32) {n : Nat} (hn : n < 16) : 2 * nI (x.toNat % 65536 / 2 ^ (n + 1)) + bI (x.getLsbD n) = nI (x.toNat % 65536 / 2 ^ n) := by
  have e : bI (x.getLsbD n) = nI (x.toNat % 65536 / 2 ^ n % 2) := by
    have h2 : x.getLsbD n = decide (x.toNat % 65536 / 2 ^ n % 2 = 1) := by
      rw [BitVec.getLsbD, ← Nat.testBit_eq_decide_div_mod_eq, show (65536 : Nat) = 2 ^ 16 from rfl, Nat.testBit_mod_two_pow]
      simp [hn]
    rw [h2]
    rcases Nat.mod_two_eq_zero_or_one (x.toNat % 65536 / 2 ^ n) with h | h
    · rw [h]
      rfl
    · rw [h]
      rfl
  rw [e, show (2 : Int32) = nI 2 from rfl, pk_mul, nI_add, Nat.pow_succ, ← Nat.div_div_eq_div_mul]
  congr 1
  omega
theorem zr_all {x : BitVec 32} (h : ∀ i, i < 32 → x.getLsbD i = false) : x = 0 := by
  apply BitVec.eq_of_getLsbD_eq
  intro i hi
  rw [h i hi]
  simp
theorem zr_no {x : BitVec 32} {i : Nat} (h : x.getLsbD i = true) : ¬ x = 0 := by
  intro q
  subst q
  simp at h
end
section
theorem ki_m1 : Int32.ofInt (-1) = (-1) := by decide
theorem ki_0 : Int32.ofInt 0 = 0 := by decide
theorem ki_1 : Int32.ofInt 1 = 1 := by decide
theorem ki_2 : Int32.ofInt 2 = 2 := by decide
theorem ki_3 : Int32.ofInt 3 = 3 := by decide
theorem ki_4 : Int32.ofInt 4 = 4 := by decide
theorem ki_5 : Int32.ofInt 5 = 5 := by decide
theorem kb_m16 : (Int8.ofInt (-16)).toInt32 = (-16) := by decide
theorem kb_6 : (Int8.ofInt 6).toInt32 = 6 := by decide
theorem kb_7 : (Int8.ofInt 7).toInt32 = 7 := by decide
theorem kb_8 : (Int8.ofInt 8).toInt32 = 8 := by decide
theorem kb_9 : (Int8.ofInt 9).toInt32 = 9 := by decide
theorem kb_10 : (Int8.ofInt 10).toInt32 = 10 := by decide
theorem kb_11 : (Int8.ofInt 11).toInt32 = 11 := by decide
theorem kb_12 : (Int8.ofInt 12).toInt32 = 12 := by decide
theorem kb_13 : (Int8.ofInt 13).toInt32 = 13 := by decide
theorem kb_14 : (Int8.ofInt 14).toInt32 = 14 := by decide
theorem kb_15 : (Int8.ofInt 15).toInt32 = 15 := by decide
theorem kb_16 : (Int8.ofInt 16).toInt32 = 16 := by decide
theorem kb_17 : (Int8.ofInt 17).toInt32 = 17 := by decide
theorem kb_18 : (Int8.ofInt 18).toInt32 = 18 := by decide
theorem kb_31 : (Int8.ofInt 31).toInt32 = 31 := by decide
theorem kb_32 : (Int8.ofInt 32).toInt32 = 32 := by decide
theorem kb_60 : (Int8.ofInt 60).toInt32 = 60 := by decide
theorem ks_160 : (Int16.ofInt 160).toInt32 = 160 := by decide
theorem ks_256 : (Int16.ofInt 256).toInt32 = 256 := by decide
theorem ks_448 : (Int16.ofInt 448).toInt32 = 448 := by decide
theorem ks_32767 : (Int16.ofInt 32767).toInt32 = 32767 := by decide
theorem k_dec1 (x : Int32) : x + Int32.ofInt (-1) = x - 1 := by rw [show Int32.ofInt (-1) = -1 by decide, Int32.sub_eq_add_neg]
end
section
theorem hd_M_emit : y_M_emit.cls = R_M ∧ y_M_emit.cls ≠ "java/lang/invoke/MethodHandle" ∧ y_M_emit.cls ≠ "java/lang/invoke/VarHandle" ∧ (parseMethodDescriptor y_M_emit.desc).map (fun d => d.parameters.length) = some 4 := by decide +kernel
theorem hd_M_clear : y_M_clear.cls = R_M ∧ y_M_clear.cls ≠ "java/lang/invoke/MethodHandle" ∧ y_M_clear.cls ≠ "java/lang/invoke/VarHandle" ∧ (parseMethodDescriptor y_M_clear.desc).map (fun d => d.parameters.length) = some 0 := by decide +kernel
theorem hd_M_set : y_M_set.cls = R_M ∧ y_M_set.cls ≠ "java/lang/invoke/MethodHandle" ∧ y_M_set.cls ≠ "java/lang/invoke/VarHandle" ∧ (parseMethodDescriptor y_M_set.desc).map (fun d => d.parameters.length) = some 2 := by decide +kernel
theorem hd_M_loadConstant : y_M_loadConstant.cls = R_M ∧ y_M_loadConstant.cls ≠ "java/lang/invoke/MethodHandle" ∧ y_M_loadConstant.cls ≠ "java/lang/invoke/VarHandle" ∧ (parseMethodDescriptor y_M_loadConstant.desc).map (fun d => d.parameters.length) = some 2 := by decide +kernel
theorem hd_M_widen : y_M_widen.cls = R_M ∧ y_M_widen.cls ≠ "java/lang/invoke/MethodHandle" ∧ y_M_widen.cls ≠ "java/lang/invoke/VarHandle" ∧ (parseMethodDescriptor y_M_widen.desc).map (fun d => d.parameters.length) = some 2 := by decide +kernel
theorem hd_M_keepFresh : y_M_keepFresh.cls = R_M ∧ y_M_keepFresh.cls ≠ "java/lang/invoke/MethodHandle" ∧ y_M_keepFresh.cls ≠ "java/lang/invoke/VarHandle" ∧ (parseMethodDescriptor y_M_keepFresh.desc).map (fun d => d.parameters.length) = some 1 := by decide +kernel
theorem hd_M_get : y_M_get.cls = R_M ∧ y_M_get.cls ≠ "java/lang/invoke/MethodHandle" ∧ y_M_get.cls ≠ "java/lang/invoke/VarHandle" ∧ (parseMethodDescriptor y_M_get.desc).map (fun d => d.parameters.length) = some 1 := by decide +kernel
theorem hd_M_unsigned : y_M_unsigned.cls = R_M ∧ y_M_unsigned.cls ≠ "java/lang/invoke/MethodHandle" ∧ y_M_unsigned.cls ≠ "java/lang/invoke/VarHandle" ∧ (parseMethodDescriptor y_M_unsigned.desc).map (fun d => d.parameters.length) = some 1 := by decide +kernel
theorem hd_M_rewind : y_M_rewind.cls = R_M ∧ y_M_rewind.cls ≠ "java/lang/invoke/MethodHandle" ∧ y_M_rewind.cls ≠ "java/lang/invoke/VarHandle" ∧ (parseMethodDescriptor y_M_rewind.desc).map (fun d => d.parameters.length) = some 0 := by decide +kernel
theorem hd_M_run : y_M_run.cls = R_M ∧ y_M_run.cls ≠ "java/lang/invoke/MethodHandle" ∧ y_M_run.cls ≠ "java/lang/invoke/VarHandle" ∧ (parseMethodDescriptor y_M_run.desc).map (fun d => d.parameters.length) = some 1 := by decide +kernel
theorem hd_M_carryOut : y_M_carryOut.cls = R_M ∧ y_M_carryOut.cls ≠ "java/lang/invoke/MethodHandle" ∧ y_M_carryOut.cls ≠ "java/lang/invoke/VarHandle" ∧ (parseMethodDescriptor y_M_carryOut.desc).map (fun d => d.parameters.length) = some 1 := by decide +kernel
theorem hd_M_isZero : y_M_isZero.cls = R_M ∧ y_M_isZero.cls ≠ "java/lang/invoke/MethodHandle" ∧ y_M_isZero.cls ≠ "java/lang/invoke/VarHandle" ∧ (parseMethodDescriptor y_M_isZero.desc).map (fun d => d.parameters.length) = some 1 := by decide +kernel
theorem hd_M_translate : y_M_translate.cls = R_M ∧ y_M_translate.cls ≠ "java/lang/invoke/MethodHandle" ∧ y_M_translate.cls ≠ "java/lang/invoke/VarHandle" ∧ (parseMethodDescriptor y_M_translate.desc).map (fun d => d.parameters.length) = some 1 := by decide +kernel
theorem hd_M_step : y_M_step.cls = R_M ∧ y_M_step.cls ≠ "java/lang/invoke/MethodHandle" ∧ y_M_step.cls ≠ "java/lang/invoke/VarHandle" ∧ (parseMethodDescriptor y_M_step.desc).map (fun d => d.parameters.length) = some 5 := by decide +kernel
theorem hd_M_product : y_M_product.cls = R_M ∧ y_M_product.cls ≠ "java/lang/invoke/MethodHandle" ∧ y_M_product.cls ≠ "java/lang/invoke/VarHandle" ∧ (parseMethodDescriptor y_M_product.desc).map (fun d => d.parameters.length) = some 2 := by decide +kernel
theorem hd_M_quotient : y_M_quotient.cls = R_M ∧ y_M_quotient.cls ≠ "java/lang/invoke/MethodHandle" ∧ y_M_quotient.cls ≠ "java/lang/invoke/VarHandle" ∧ (parseMethodDescriptor y_M_quotient.desc).map (fun d => d.parameters.length) = some 2 := by decide +kernel
theorem hd_M_amount : y_M_amount.cls = R_M ∧ y_M_amount.cls ≠ "java/lang/invoke/MethodHandle" ∧ y_M_amount.cls ≠ "java/lang/invoke/VarHandle" ∧ (parseMethodDescriptor y_M_amount.desc).map (fun d => d.parameters.length) = some 2 := by decide +kernel
theorem hd_M_finishQuotient : y_M_finishQuotient.cls = R_M ∧ y_M_finishQuotient.cls ≠ "java/lang/invoke/MethodHandle" ∧ y_M_finishQuotient.cls ≠ "java/lang/invoke/VarHandle" ∧ (parseMethodDescriptor y_M_finishQuotient.desc).map (fun d => d.parameters.length) = some 4 := by decide +kernel
theorem hd_M_comparison : y_M_comparison.cls = R_M ∧ y_M_comparison.cls ≠ "java/lang/invoke/MethodHandle" ∧ y_M_comparison.cls ≠ "java/lang/invoke/VarHandle" ∧ (parseMethodDescriptor y_M_comparison.desc).map (fun d => d.parameters.length) = some 4 := by decide +kernel
theorem hd_M_root : y_M_root.cls = R_M ∧ y_M_root.cls ≠ "java/lang/invoke/MethodHandle" ∧ y_M_root.cls ≠ "java/lang/invoke/VarHandle" ∧ (parseMethodDescriptor y_M_root.desc).map (fun d => d.parameters.length) = some 1 := by decide +kernel
theorem hd_M_countOnes : y_M_countOnes.cls = R_M ∧ y_M_countOnes.cls ≠ "java/lang/invoke/MethodHandle" ∧ y_M_countOnes.cls ≠ "java/lang/invoke/VarHandle" ∧ (parseMethodDescriptor y_M_countOnes.desc).map (fun d => d.parameters.length) = some 1 := by decide +kernel
theorem hd_M_performAll : y_M_performAll.cls = R_M ∧ y_M_performAll.cls ≠ "java/lang/invoke/MethodHandle" ∧ y_M_performAll.cls ≠ "java/lang/invoke/VarHandle" ∧ (parseMethodDescriptor y_M_performAll.desc).map (fun d => d.parameters.length) = some 0 := by decide +kernel
theorem hd_M_perform : y_M_perform.cls = R_M ∧ y_M_perform.cls ≠ "java/lang/invoke/MethodHandle" ∧ y_M_perform.cls ≠ "java/lang/invoke/VarHandle" ∧ (parseMethodDescriptor y_M_perform.desc).map (fun d => d.parameters.length) = some 1 := by decide +kernel
theorem hd_M_shift : y_M_shift.cls = R_M ∧ y_M_shift.cls ≠ "java/lang/invoke/MethodHandle" ∧ y_M_shift.cls ≠ "java/lang/invoke/VarHandle" ∧ (parseMethodDescriptor y_M_shift.desc).map (fun d => d.parameters.length) = some 3 := by decide +kernel
theorem hd_M_lowHalf : y_M_lowHalf.cls = R_M ∧ y_M_lowHalf.cls ≠ "java/lang/invoke/MethodHandle" ∧ y_M_lowHalf.cls ≠ "java/lang/invoke/VarHandle" ∧ (parseMethodDescriptor y_M_lowHalf.desc).map (fun d => d.parameters.length) = some 2 := by decide +kernel
theorem hd_M_addSerially : y_M_addSerially.cls = R_M ∧ y_M_addSerially.cls ≠ "java/lang/invoke/MethodHandle" ∧ y_M_addSerially.cls ≠ "java/lang/invoke/VarHandle" ∧ (parseMethodDescriptor y_M_addSerially.desc).map (fun d => d.parameters.length) = some 4 := by decide +kernel
theorem hd_M_combine : y_M_combine.cls = R_M ∧ y_M_combine.cls ≠ "java/lang/invoke/MethodHandle" ∧ y_M_combine.cls ≠ "java/lang/invoke/VarHandle" ∧ (parseMethodDescriptor y_M_combine.desc).map (fun d => d.parameters.length) = some 4 := by decide +kernel
theorem hd_M_next : y_M_next.cls = R_M ∧ y_M_next.cls ≠ "java/lang/invoke/MethodHandle" ∧ y_M_next.cls ≠ "java/lang/invoke/VarHandle" ∧ (parseMethodDescriptor y_M_next.desc).map (fun d => d.parameters.length) = some 0 := by decide +kernel
theorem hd_M_total : y_M_total.cls = R_M ∧ y_M_total.cls ≠ "java/lang/invoke/MethodHandle" ∧ y_M_total.cls ≠ "java/lang/invoke/VarHandle" ∧ (parseMethodDescriptor y_M_total.desc).map (fun d => d.parameters.length) = some 0 := by decide +kernel
theorem hd_T_emit : y_T_emit.cls = R_T ∧ y_T_emit.cls ≠ "java/lang/invoke/MethodHandle" ∧ y_T_emit.cls ≠ "java/lang/invoke/VarHandle" ∧ (parseMethodDescriptor y_T_emit.desc).map (fun d => d.parameters.length) = some 4 := by decide +kernel
theorem hd_T_clear : y_T_clear.cls = R_T ∧ y_T_clear.cls ≠ "java/lang/invoke/MethodHandle" ∧ y_T_clear.cls ≠ "java/lang/invoke/VarHandle" ∧ (parseMethodDescriptor y_T_clear.desc).map (fun d => d.parameters.length) = some 0 := by decide +kernel
theorem hd_T_set : y_T_set.cls = R_T ∧ y_T_set.cls ≠ "java/lang/invoke/MethodHandle" ∧ y_T_set.cls ≠ "java/lang/invoke/VarHandle" ∧ (parseMethodDescriptor y_T_set.desc).map (fun d => d.parameters.length) = some 2 := by decide +kernel
theorem hd_T_wrapped : y_T_wrapped.cls = R_T ∧ y_T_wrapped.cls ≠ "java/lang/invoke/MethodHandle" ∧ y_T_wrapped.cls ≠ "java/lang/invoke/VarHandle" ∧ (parseMethodDescriptor y_T_wrapped.desc).map (fun d => d.parameters.length) = some 1 := by decide +kernel
theorem hd_T_get : y_T_get.cls = R_T ∧ y_T_get.cls ≠ "java/lang/invoke/MethodHandle" ∧ y_T_get.cls ≠ "java/lang/invoke/VarHandle" ∧ (parseMethodDescriptor y_T_get.desc).map (fun d => d.parameters.length) = some 1 := by decide +kernel
theorem hd_T_rewind : y_T_rewind.cls = R_T ∧ y_T_rewind.cls ≠ "java/lang/invoke/MethodHandle" ∧ y_T_rewind.cls ≠ "java/lang/invoke/VarHandle" ∧ (parseMethodDescriptor y_T_rewind.desc).map (fun d => d.parameters.length) = some 0 := by decide +kernel
theorem hd_T_run : y_T_run.cls = R_T ∧ y_T_run.cls ≠ "java/lang/invoke/MethodHandle" ∧ y_T_run.cls ≠ "java/lang/invoke/VarHandle" ∧ (parseMethodDescriptor y_T_run.desc).map (fun d => d.parameters.length) = some 1 := by decide +kernel
theorem hd_T_carryOut : y_T_carryOut.cls = R_T ∧ y_T_carryOut.cls ≠ "java/lang/invoke/MethodHandle" ∧ y_T_carryOut.cls ≠ "java/lang/invoke/VarHandle" ∧ (parseMethodDescriptor y_T_carryOut.desc).map (fun d => d.parameters.length) = some 1 := by decide +kernel
theorem hd_T_result : y_T_result.cls = R_T ∧ y_T_result.cls ≠ "java/lang/invoke/MethodHandle" ∧ y_T_result.cls ≠ "java/lang/invoke/VarHandle" ∧ (parseMethodDescriptor y_T_result.desc).map (fun d => d.parameters.length) = some 1 := by decide +kernel
theorem hd_T_power : y_T_power.cls = R_T ∧ y_T_power.cls ≠ "java/lang/invoke/MethodHandle" ∧ y_T_power.cls ≠ "java/lang/invoke/VarHandle" ∧ (parseMethodDescriptor y_T_power.desc).map (fun d => d.parameters.length) = some 1 := by decide +kernel
theorem hd_T_plain : y_T_plain.cls = R_T ∧ y_T_plain.cls ≠ "java/lang/invoke/MethodHandle" ∧ y_T_plain.cls ≠ "java/lang/invoke/VarHandle" ∧ (parseMethodDescriptor y_T_plain.desc).map (fun d => d.parameters.length) = some 1 := by decide +kernel
theorem hd_T_down : y_T_down.cls = R_T ∧ y_T_down.cls ≠ "java/lang/invoke/MethodHandle" ∧ y_T_down.cls ≠ "java/lang/invoke/VarHandle" ∧ (parseMethodDescriptor y_T_down.desc).map (fun d => d.parameters.length) = some 2 := by decide +kernel
theorem hd_T_root : y_T_root.cls = R_T ∧ y_T_root.cls ≠ "java/lang/invoke/MethodHandle" ∧ y_T_root.cls ≠ "java/lang/invoke/VarHandle" ∧ (parseMethodDescriptor y_T_root.desc).map (fun d => d.parameters.length) = some 1 := by decide +kernel
theorem hd_T_ones : y_T_ones.cls = R_T ∧ y_T_ones.cls ≠ "java/lang/invoke/MethodHandle" ∧ y_T_ones.cls ≠ "java/lang/invoke/VarHandle" ∧ (parseMethodDescriptor y_T_ones.desc).map (fun d => d.parameters.length) = some 1 := by decide +kernel
theorem hd_T_two : y_T_two.cls = R_T ∧ y_T_two.cls ≠ "java/lang/invoke/MethodHandle" ∧ y_T_two.cls ≠ "java/lang/invoke/VarHandle" ∧ (parseMethodDescriptor y_T_two.desc).map (fun d => d.parameters.length) = some 3 := by decide +kernel
theorem hd_T_quotient : y_T_quotient.cls = R_T ∧ y_T_quotient.cls ≠ "java/lang/invoke/MethodHandle" ∧ y_T_quotient.cls ≠ "java/lang/invoke/VarHandle" ∧ (parseMethodDescriptor y_T_quotient.desc).map (fun d => d.parameters.length) = some 2 := by decide +kernel
theorem hd_T_next : y_T_next.cls = R_T ∧ y_T_next.cls ≠ "java/lang/invoke/MethodHandle" ∧ y_T_next.cls ≠ "java/lang/invoke/VarHandle" ∧ (parseMethodDescriptor y_T_next.desc).map (fun d => d.parameters.length) = some 0 := by decide +kernel
theorem hd_T_total : y_T_total.cls = R_T ∧ y_T_total.cls ≠ "java/lang/invoke/MethodHandle" ∧ y_T_total.cls ≠ "java/lang/invoke/VarHandle" ∧ (parseMethodDescriptor y_T_total.desc).map (fun d => d.parameters.length) = some 0 := by decide +kernel
end
section
section LeafLoops
variable {p : Program} {l : Launch} {e : Env} {R : Room} {s : State} {m : MethodId} {args : Array Value} {below : List Frame} {meth : Method} {c : Code} {cells slots : Nat} {Q : State → Prop}
variable {D : va_G} {A : Nat → Prop} {h : Nat → Nat} {cs : Nat → ClassId}
variable {ln nx la st : Int32} {O Dd Aa Bb bt fr k0 k1 k2 k3 k4 : Nat → Int32}
set_option maxHeartbeats 4000000 in
set_option maxRecDepth 100000 in
theorem lp_keepFresh (SF : CallFix p m c b_M_keepFresh 3 s args mt_tbl R_M) {r : Nat} {B : BitVec 32} {Rg : Nat → BitVec 32} (hr14 : r < 14)
    (kx : ∀ (H : Heap) (locs : List Loc) (ls : Array Slot), WW D (tysM cs) A s (mW h cs ln nx la st O Dd Aa Bb (kf r 32 (fOf B) (bOf Rg)) (fOf B) k0 k1 k2 k3 k4) H locs → lv_has ls 3 [(0, .ref (h 0)), (1, .int (nI r)), (2, .int (nI 32))] → W p l e R s m args below meth c H locs cells slots Q (F0 m 31 ls [])) :
    ∀ (n i : Nat), i + n = 32 → ∀ (H : Heap) (locs : List Loc) (ls : Array Slot), WW D (tysM cs) A s (mW h cs ln nx la st O Dd Aa Bb (kf r i (fOf B) (bOf Rg)) (fOf B) k0 k1 k2 k3 k4) H locs → lv_has ls 3 [(0, .ref (h 0)), (1, .int (nI r)), (2, .int (nI i))] → W p l e R s m args below meth c H locs cells slots Q (F0 m 2 ls []) := by
  have hx := SF.1
  have hb := SF.2.1
  intro n
  induction n with
  | zero =>
    intro i hi H locs ls M hl
    obtain rfl : i = 32 := by omega
    refine lv_iload_n hx hb d_M_keepFresh_2 rfl (lv_at hl 2 rfl) ?_
    refine lv_bipush hx hb d_M_keepFresh_3 kb_32 ?_
    refine lv_icmp_ge (tgt := 31) hx hb d_M_keepFresh_5 (by decide) (fun _ => ?_) (fun c9 => absurd (nI_le (Nat.le_refl 32) (by decide) : nI 32 ≤ nI 32) c9)
    exact kx H locs ls M hl
  | succ n ih =>
    intro i hi H locs ls M hl
    have hi32 : i < 32 := by omega
    refine lv_iload_n hx hb d_M_keepFresh_2 rfl (lv_at hl 2 rfl) ?_
    refine lv_bipush hx hb d_M_keepFresh_3 kb_32 ?_
    refine lv_icmp_ge (tgt := 31) hx hb d_M_keepFresh_5 (by decide) (fun c9 => absurd c9 (nI_ge hi32 (by decide) : ¬ nI 32 ≤ nI i)) (fun _ => ?_)
    refine lv_aload_n hx hb d_M_keepFresh_8 rfl (lv_at hl 0 rfl) ?_
    refine gM_bit SF M d_M_keepFresh_9 ?_
    refine lv_bipush hx hb d_M_keepFresh_12 kb_32 ?_
    refine lv_iload_n hx hb d_M_keepFresh_14 rfl (lv_at hl 1 rfl) ?_
    refine lv_imul hx hb d_M_keepFresh_15 ?_
    refine lv_iload_n hx hb d_M_keepFresh_16 rfl (lv_at hl 2 rfl) ?_
    refine lv_iadd hx hb d_M_keepFresh_17 ?_
    refine lv_aload_n hx hb d_M_keepFresh_18 rfl (lv_at hl 0 rfl) ?_
    refine gM_fresh SF M d_M_keepFresh_19 ?_
    refine lv_iload_n hx hb d_M_keepFresh_22 rfl (lv_at hl 2 rfl) ?_
    refine aM_fresh SF M i rfl hi32 d_M_keepFresh_23 ?_
    show W _ _ _ _ _ _ _ _ _ _ _ _ _ _ _ (F0 m _ ls (.int (bI (B.getLsbD i)) :: _))
    refine sM_bit SF M (32 * r + i) (ix32 r i) (by omega) d_M_keepFresh_24 (fun H locs M => ?_)
    rw [kf_sb rfl] at M
    refine lv_iinc (v := nI (i + 1)) (lv' := [(2, .int (nI (i + 1))), (0, .ref (h 0)), (1, .int (nI r))]) hx hb d_M_keepFresh_25 hl (k := 2) rfl (nI_1 _) (by decide) rfl (fun ls hl => ?_)
    refine lv_goto (tgt := 2) hx hb d_M_keepFresh_28 (by decide) ?_
    exact ih (i + 1) (by omega) H locs ls M (lv_sub hl [1, 2, 0] rfl)
set_option maxHeartbeats 4000000 in
set_option maxRecDepth 100000 in
theorem lp_widen (SF : CallFix p m c b_M_widen 4 s args mt_tbl R_M) {q : Nat} {x1 : Int32} {B0 B : BitVec 32} {Rg : Nat → BitVec 32} (hq : q < 14) (hB : ∀ i, i < 32 → (Rg q).getLsbD (if i < 16 then i else 15) = B.getLsbD i)
    (kx : ∀ (H : Heap) (locs : List Loc) (ls : Array Slot), WW D (tysM cs) A s (mW h cs ln nx la st O Dd Aa Bb (bOf Rg) (fz 32 (fOf B) (fOf B0)) k0 k1 k2 k3 k4) H locs → lv_has ls 4 [(0, .ref (h 0)), (1, .int x1), (2, .int (nI q)), (3, .int (nI 32))] → W p l e R s m args below meth c H locs cells slots Q (F0 m 42 ls [])) :
    ∀ (n i : Nat), i + n = 32 → ∀ (H : Heap) (locs : List Loc) (ls : Array Slot), WW D (tysM cs) A s (mW h cs ln nx la st O Dd Aa Bb (bOf Rg) (fz i (fOf B) (fOf B0)) k0 k1 k2 k3 k4) H locs → lv_has ls 4 [(0, .ref (h 0)), (1, .int x1), (2, .int (nI q)), (3, .int (nI i))] → W p l e R s m args below meth c H locs cells slots Q (F0 m 2 ls []) := by
  have hx := SF.1
  have hb := SF.2.1
  intro n
  induction n with
  | zero =>
    intro i hi H locs ls M hl
    obtain rfl : i = 32 := by omega
    refine lv_iload_n hx hb d_M_widen_2 rfl (lv_at hl 3 rfl) ?_
    refine lv_bipush hx hb d_M_widen_3 kb_32 ?_
    refine lv_icmp_ge (tgt := 42) hx hb d_M_widen_5 (by decide) (fun _ => ?_) (fun c9 => absurd (nI_le (Nat.le_refl 32) (by decide) : nI 32 ≤ nI 32) c9)
    exact kx H locs ls M hl
  | succ n ih =>
    intro i hi H locs ls M hl
    have hi32 : i < 32 := by omega
    refine lv_iload_n hx hb d_M_widen_2 rfl (lv_at hl 3 rfl) ?_
    refine lv_bipush hx hb d_M_widen_3 kb_32 ?_
    refine lv_icmp_ge (tgt := 42) hx hb d_M_widen_5 (by decide) (fun c9 => absurd c9 (nI_ge hi32 (by decide) : ¬ nI 32 ≤ nI i)) (fun _ => ?_)
    refine lv_aload_n hx hb d_M_widen_8 rfl (lv_at hl 0 rfl) ?_
    refine gM_fresh SF M d_M_widen_9 ?_
    refine lv_iload_n hx hb d_M_widen_12 rfl (lv_at hl 3 rfl) ?_
    refine lv_aload_n hx hb d_M_widen_13 rfl (lv_at hl 0 rfl) ?_
    refine gM_bit SF M d_M_widen_14 ?_
    refine lv_bipush hx hb d_M_widen_17 kb_32 ?_
    refine lv_iload_n hx hb d_M_widen_19 rfl (lv_at hl 2 rfl) ?_
    refine lv_imul hx hb d_M_widen_20 ?_
    have hj : ∀ z : Int32, z = nI (if i < 16 then i else 15) → W p l e R s m args below meth c H locs cells slots Q (F0 m 33 ls [.int z, .int (32 * nI q), .ref (h 5), .int (nI i), .ref (h 6)]) := by
      intro z ez
      refine lv_iadd hx hb d_M_widen_33 ?_
      refine aM_bit SF M (32 * q + (if i < 16 then i else 15)) (by rw [ez]; exact ix32 q _) (by split <;> omega) d_M_widen_34 ?_
      rw [bOf_at Rg q (by split <;> omega)]
      refine sM_fresh SF M i rfl hi32 d_M_widen_35 (fun H locs M => ?_)
      rw [fz_s (hB i hi32)] at M
      refine lv_iinc (v := nI (i + 1)) (lv' := [(3, .int (nI (i + 1))), (0, .ref (h 0)), (1, .int x1), (2, .int (nI q))]) hx hb d_M_widen_36 hl (k := 3) rfl (nI_1 _) (by decide) rfl (fun ls hl => ?_)
      refine lv_goto (tgt := 2) hx hb d_M_widen_39 (by decide) ?_
      exact ih (i + 1) (by omega) H locs ls M (lv_sub hl [1, 2, 3, 0] rfl)
    refine lv_iload_n hx hb d_M_widen_21 rfl (lv_at hl 3 rfl) ?_
    refine lv_bipush hx hb d_M_widen_22 kb_16 ?_
    refine lv_icmp_ge (tgt := 31) hx hb d_M_widen_24 (by decide) (fun c24 => ?_) (fun c24 => ?_)
    · have q16 : ¬ i < 16 := fun q9 => absurd c24 (nI_ge q9 (by decide))
      refine lv_bipush hx hb d_M_widen_31 kb_15 ?_
      exact hj _ (by rw [if_neg q16]; rfl)
    · have q16 : i < 16 := Nat.lt_of_not_le (fun q9 => c24 (nI_le q9 (by omega)))
      refine lv_iload_n hx hb d_M_widen_27 rfl (lv_at hl 3 rfl) ?_
      refine lv_goto (tgt := 33) hx hb d_M_widen_28 (by decide) ?_
      exact hj _ (by rw [if_pos q16])
set_option maxHeartbeats 4000000 in
set_option maxRecDepth 100000 in
theorem lp_lowHalf (SF : CallFix p m c b_M_lowHalf 4 s args mt_tbl R_M) {q : Nat} {x1 : Int32} {B0 B : BitVec 32} {Rg : Nat → BitVec 32} (hq : q < 14) (hB : ∀ i, i < 32 → (decide (i < 16) && (Rg q).getLsbD i) = B.getLsbD i)
    (kx : ∀ (H : Heap) (locs : List Loc) (ls : Array Slot), WW D (tysM cs) A s (mW h cs ln nx la st O Dd Aa Bb (bOf Rg) (fz 32 (fOf B) (fOf B0)) k0 k1 k2 k3 k4) H locs → lv_has ls 4 [(0, .ref (h 0)), (1, .int x1), (2, .int (nI q)), (3, .int (nI 32))] → W p l e R s m args below meth c H locs cells slots Q (F0 m 45 ls [])) :
    ∀ (n i : Nat), i + n = 32 → ∀ (H : Heap) (locs : List Loc) (ls : Array Slot), WW D (tysM cs) A s (mW h cs ln nx la st O Dd Aa Bb (bOf Rg) (fz i (fOf B) (fOf B0)) k0 k1 k2 k3 k4) H locs → lv_has ls 4 [(0, .ref (h 0)), (1, .int x1), (2, .int (nI q)), (3, .int (nI i))] → W p l e R s m args below meth c H locs cells slots Q (F0 m 2 ls []) := by
  have hx := SF.1
  have hb := SF.2.1
  intro n
  induction n with
  | zero =>
    intro i hi H locs ls M hl
    obtain rfl : i = 32 := by omega
    refine lv_iload_n hx hb d_M_lowHalf_2 rfl (lv_at hl 3 rfl) ?_
    refine lv_bipush hx hb d_M_lowHalf_3 kb_32 ?_
    refine lv_icmp_ge (tgt := 45) hx hb d_M_lowHalf_5 (by decide) (fun _ => ?_) (fun c9 => absurd (nI_le (Nat.le_refl 32) (by decide) : nI 32 ≤ nI 32) c9)
    exact kx H locs ls M hl
  | succ n ih =>
    intro i hi H locs ls M hl
    have hi32 : i < 32 := by omega
    refine lv_iload_n hx hb d_M_lowHalf_2 rfl (lv_at hl 3 rfl) ?_
    refine lv_bipush hx hb d_M_lowHalf_3 kb_32 ?_
    refine lv_icmp_ge (tgt := 45) hx hb d_M_lowHalf_5 (by decide) (fun c9 => absurd c9 (nI_ge hi32 (by decide) : ¬ nI 32 ≤ nI i)) (fun _ => ?_)
    refine lv_aload_n hx hb d_M_lowHalf_8 rfl (lv_at hl 0 rfl) ?_
    refine gM_fresh SF M d_M_lowHalf_9 ?_
    refine lv_iload_n hx hb d_M_lowHalf_12 rfl (lv_at hl 3 rfl) ?_
    have hj : ∀ z : Bool, z = B.getLsbD i → W p l e R s m args below meth c H locs cells slots Q (F0 m 38 ls [.int (bI z), .int (nI i), .ref (h 6)]) := by
      intro z ez
      refine sM_fresh SF M i rfl hi32 d_M_lowHalf_38 (fun H locs M => ?_)
      rw [fz_s ez] at M
      refine lv_iinc (v := nI (i + 1)) (lv' := [(3, .int (nI (i + 1))), (0, .ref (h 0)), (1, .int x1), (2, .int (nI q))]) hx hb d_M_lowHalf_39 hl (k := 3) rfl (nI_1 _) (by decide) rfl (fun ls hl => ?_)
      refine lv_goto (tgt := 2) hx hb d_M_lowHalf_42 (by decide) ?_
      exact ih (i + 1) (by omega) H locs ls M (lv_sub hl [1, 2, 3, 0] rfl)
    refine lv_iload_n hx hb d_M_lowHalf_13 rfl (lv_at hl 3 rfl) ?_
    refine lv_bipush hx hb d_M_lowHalf_14 kb_16 ?_
    refine lv_icmp_ge (tgt := 37) hx hb d_M_lowHalf_16 (by decide) (fun c16 => ?_) (fun c16 => ?_)
    · have q16 : ¬ i < 16 := fun q9 => absurd c16 (nI_ge q9 (by decide))
      refine lv_iconst hx hb d_M_lowHalf_37 ki_0 ?_
      exact hj false (by rw [← hB i hi32, decide_eq_false q16]; rfl)
    · have q16 : i < 16 := Nat.lt_of_not_le (fun q9 => c16 (nI_le q9 (by omega)))
      refine lv_aload_n hx hb d_M_lowHalf_19 rfl (lv_at hl 0 rfl) ?_
      refine gM_bit SF M d_M_lowHalf_20 ?_
      refine lv_bipush hx hb d_M_lowHalf_23 kb_32 ?_
      refine lv_iload_n hx hb d_M_lowHalf_25 rfl (lv_at hl 2 rfl) ?_
      refine lv_imul hx hb d_M_lowHalf_26 ?_
      refine lv_iload_n hx hb d_M_lowHalf_27 rfl (lv_at hl 3 rfl) ?_
      refine lv_iadd hx hb d_M_lowHalf_28 ?_
      refine aM_bit SF M (32 * q + i) (ix32 q i) (by omega) d_M_lowHalf_29 ?_
      rw [bOf_at Rg q hi32]
      refine dz_if SF d_M_lowHalf_30 d_M_lowHalf_33 d_M_lowHalf_34 d_M_lowHalf_37 ?_
      exact hj _ (by rw [← hB i hi32, decide_eq_true q16]; rfl)
set_option maxHeartbeats 4000000 in
set_option maxRecDepth 100000 in
theorem lp_shift (SF : CallFix p m c b_M_shift 6 s args mt_tbl R_M) {q : Nat} {x1 o : Int32} {B0 B : BitVec 32} {Rg : Nat → BitVec 32} (hq : q < 14) (ho1 : -64 ≤ o.toInt) (ho2 : o.toInt ≤ 64) (hB : ∀ i : Nat, i < 32 → (decide (0 ≤ (i : Int) - o.toInt) && (Rg q).getLsbD ((i : Int) - o.toInt).toNat) = B.getLsbD i)
    (kx : ∀ (H : Heap) (locs : List Loc) (ls : Array Slot), WW D (tysM cs) A s (mW h cs ln nx la st O Dd Aa Bb (bOf Rg) (fz 32 (fOf B) (fOf B0)) k0 k1 k2 k3 k4) H locs → lv_has ls 6 [(0, .ref (h 0)), (1, .int x1), (2, .int (nI q)), (3, .int o), (4, .int (nI 32))] → W p l e R s m args below meth c H locs cells slots Q (F0 m 61 ls [])) :
    ∀ (n i : Nat), i + n = 32 → ∀ (H : Heap) (locs : List Loc) (ls : Array Slot), WW D (tysM cs) A s (mW h cs ln nx la st O Dd Aa Bb (bOf Rg) (fz i (fOf B) (fOf B0)) k0 k1 k2 k3 k4) H locs → lv_has ls 6 [(0, .ref (h 0)), (1, .int x1), (2, .int (nI q)), (3, .int o), (4, .int (nI i))] → W p l e R s m args below meth c H locs cells slots Q (F0 m 3 ls []) := by
  have hx := SF.1
  have hb := SF.2.1
  intro n
  induction n with
  | zero =>
    intro i hi H locs ls M hl
    obtain rfl : i = 32 := by omega
    refine lv_iload hx hb d_M_shift_3 (lv_at hl 4 rfl) ?_
    refine lv_bipush hx hb d_M_shift_5 kb_32 ?_
    refine lv_icmp_ge (tgt := 61) hx hb d_M_shift_7 (by decide) (fun _ => ?_) (fun c9 => absurd (nI_le (Nat.le_refl 32) (by decide) : nI 32 ≤ nI 32) c9)
    exact kx H locs ls M hl
  | succ n ih =>
    intro i hi H locs ls M hl
    have hi32 : i < 32 := by omega
    refine lv_iload hx hb d_M_shift_3 (lv_at hl 4 rfl) ?_
    refine lv_bipush hx hb d_M_shift_5 kb_32 ?_
    refine lv_icmp_ge (tgt := 61) hx hb d_M_shift_7 (by decide) (fun c9 => absurd c9 (nI_ge hi32 (by decide) : ¬ nI 32 ≤ nI i)) (fun _ => ?_)
    refine lv_iload hx hb d_M_shift_10 (lv_at hl 4 rfl) ?_
    refine lv_iload_n hx hb d_M_shift_12 rfl (lv_at hl 3 rfl) ?_
    refine lv_isub hx hb d_M_shift_13 ?_
    refine lv_topi (fun j ej => ?_)
    refine lv_istore (lv' := [(5, .int j), (0, .ref (h 0)), (1, .int x1), (2, .int (nI q)), (3, .int o), (4, .int (nI i))]) hx hb d_M_shift_14 hl (by decide) rfl (fun ls hl => ?_)
    have hji : j.toInt = (i : Int) - o.toInt := by rw [ej]; exact sub_int (by omega) (by omega) (by omega)
    refine lv_aload_n hx hb d_M_shift_16 rfl (lv_at hl 1 rfl) ?_
    refine gM_fresh SF M d_M_shift_17 ?_
    refine lv_iload hx hb d_M_shift_20 (lv_at hl 5 rfl) ?_
    have hj : ∀ z : Bool, z = B.getLsbD i → W p l e R s m args below meth c H locs cells slots Q (F0 m 54 ls [.int (bI z), .int (nI i), .ref (h 6)]) := by
      intro z ez
      refine sM_fresh SF M i rfl hi32 d_M_shift_54 (fun H locs M => ?_)
      rw [fz_s ez] at M
      refine lv_iinc (v := nI (i + 1)) (lv' := [(4, .int (nI (i + 1))), (5, .int j), (0, .ref (h 0)), (1, .int x1), (2, .int (nI q)), (3, .int o)]) hx hb d_M_shift_55 hl (k := 5) rfl (nI_1 _) (by decide) rfl (fun ls hl => ?_)
      refine lv_goto (tgt := 3) hx hb d_M_shift_58 (by decide) ?_
      exact ih (i + 1) (by omega) H locs ls M (lv_sub hl [2, 3, 4, 5, 0] rfl)
    refine lv_iload hx hb d_M_shift_22 (lv_at hl 0 rfl) ?_
    refine lv_if_lt (tgt := 53) hx hb d_M_shift_24 (by decide) (fun c24 => ?_) (fun c24 => ?_)
    · have q0 : ¬ 0 ≤ (i : Int) - o.toInt := by rw [← hji]; exact Int.not_le.mpr (Int32.lt_iff_toInt_lt.mp c24)
      refine lv_iconst hx hb d_M_shift_53 ki_0 ?_
      exact hj false (by rw [← hB i hi32, decide_eq_false q0]; rfl)
    · have q0 : 0 ≤ (i : Int) - o.toInt := by rw [← hji]; exact Int.not_lt.mp (fun q9 => c24 (Int32.lt_iff_toInt_lt.mpr q9))
      refine lv_iload hx hb d_M_shift_27 (lv_at hl 0 rfl) ?_
      refine lv_bipush hx hb d_M_shift_29 kb_32 ?_
      refine lv_icmp_ge (tgt := 53) hx hb d_M_shift_31 (by decide) (fun c31 => ?_) (fun c31 => ?_)
      · have q1 : 32 ≤ (i : Int) - o.toInt := by rw [← hji]; exact Int32.le_iff_toInt_le.mp c31
        refine lv_iconst hx hb d_M_shift_53 ki_0 ?_
        exact hj false (by rw [← hB i hi32, BitVec.getLsbD_of_ge _ _ (by omega), Bool.and_false])
      · have q1 : (i : Int) - o.toInt < 32 := by rw [← hji]; exact Int.not_le.mp (fun q9 => c31 (Int32.le_iff_toInt_le.mpr q9))
        have ejn : j = nI ((i : Int) - o.toInt).toNat := Int32.toInt_inj.mp (by rw [hji, nI_toInt (by omega)]; omega)
        refine lv_aload_n hx hb d_M_shift_34 rfl (lv_at hl 1 rfl) ?_
        refine gM_bit SF M d_M_shift_35 ?_
        refine lv_bipush hx hb d_M_shift_38 kb_32 ?_
        refine lv_iload_n hx hb d_M_shift_40 rfl (lv_at hl 3 rfl) ?_
        refine lv_imul hx hb d_M_shift_41 ?_
        refine lv_iload hx hb d_M_shift_42 (lv_at hl 0 rfl) ?_
        refine lv_iadd hx hb d_M_shift_44 ?_
        refine aM_bit SF M (32 * q + ((i : Int) - o.toInt).toNat) (by rw [ejn]; exact ix32 q _) (by omega) d_M_shift_45 ?_
        rw [bOf_at Rg q (by omega)]
        refine dz_if SF d_M_shift_46 d_M_shift_49 d_M_shift_50 d_M_shift_53 ?_
        exact hj _ (by rw [← hB i hi32, decide_eq_true q0, Bool.true_and])
set_option maxHeartbeats 4000000 in
set_option maxRecDepth 100000 in
theorem lp_loadConstant (SF : CallFix p m c b_M_loadConstant 4 s args mt_tbl R_M) {r : Nat} {v : Int32} {Rg : Nat → BitVec 32} (hr14 : r < 14)
    (kx : ∀ (H : Heap) (locs : List Loc) (ls : Array Slot), WW D (tysM cs) A s (mW h cs ln nx la st O Dd Aa Bb (kf r 32 (fOf v.toBitVec) (bOf Rg)) fr k0 k1 k2 k3 k4) H locs → lv_has ls 4 [(0, .ref (h 0)), (1, .int (nI r)), (2, .int v), (3, .int (nI 32))] → W p l e R s m args below meth c H locs cells slots Q (F0 m 38 ls [])) :
    ∀ (n i : Nat), i + n = 32 → ∀ (H : Heap) (locs : List Loc) (ls : Array Slot), WW D (tysM cs) A s (mW h cs ln nx la st O Dd Aa Bb (kf r i (fOf v.toBitVec) (bOf Rg)) fr k0 k1 k2 k3 k4) H locs → lv_has ls 4 [(0, .ref (h 0)), (1, .int (nI r)), (2, .int v), (3, .int (nI i))] → W p l e R s m args below meth c H locs cells slots Q (F0 m 2 ls []) := by
  have hx := SF.1
  have hb := SF.2.1
  intro n
  induction n with
  | zero =>
    intro i hi H locs ls M hl
    obtain rfl : i = 32 := by omega
    refine lv_iload_n hx hb d_M_loadConstant_2 rfl (lv_at hl 3 rfl) ?_
    refine lv_bipush hx hb d_M_loadConstant_3 kb_32 ?_
    refine lv_icmp_ge (tgt := 38) hx hb d_M_loadConstant_5 (by decide) (fun _ => ?_) (fun c9 => absurd (nI_le (Nat.le_refl 32) (by decide) : nI 32 ≤ nI 32) c9)
    exact kx H locs ls M hl
  | succ n ih =>
    intro i hi H locs ls M hl
    have hi32 : i < 32 := by omega
    refine lv_iload_n hx hb d_M_loadConstant_2 rfl (lv_at hl 3 rfl) ?_
    refine lv_bipush hx hb d_M_loadConstant_3 kb_32 ?_
    refine lv_icmp_ge (tgt := 38) hx hb d_M_loadConstant_5 (by decide) (fun c9 => absurd c9 (nI_ge hi32 (by decide) : ¬ nI 32 ≤ nI i)) (fun _ => ?_)
    refine lv_aload_n hx hb d_M_loadConstant_8 rfl (lv_at hl 0 rfl) ?_
    refine gM_bit SF M d_M_loadConstant_9 ?_
    refine lv_bipush hx hb d_M_loadConstant_12 kb_32 ?_
    refine lv_iload_n hx hb d_M_loadConstant_14 rfl (lv_at hl 1 rfl) ?_
    refine lv_imul hx hb d_M_loadConstant_15 ?_
    refine lv_iload_n hx hb d_M_loadConstant_16 rfl (lv_at hl 3 rfl) ?_
    refine lv_iadd hx hb d_M_loadConstant_17 ?_
    refine lv_iload_n hx hb d_M_loadConstant_18 rfl (lv_at hl 2 rfl) ?_
    refine lv_iload_n hx hb d_M_loadConstant_19 rfl (lv_at hl 3 rfl) ?_
    refine lv_iushr hx hb d_M_loadConstant_20 rfl ?_
    refine lv_iconst hx hb d_M_loadConstant_21 ki_1 ?_
    refine lv_iand hx hb d_M_loadConstant_22 ?_
    rw [lc_bit v hi32]
    refine dz_if SF d_M_loadConstant_23 d_M_loadConstant_26 d_M_loadConstant_27 d_M_loadConstant_30 ?_
    refine sM_bit SF M (32 * r + i) (ix32 r i) (by omega) d_M_loadConstant_31 (fun H locs M => ?_)
    rw [kf_sb rfl] at M
    refine lv_iinc (v := nI (i + 1)) (lv' := [(3, .int (nI (i + 1))), (0, .ref (h 0)), (1, .int (nI r)), (2, .int v)]) hx hb d_M_loadConstant_32 hl (k := 3) rfl (nI_1 _) (by decide) rfl (fun ls hl => ?_)
    refine lv_goto (tgt := 2) hx hb d_M_loadConstant_35 (by decide) ?_
    exact ih (i + 1) (by omega) H locs ls M (lv_sub hl [1, 2, 3, 0] rfl)
set_option maxHeartbeats 4000000 in
set_option maxRecDepth 100000 in
theorem lp_addSerially (SF : CallFix p m c b_M_addSerially 10 s args mt_tbl R_M) {x y : Nat} {v : Bool} {x1 : Int32} {B0 B : BitVec 32} {Rg : Nat → BitVec 32} (hx14 : x < 14) (hy14 : y < 14) (hB : B = adF (Rg x) (Rg y) v)
    (kx : ∀ (H : Heap) (locs : List Loc) (ls : Array Slot), WW D (tysM cs) A s (mW h cs ln nx la st O Dd Aa Bb (bOf Rg) (fz 32 (fOf B) (fOf B0)) k0 k1 k2 k3 k4) H locs → lv_has ls 10 [(0, .ref (h 0)), (1, .int x1), (2, .int (nI x)), (3, .int (nI y)), (4, .int (bI v)), (5, .int (bI (cyF (Rg x) (Rg y) v 32))), (6, .int (nI 32))] → W p l e R s m args below meth c H locs cells slots Q (F0 m 118 ls [])) :
    ∀ (n i : Nat), i + n = 32 → ∀ (H : Heap) (locs : List Loc) (ls : Array Slot), WW D (tysM cs) A s (mW h cs ln nx la st O Dd Aa Bb (bOf Rg) (fz i (fOf B) (fOf B0)) k0 k1 k2 k3 k4) H locs → lv_has ls 10 [(0, .ref (h 0)), (1, .int x1), (2, .int (nI x)), (3, .int (nI y)), (4, .int (bI v)), (5, .int (bI (cyF (Rg x) (Rg y) v i))), (6, .int (nI i))] → W p l e R s m args below meth c H locs cells slots Q (F0 m 7 ls []) := by
  have hx := SF.1
  have hb := SF.2.1
  intro n
  induction n with
  | zero =>
    intro i hi H locs ls M hl
    obtain rfl : i = 32 := by omega
    refine lv_iload hx hb d_M_addSerially_7 (lv_at hl 6 rfl) ?_
    refine lv_bipush hx hb d_M_addSerially_9 kb_32 ?_
    refine lv_icmp_ge (tgt := 118) hx hb d_M_addSerially_11 (by decide) (fun _ => ?_) (fun c9 => absurd (nI_le (Nat.le_refl 32) (by decide) : nI 32 ≤ nI 32) c9)
    exact kx H locs ls M hl
  | succ n ih =>
    intro i hi H locs ls M hl
    have hi32 : i < 32 := by omega
    refine lv_iload hx hb d_M_addSerially_7 (lv_at hl 6 rfl) ?_
    refine lv_bipush hx hb d_M_addSerially_9 kb_32 ?_
    refine lv_icmp_ge (tgt := 118) hx hb d_M_addSerially_11 (by decide) (fun c9 => absurd c9 (nI_ge hi32 (by decide) : ¬ nI 32 ≤ nI i)) (fun _ => ?_)
    refine lv_aload_n hx hb d_M_addSerially_14 rfl (lv_at hl 0 rfl) ?_
    refine gM_bit SF M d_M_addSerially_15 ?_
    refine lv_bipush hx hb d_M_addSerially_18 kb_32 ?_
    refine lv_iload_n hx hb d_M_addSerially_20 rfl (lv_at hl 2 rfl) ?_
    refine lv_imul hx hb d_M_addSerially_21 ?_
    refine lv_iload hx hb d_M_addSerially_22 (lv_at hl 6 rfl) ?_
    refine lv_iadd hx hb d_M_addSerially_24 ?_
    refine aM_bit SF M (32 * x + i) (ix32 x i) (by omega) d_M_addSerially_25 ?_
    rw [bOf_at Rg x hi32]
    refine lv_istore (lv' := [(7, .int (bI ((Rg x).getLsbD i))), (0, .ref (h 0)), (1, .int x1), (2, .int (nI x)), (3, .int (nI y)), (4, .int (bI v)), (5, .int (bI (cyF (Rg x) (Rg y) v i))), (6, .int (nI i))]) hx hb d_M_addSerially_26 hl (by decide) rfl (fun ls hl => ?_)
    refine lv_aload_n hx hb d_M_addSerially_28 rfl (lv_at hl 1 rfl) ?_
    refine gM_bit SF M d_M_addSerially_29 ?_
    refine lv_bipush hx hb d_M_addSerially_32 kb_32 ?_
    refine lv_iload_n hx hb d_M_addSerially_34 rfl (lv_at hl 4 rfl) ?_
    refine lv_imul hx hb d_M_addSerially_35 ?_
    refine lv_iload hx hb d_M_addSerially_36 (lv_at hl 7 rfl) ?_
    refine lv_iadd hx hb d_M_addSerially_38 ?_
    refine aM_bit SF M (32 * y + i) (ix32 y i) (by omega) d_M_addSerially_39 ?_
    rw [bOf_at Rg y hi32]
    refine lv_iload hx hb d_M_addSerially_40 (lv_at hl 5 rfl) ?_
    refine dz_ne SF d_M_addSerially_42 d_M_addSerially_45 d_M_addSerially_46 d_M_addSerially_49 ?_
    refine lv_istore (lv' := [(8, .int (bI (((Rg y).getLsbD i) ^^ v))), (7, .int (bI ((Rg x).getLsbD i))), (0, .ref (h 0)), (1, .int x1), (2, .int (nI x)), (3, .int (nI y)), (4, .int (bI v)), (5, .int (bI (cyF (Rg x) (Rg y) v i))), (6, .int (nI i))]) hx hb d_M_addSerially_50 hl (by decide) rfl (fun ls hl => ?_)
    refine lv_iload hx hb d_M_addSerially_52 (lv_at hl 1 rfl) ?_
    refine lv_iload hx hb d_M_addSerially_54 (lv_at hl 0 rfl) ?_
    refine dz_ne SF d_M_addSerially_56 d_M_addSerially_59 d_M_addSerially_60 d_M_addSerially_63 ?_
    refine lv_istore (lv' := [(9, .int (bI (((Rg x).getLsbD i) ^^ (((Rg y).getLsbD i) ^^ v)))), (8, .int (bI (((Rg y).getLsbD i) ^^ v))), (7, .int (bI ((Rg x).getLsbD i))), (0, .ref (h 0)), (1, .int x1), (2, .int (nI x)), (3, .int (nI y)), (4, .int (bI v)), (5, .int (bI (cyF (Rg x) (Rg y) v i))), (6, .int (nI i))]) hx hb d_M_addSerially_64 hl (by decide) rfl (fun ls hl => ?_)
    refine lv_aload_n hx hb d_M_addSerially_66 rfl (lv_at hl 3 rfl) ?_
    refine gM_fresh SF M d_M_addSerially_67 ?_
    refine lv_iload hx hb d_M_addSerially_70 (lv_at hl 9 rfl) ?_
    refine lv_iload hx hb d_M_addSerially_72 (lv_at hl 0 rfl) ?_
    refine lv_iload hx hb d_M_addSerially_74 (lv_at hl 8 rfl) ?_
    refine dz_ne SF d_M_addSerially_76 d_M_addSerially_79 d_M_addSerially_80 d_M_addSerially_83 ?_
    refine sM_fresh SF M i rfl hi32 d_M_addSerially_84 (fun H locs M => ?_)
    have hq := adF_bit (Rg x) (Rg y) v hi32
    rw [← hB] at hq
    rw [fz_s hq] at M
    have hj : W p l e R s m args below meth c H locs cells slots Q (F0 m 110 ls [.int (bI ((Rg x).getLsbD i && ((Rg y).getLsbD i ^^ v) || ((Rg x).getLsbD i ^^ ((Rg y).getLsbD i ^^ v)) && cyF (Rg x) (Rg y) v i))]) := by
      rw [← cyF_s (Rg x) (Rg y) v hi32]
      refine lv_istore (lv' := [(5, .int (bI (cyF (Rg x) (Rg y) v (i + 1)))), (9, .int (bI (((Rg x).getLsbD i) ^^ (((Rg y).getLsbD i) ^^ v)))), (8, .int (bI (((Rg y).getLsbD i) ^^ v))), (7, .int (bI ((Rg x).getLsbD i))), (0, .ref (h 0)), (1, .int x1), (2, .int (nI x)), (3, .int (nI y)), (4, .int (bI v)), (6, .int (nI i))]) hx hb d_M_addSerially_110 hl (by decide) rfl (fun ls hl => ?_)
      refine lv_iinc (v := nI (i + 1)) (lv' := [(6, .int (nI (i + 1))), (5, .int (bI (cyF (Rg x) (Rg y) v (i + 1)))), (9, .int (bI (((Rg x).getLsbD i) ^^ (((Rg y).getLsbD i) ^^ v)))), (8, .int (bI (((Rg y).getLsbD i) ^^ v))), (7, .int (bI ((Rg x).getLsbD i))), (0, .ref (h 0)), (1, .int x1), (2, .int (nI x)), (3, .int (nI y)), (4, .int (bI v))]) hx hb d_M_addSerially_112 hl (k := 9) rfl (nI_1 _) (by decide) rfl (fun ls hl => ?_)
      refine lv_goto (tgt := 7) hx hb d_M_addSerially_115 (by decide) ?_
      exact ih (i + 1) (by omega) H locs ls M (lv_sub hl [5, 6, 7, 8, 9, 1, 0] rfl)
    refine lv_iload hx hb d_M_addSerially_85 (lv_at hl 2 rfl) ?_
    generalize cyF (Rg x) (Rg y) v i = cv at hl hj
    generalize ((Rg y).getLsbD i ^^ v) = qv at hl hj
    generalize (Rg x).getLsbD i = pv at hl hj ⊢
    cases pv <;> cases qv <;> cases cv
    · refine lv_if_eq (tgt := 95) hx hb d_M_addSerially_87 (by decide) (fun _ => ?_) (fun c9 => absurd (rfl : (0 : Int32) = 0) c9)
      refine lv_iload hx hb d_M_addSerially_95 (lv_at hl 0 rfl) ?_
      refine lv_if_eq (tgt := 109) hx hb d_M_addSerially_97 (by decide) (fun _ => ?_) (fun c9 => absurd (rfl : (0 : Int32) = 0) c9)
      refine lv_iconst hx hb d_M_addSerially_109 ki_0 ?_
      exact hj
    · refine lv_if_eq (tgt := 95) hx hb d_M_addSerially_87 (by decide) (fun _ => ?_) (fun c9 => absurd (rfl : (0 : Int32) = 0) c9)
      refine lv_iload hx hb d_M_addSerially_95 (lv_at hl 0 rfl) ?_
      refine lv_if_eq (tgt := 109) hx hb d_M_addSerially_97 (by decide) (fun _ => ?_) (fun c9 => absurd (rfl : (0 : Int32) = 0) c9)
      refine lv_iconst hx hb d_M_addSerially_109 ki_0 ?_
      exact hj
    · refine lv_if_eq (tgt := 95) hx hb d_M_addSerially_87 (by decide) (fun _ => ?_) (fun c9 => absurd (rfl : (0 : Int32) = 0) c9)
      refine lv_iload hx hb d_M_addSerially_95 (lv_at hl 0 rfl) ?_
      refine lv_if_eq (tgt := 109) hx hb d_M_addSerially_97 (by decide) (fun c9 => absurd c9 (by decide : ¬ (1 : Int32) = 0)) (fun _ => ?_)
      refine lv_iload hx hb d_M_addSerially_100 (lv_at hl 8 rfl) ?_
      refine lv_if_eq (tgt := 109) hx hb d_M_addSerially_102 (by decide) (fun _ => ?_) (fun c9 => absurd (rfl : (0 : Int32) = 0) c9)
      refine lv_iconst hx hb d_M_addSerially_109 ki_0 ?_
      exact hj
    · refine lv_if_eq (tgt := 95) hx hb d_M_addSerially_87 (by decide) (fun _ => ?_) (fun c9 => absurd (rfl : (0 : Int32) = 0) c9)
      refine lv_iload hx hb d_M_addSerially_95 (lv_at hl 0 rfl) ?_
      refine lv_if_eq (tgt := 109) hx hb d_M_addSerially_97 (by decide) (fun c9 => absurd c9 (by decide : ¬ (1 : Int32) = 0)) (fun _ => ?_)
      refine lv_iload hx hb d_M_addSerially_100 (lv_at hl 8 rfl) ?_
      refine lv_if_eq (tgt := 109) hx hb d_M_addSerially_102 (by decide) (fun c9 => absurd c9 (by decide : ¬ (1 : Int32) = 0)) (fun _ => ?_)
      refine lv_iconst hx hb d_M_addSerially_105 ki_1 ?_
      refine lv_goto (tgt := 110) hx hb d_M_addSerially_106 (by decide) ?_
      exact hj
    · refine lv_if_eq (tgt := 95) hx hb d_M_addSerially_87 (by decide) (fun c9 => absurd c9 (by decide : ¬ (1 : Int32) = 0)) (fun _ => ?_)
      refine lv_iload hx hb d_M_addSerially_90 (lv_at hl 1 rfl) ?_
      refine lv_if_ne (tgt := 105) hx hb d_M_addSerially_92 (by decide) (fun c9 => absurd (rfl : (0 : Int32) = 0) c9) (fun _ => ?_)
      refine lv_iload hx hb d_M_addSerially_95 (lv_at hl 0 rfl) ?_
      refine lv_if_eq (tgt := 109) hx hb d_M_addSerially_97 (by decide) (fun c9 => absurd c9 (by decide : ¬ (1 : Int32) = 0)) (fun _ => ?_)
      refine lv_iload hx hb d_M_addSerially_100 (lv_at hl 8 rfl) ?_
      refine lv_if_eq (tgt := 109) hx hb d_M_addSerially_102 (by decide) (fun _ => ?_) (fun c9 => absurd (rfl : (0 : Int32) = 0) c9)
      refine lv_iconst hx hb d_M_addSerially_109 ki_0 ?_
      exact hj
    · refine lv_if_eq (tgt := 95) hx hb d_M_addSerially_87 (by decide) (fun c9 => absurd c9 (by decide : ¬ (1 : Int32) = 0)) (fun _ => ?_)
      refine lv_iload hx hb d_M_addSerially_90 (lv_at hl 1 rfl) ?_
      refine lv_if_ne (tgt := 105) hx hb d_M_addSerially_92 (by decide) (fun c9 => absurd (rfl : (0 : Int32) = 0) c9) (fun _ => ?_)
      refine lv_iload hx hb d_M_addSerially_95 (lv_at hl 0 rfl) ?_
      refine lv_if_eq (tgt := 109) hx hb d_M_addSerially_97 (by decide) (fun c9 => absurd c9 (by decide : ¬ (1 : Int32) = 0)) (fun _ => ?_)
      refine lv_iload hx hb d_M_addSerially_100 (lv_at hl 8 rfl) ?_
      refine lv_if_eq (tgt := 109) hx hb d_M_addSerially_102 (by decide) (fun c9 => absurd c9 (by decide : ¬ (1 : Int32) = 0)) (fun _ => ?_)
      refine lv_iconst hx hb d_M_addSerially_105 ki_1 ?_
      refine lv_goto (tgt := 110) hx hb d_M_addSerially_106 (by decide) ?_
      exact hj
    · refine lv_if_eq (tgt := 95) hx hb d_M_addSerially_87 (by decide) (fun c9 => absurd c9 (by decide : ¬ (1 : Int32) = 0)) (fun _ => ?_)
      refine lv_iload hx hb d_M_addSerially_90 (lv_at hl 1 rfl) ?_
      refine lv_if_ne (tgt := 105) hx hb d_M_addSerially_92 (by decide) (fun _ => ?_) (fun c9 => absurd c9 (by decide : ¬ (1 : Int32) = 0))
      refine lv_iconst hx hb d_M_addSerially_105 ki_1 ?_
      refine lv_goto (tgt := 110) hx hb d_M_addSerially_106 (by decide) ?_
      exact hj
    · refine lv_if_eq (tgt := 95) hx hb d_M_addSerially_87 (by decide) (fun c9 => absurd c9 (by decide : ¬ (1 : Int32) = 0)) (fun _ => ?_)
      refine lv_iload hx hb d_M_addSerially_90 (lv_at hl 1 rfl) ?_
      refine lv_if_ne (tgt := 105) hx hb d_M_addSerially_92 (by decide) (fun _ => ?_) (fun c9 => absurd c9 (by decide : ¬ (1 : Int32) = 0))
      refine lv_iconst hx hb d_M_addSerially_105 ki_1 ?_
      refine lv_goto (tgt := 110) hx hb d_M_addSerially_106 (by decide) ?_
      exact hj
set_option maxHeartbeats 4000000 in
set_option maxRecDepth 100000 in
theorem lp_combine (SF : CallFix p m c b_M_combine 8 s args mt_tbl R_M) {x y : Nat} {k x1 : Int32} {B0 B : BitVec 32} {Rg : Nat → BitVec 32} (hx14 : x < 14) (hy14 : y < 14) (hB : ∀ i, i < 32 → (if k = 3 then ((Rg x).getLsbD i && (Rg y).getLsbD i) else if k = 4 then ((Rg x).getLsbD i || (Rg y).getLsbD i) else ((Rg x).getLsbD i ^^ (Rg y).getLsbD i)) = B.getLsbD i)
    (kx : ∀ (H : Heap) (locs : List Loc) (ls : Array Slot), WW D (tysM cs) A s (mW h cs ln nx la st O Dd Aa Bb (bOf Rg) (fz 32 (fOf B) (fOf B0)) k0 k1 k2 k3 k4) H locs → lv_has ls 8 [(0, .ref (h 0)), (1, .int k), (2, .int x1), (3, .int (nI x)), (4, .int (nI y)), (5, .int (nI 32))] → W p l e R s m args below meth c H locs cells slots Q (F0 m 110 ls [])) :
    ∀ (n i : Nat), i + n = 32 → ∀ (H : Heap) (locs : List Loc) (ls : Array Slot), WW D (tysM cs) A s (mW h cs ln nx la st O Dd Aa Bb (bOf Rg) (fz i (fOf B) (fOf B0)) k0 k1 k2 k3 k4) H locs → lv_has ls 8 [(0, .ref (h 0)), (1, .int k), (2, .int x1), (3, .int (nI x)), (4, .int (nI y)), (5, .int (nI i))] → W p l e R s m args below meth c H locs cells slots Q (F0 m 3 ls []) := by
  have hx := SF.1
  have hb := SF.2.1
  intro n
  induction n with
  | zero =>
    intro i hi H locs ls M hl
    obtain rfl : i = 32 := by omega
    refine lv_iload hx hb d_M_combine_3 (lv_at hl 5 rfl) ?_
    refine lv_bipush hx hb d_M_combine_5 kb_32 ?_
    refine lv_icmp_ge (tgt := 110) hx hb d_M_combine_7 (by decide) (fun _ => ?_) (fun c9 => absurd (nI_le (Nat.le_refl 32) (by decide) : nI 32 ≤ nI 32) c9)
    exact kx H locs ls M hl
  | succ n ih =>
    intro i hi H locs ls M hl
    have hi32 : i < 32 := by omega
    refine lv_iload hx hb d_M_combine_3 (lv_at hl 5 rfl) ?_
    refine lv_bipush hx hb d_M_combine_5 kb_32 ?_
    refine lv_icmp_ge (tgt := 110) hx hb d_M_combine_7 (by decide) (fun c9 => absurd c9 (nI_ge hi32 (by decide) : ¬ nI 32 ≤ nI i)) (fun _ => ?_)
    refine lv_aload_n hx hb d_M_combine_10 rfl (lv_at hl 0 rfl) ?_
    refine gM_bit SF M d_M_combine_11 ?_
    refine lv_bipush hx hb d_M_combine_14 kb_32 ?_
    refine lv_iload_n hx hb d_M_combine_16 rfl (lv_at hl 3 rfl) ?_
    refine lv_imul hx hb d_M_combine_17 ?_
    refine lv_iload hx hb d_M_combine_18 (lv_at hl 5 rfl) ?_
    refine lv_iadd hx hb d_M_combine_20 ?_
    refine aM_bit SF M (32 * x + i) (ix32 x i) (by omega) d_M_combine_21 ?_
    rw [bOf_at Rg x hi32]
    refine lv_istore (lv' := [(6, .int (bI ((Rg x).getLsbD i))), (0, .ref (h 0)), (1, .int k), (2, .int x1), (3, .int (nI x)), (4, .int (nI y)), (5, .int (nI i))]) hx hb d_M_combine_22 hl (by decide) rfl (fun ls hl => ?_)
    refine lv_aload_n hx hb d_M_combine_24 rfl (lv_at hl 1 rfl) ?_
    refine gM_bit SF M d_M_combine_25 ?_
    refine lv_bipush hx hb d_M_combine_28 kb_32 ?_
    refine lv_iload hx hb d_M_combine_30 (lv_at hl 5 rfl) ?_
    refine lv_imul hx hb d_M_combine_32 ?_
    refine lv_iload hx hb d_M_combine_33 (lv_at hl 6 rfl) ?_
    refine lv_iadd hx hb d_M_combine_35 ?_
    refine aM_bit SF M (32 * y + i) (ix32 y i) (by omega) d_M_combine_36 ?_
    rw [bOf_at Rg y hi32]
    refine lv_istore (lv' := [(7, .int (bI ((Rg y).getLsbD i))), (6, .int (bI ((Rg x).getLsbD i))), (0, .ref (h 0)), (1, .int k), (2, .int x1), (3, .int (nI x)), (4, .int (nI y)), (5, .int (nI i))]) hx hb d_M_combine_37 hl (by decide) rfl (fun ls hl => ?_)
    refine lv_aload_n hx hb d_M_combine_39 rfl (lv_at hl 2 rfl) ?_
    refine gM_fresh SF M d_M_combine_40 ?_
    refine lv_iload hx hb d_M_combine_43 (lv_at hl 7 rfl) ?_
    have hj : ∀ z : Bool, z = B.getLsbD i → W p l e R s m args below meth c H locs cells slots Q (F0 m 103 ls [.int (bI z), .int (nI i), .ref (h 6)]) := by
      intro z ez
      refine sM_fresh SF M i rfl hi32 d_M_combine_103 (fun H locs M => ?_)
      rw [fz_s ez] at M
      refine lv_iinc (v := nI (i + 1)) (lv' := [(5, .int (nI (i + 1))), (7, .int (bI ((Rg y).getLsbD i))), (6, .int (bI ((Rg x).getLsbD i))), (0, .ref (h 0)), (1, .int k), (2, .int x1), (3, .int (nI x)), (4, .int (nI y))]) hx hb d_M_combine_104 hl (k := 7) rfl (nI_1 _) (by decide) rfl (fun ls hl => ?_)
      refine lv_goto (tgt := 3) hx hb d_M_combine_107 (by decide) ?_
      exact ih (i + 1) (by omega) H locs ls M (lv_sub hl [3, 4, 5, 6, 7, 0] rfl)
    have hB := hB i hi32
    generalize (Rg x).getLsbD i = pv at hl hB
    generalize (Rg y).getLsbD i = qv at hl hB
    refine lv_iload_n hx hb d_M_combine_45 rfl (lv_at hl 3 rfl) ?_
    refine lv_iconst hx hb d_M_combine_46 ki_3 ?_
    refine lv_icmp_ne (tgt := 68) hx hb d_M_combine_47 (by decide) (fun c3 => ?_) (fun c3 => ?_)
    · rw [if_neg c3] at hB
      refine lv_iload_n hx hb d_M_combine_68 rfl (lv_at hl 3 rfl) ?_
      refine lv_iconst hx hb d_M_combine_69 ki_4 ?_
      refine lv_icmp_ne (tgt := 91) hx hb d_M_combine_70 (by decide) (fun c4 => ?_) (fun c4 => ?_)
      · rw [if_neg c4] at hB
        refine lv_iload hx hb d_M_combine_91 (lv_at hl 1 rfl) ?_
        refine lv_iload hx hb d_M_combine_93 (lv_at hl 0 rfl) ?_
        refine dz_ne SF d_M_combine_95 d_M_combine_98 d_M_combine_99 d_M_combine_102 ?_
        exact hj _ hB
      · rw [if_pos c4] at hB
        cases pv <;> cases qv
        · refine lv_iload hx hb d_M_combine_73 (lv_at hl 1 rfl) ?_
          refine lv_if_ne (tgt := 83) hx hb d_M_combine_75 (by decide) (fun c9 => absurd (rfl : (0 : Int32) = 0) c9) (fun _ => ?_)
          refine lv_iload hx hb d_M_combine_78 (lv_at hl 0 rfl) ?_
          refine lv_if_eq (tgt := 87) hx hb d_M_combine_80 (by decide) (fun _ => ?_) (fun c9 => absurd (rfl : (0 : Int32) = 0) c9)
          refine lv_iconst hx hb d_M_combine_87 ki_0 ?_
          refine lv_goto (tgt := 103) hx hb d_M_combine_88 (by decide) ?_
          exact hj false hB
        · refine lv_iload hx hb d_M_combine_73 (lv_at hl 1 rfl) ?_
          refine lv_if_ne (tgt := 83) hx hb d_M_combine_75 (by decide) (fun c9 => absurd (rfl : (0 : Int32) = 0) c9) (fun _ => ?_)
          refine lv_iload hx hb d_M_combine_78 (lv_at hl 0 rfl) ?_
          refine lv_if_eq (tgt := 87) hx hb d_M_combine_80 (by decide) (fun c9 => absurd c9 (by decide : ¬ (1 : Int32) = 0)) (fun _ => ?_)
          refine lv_iconst hx hb d_M_combine_83 ki_1 ?_
          refine lv_goto (tgt := 103) hx hb d_M_combine_84 (by decide) ?_
          exact hj true hB
        · refine lv_iload hx hb d_M_combine_73 (lv_at hl 1 rfl) ?_
          refine lv_if_ne (tgt := 83) hx hb d_M_combine_75 (by decide) (fun _ => ?_) (fun c9 => absurd c9 (by decide : ¬ (1 : Int32) = 0))
          refine lv_iconst hx hb d_M_combine_83 ki_1 ?_
          refine lv_goto (tgt := 103) hx hb d_M_combine_84 (by decide) ?_
          exact hj true hB
        · refine lv_iload hx hb d_M_combine_73 (lv_at hl 1 rfl) ?_
          refine lv_if_ne (tgt := 83) hx hb d_M_combine_75 (by decide) (fun _ => ?_) (fun c9 => absurd c9 (by decide : ¬ (1 : Int32) = 0))
          refine lv_iconst hx hb d_M_combine_83 ki_1 ?_
          refine lv_goto (tgt := 103) hx hb d_M_combine_84 (by decide) ?_
          exact hj true hB
    · rw [if_pos c3] at hB
      cases pv <;> cases qv
      · refine lv_iload hx hb d_M_combine_50 (lv_at hl 1 rfl) ?_
        refine lv_if_eq (tgt := 64) hx hb d_M_combine_52 (by decide) (fun _ => ?_) (fun c9 => absurd (rfl : (0 : Int32) = 0) c9)
        refine lv_iconst hx hb d_M_combine_64 ki_0 ?_
        refine lv_goto (tgt := 103) hx hb d_M_combine_65 (by decide) ?_
        exact hj false hB
      · refine lv_iload hx hb d_M_combine_50 (lv_at hl 1 rfl) ?_
        refine lv_if_eq (tgt := 64) hx hb d_M_combine_52 (by decide) (fun _ => ?_) (fun c9 => absurd (rfl : (0 : Int32) = 0) c9)
        refine lv_iconst hx hb d_M_combine_64 ki_0 ?_
        refine lv_goto (tgt := 103) hx hb d_M_combine_65 (by decide) ?_
        exact hj false hB
      · refine lv_iload hx hb d_M_combine_50 (lv_at hl 1 rfl) ?_
        refine lv_if_eq (tgt := 64) hx hb d_M_combine_52 (by decide) (fun c9 => absurd c9 (by decide : ¬ (1 : Int32) = 0)) (fun _ => ?_)
        refine lv_iload hx hb d_M_combine_55 (lv_at hl 0 rfl) ?_
        refine lv_if_eq (tgt := 64) hx hb d_M_combine_57 (by decide) (fun _ => ?_) (fun c9 => absurd (rfl : (0 : Int32) = 0) c9)
        refine lv_iconst hx hb d_M_combine_64 ki_0 ?_
        refine lv_goto (tgt := 103) hx hb d_M_combine_65 (by decide) ?_
        exact hj false hB
      · refine lv_iload hx hb d_M_combine_50 (lv_at hl 1 rfl) ?_
        refine lv_if_eq (tgt := 64) hx hb d_M_combine_52 (by decide) (fun c9 => absurd c9 (by decide : ¬ (1 : Int32) = 0)) (fun _ => ?_)
        refine lv_iload hx hb d_M_combine_55 (lv_at hl 0 rfl) ?_
        refine lv_if_eq (tgt := 64) hx hb d_M_combine_57 (by decide) (fun c9 => absurd c9 (by decide : ¬ (1 : Int32) = 0)) (fun _ => ?_)
        refine lv_iconst hx hb d_M_combine_60 ki_1 ?_
        refine lv_goto (tgt := 103) hx hb d_M_combine_61 (by decide) ?_
        exact hj true hB
set_option maxHeartbeats 4000000 in
set_option maxRecDepth 100000 in
theorem lp_isZero (SF : CallFix p m c b_M_isZero 3 s args mt_tbl R_M) {r : Nat} {Rg : Nat → BitVec 32} (hr14 : r < 14) (k0x : ∀ (i : Nat) (H : Heap) (locs : List Loc) (ls : Array Slot), (Rg r).getLsbD i = true → WW D (tysM cs) A s (mW h cs ln nx la st O Dd Aa Bb (bOf Rg) fr k0 k1 k2 k3 k4) H locs → W p l e R s m args below meth c H locs cells slots Q (F0 m 22 ls []))
    (kx : ∀ (H : Heap) (locs : List Loc) (ls : Array Slot), (∀ a, a < 32 → (Rg r).getLsbD a = false) → WW D (tysM cs) A s (mW h cs ln nx la st O Dd Aa Bb (bOf Rg) fr k0 k1 k2 k3 k4) H locs → lv_has ls 3 [(0, .ref (h 0)), (1, .int (nI r)), (2, .int (nI 32))] → W p l e R s m args below meth c H locs cells slots Q (F0 m 30 ls [])) :
    ∀ (n i : Nat), i + n = 32 → (∀ a, a < i → (Rg r).getLsbD a = false) → ∀ (H : Heap) (locs : List Loc) (ls : Array Slot), WW D (tysM cs) A s (mW h cs ln nx la st O Dd Aa Bb (bOf Rg) fr k0 k1 k2 k3 k4) H locs → lv_has ls 3 [(0, .ref (h 0)), (1, .int (nI r)), (2, .int (nI i))] → W p l e R s m args below meth c H locs cells slots Q (F0 m 2 ls []) := by
  have hx := SF.1
  have hb := SF.2.1
  intro n
  induction n with
  | zero =>
    intro i hi hz H locs ls M hl
    obtain rfl : i = 32 := by omega
    refine lv_iload_n hx hb d_M_isZero_2 rfl (lv_at hl 2 rfl) ?_
    refine lv_bipush hx hb d_M_isZero_3 kb_32 ?_
    refine lv_icmp_ge (tgt := 30) hx hb d_M_isZero_5 (by decide) (fun _ => ?_) (fun c9 => absurd (nI_le (Nat.le_refl 32) (by decide) : nI 32 ≤ nI 32) c9)
    exact kx H locs ls hz M hl
  | succ n ih =>
    intro i hi hz H locs ls M hl
    have hi32 : i < 32 := by omega
    refine lv_iload_n hx hb d_M_isZero_2 rfl (lv_at hl 2 rfl) ?_
    refine lv_bipush hx hb d_M_isZero_3 kb_32 ?_
    refine lv_icmp_ge (tgt := 30) hx hb d_M_isZero_5 (by decide) (fun c9 => absurd c9 (nI_ge hi32 (by decide) : ¬ nI 32 ≤ nI i)) (fun _ => ?_)
    refine lv_aload_n hx hb d_M_isZero_8 rfl (lv_at hl 0 rfl) ?_
    refine gM_bit SF M d_M_isZero_9 ?_
    refine lv_bipush hx hb d_M_isZero_12 kb_32 ?_
    refine lv_iload_n hx hb d_M_isZero_14 rfl (lv_at hl 1 rfl) ?_
    refine lv_imul hx hb d_M_isZero_15 ?_
    refine lv_iload_n hx hb d_M_isZero_16 rfl (lv_at hl 2 rfl) ?_
    refine lv_iadd hx hb d_M_isZero_17 ?_
    refine aM_bit SF M (32 * r + i) (ix32 r i) (by omega) d_M_isZero_18 ?_
    rw [bOf_at Rg r hi32]
    refine lv_if_eq (tgt := 24) hx hb d_M_isZero_19 (by decide) (fun c19 => ?_) (fun c19 => ?_)
    · rw [bI_0] at c19
      refine lv_iinc (v := nI (i + 1)) (lv' := [(2, .int (nI (i + 1))), (0, .ref (h 0)), (1, .int (nI r))]) hx hb d_M_isZero_24 hl (k := 2) rfl (nI_1 _) (by decide) rfl (fun ls hl => ?_)
      refine lv_goto (tgt := 2) hx hb d_M_isZero_27 (by decide) ?_
      exact ih (i + 1) (by omega) (fun a ha => (Nat.lt_succ_iff_lt_or_eq.mp ha).elim (hz a) (fun q9 => by rw [q9]; exact c19)) H locs ls M (lv_sub hl [1, 2, 0] rfl)
    · rw [bI_n0] at c19
      exact k0x i H locs ls c19 M
set_option maxHeartbeats 4000000 in
set_option maxRecDepth 100000 in
theorem lp_unsigned (SF : CallFix p m c b_M_unsigned 4 s args mt_tbl R_M) {r : Nat} {Rg : Nat → BitVec 32} (hr14 : r < 14)
    (kx : ∀ (H : Heap) (locs : List Loc) (ls : Array Slot), WW D (tysM cs) A s (mW h cs ln nx la st O Dd Aa Bb (bOf Rg) fr k0 k1 k2 k3 k4) H locs → lv_has ls 4 [(0, .ref (h 0)), (1, .int (nI r)), (2, .int (nI ((Rg r).toNat % 65536 / 2 ^ (0)))), (3, .int (nI (0) - 1))] → W p l e R s m args below meth c H locs cells slots Q (F0 m 39 ls [])) :
    ∀ (n : Nat), n ≤ 16 → ∀ (H : Heap) (locs : List Loc) (ls : Array Slot), WW D (tysM cs) A s (mW h cs ln nx la st O Dd Aa Bb (bOf Rg) fr k0 k1 k2 k3 k4) H locs → lv_has ls 4 [(0, .ref (h 0)), (1, .int (nI r)), (2, .int (nI ((Rg r).toNat % 65536 / 2 ^ (n)))), (3, .int (nI (n) - 1))] → W p l e R s m args below meth c H locs cells slots Q (F0 m 5 ls []) := by
  have hx := SF.1
  have hb := SF.2.1
  intro n
  induction n with
  | zero =>
    intro hn H locs ls M hl
    refine lv_iload_n hx hb d_M_unsigned_5 rfl (lv_at hl 3 rfl) ?_
    refine lv_if_lt (tgt := 39) hx hb d_M_unsigned_6 (by decide) (fun _ => ?_) (fun c9 => absurd (by decide : nI 0 - 1 < 0) c9)
    exact kx H locs ls M hl
  | succ n ih =>
    intro hn H locs ls M hl
    rw [nI_pred] at hl
    refine lv_iload_n hx hb d_M_unsigned_5 rfl (lv_at hl 3 rfl) ?_
    refine lv_if_lt (tgt := 39) hx hb d_M_unsigned_6 (by decide) (fun c9 => absurd c9 (nI_pos (by omega) : ¬ nI n < 0)) (fun _ => ?_)
    refine lv_iconst hx hb d_M_unsigned_9 ki_2 ?_
    refine lv_iload_n hx hb d_M_unsigned_10 rfl (lv_at hl 2 rfl) ?_
    refine lv_imul hx hb d_M_unsigned_11 ?_
    refine lv_aload_n hx hb d_M_unsigned_12 rfl (lv_at hl 0 rfl) ?_
    refine gM_bit SF M d_M_unsigned_13 ?_
    refine lv_bipush hx hb d_M_unsigned_16 kb_32 ?_
    refine lv_iload_n hx hb d_M_unsigned_18 rfl (lv_at hl 1 rfl) ?_
    refine lv_imul hx hb d_M_unsigned_19 ?_
    refine lv_iload_n hx hb d_M_unsigned_20 rfl (lv_at hl 3 rfl) ?_
    refine lv_iadd hx hb d_M_unsigned_21 ?_
    refine aM_bit SF M (32 * r + n) (ix32 r n) (by omega) d_M_unsigned_22 ?_
    rw [bOf_at Rg r (by omega)]
    refine dz_if SF d_M_unsigned_23 d_M_unsigned_26 d_M_unsigned_27 d_M_unsigned_30 ?_
    refine lv_iadd hx hb d_M_unsigned_31 ?_
    rw [lo_s (Rg r) (by omega)]
    refine lv_istore_n (lv' := [(2, .int (nI ((Rg r).toNat % 65536 / 2 ^ n))), (0, .ref (h 0)), (1, .int (nI r)), (3, .int (nI n))]) hx hb d_M_unsigned_32 rfl hl (by decide) rfl (fun ls hl => ?_)
    refine lv_iinc (v := nI n - 1) (lv' := [(3, .int (nI n - 1)), (2, .int (nI ((Rg r).toNat % 65536 / 2 ^ n))), (0, .ref (h 0)), (1, .int (nI r))]) hx hb d_M_unsigned_33 hl (k := 3) rfl (k_dec1 _) (by decide) rfl (fun ls hl => ?_)
    refine lv_goto (tgt := 5) hx hb d_M_unsigned_36 (by decide) ?_
    exact ih (by omega) H locs ls M (lv_sub hl [2, 3, 1, 0] rfl)
end LeafLoops
end
section
set_option maxHeartbeats 4000000 in
set_option maxRecDepth 100000 in
/-- keepFresh(r): the register r becomes the fresh row -/
theorem c_keepFresh (l : Launch) (D : va_G) (h : Nat → Nat) (cs : Nat → ClassId) (ln nx la st : Int32) (O Dd Aa Bb k0 k1 k2 k3 k4 : Nat → Int32) (Rg : Nat → BitVec 32) (B : BitVec 32) (r : Nat) (hr14 : r < 14) : CtV l y_M_keepFresh b_M_keepFresh 3 (rmm 0 0) D (tysM cs) [.ref (h 0), .int (nI r)] (mW h cs ln nx la st O Dd Aa Bb (bOf Rg) (fOf B) k0 k1 k2 k3 k4) (fun _ : Unit => True) (fun _ => mW h cs ln nx la st O Dd Aa Bb (bOf (upR Rg r B)) (fOf B) k0 k1 k2 k3 k4) := by
  refine CtV.of R_M (by decide) rfl (Nat.le_of_ble_eq_true rfl) ?_
  intro p e s m args below meth c A ls SF hlk hr M hl
  have hx := SF.1
  have hb := SF.2.1
  have hl : lv_has ls 3 [(0, .ref (h 0)), (1, .int (nI r))] := hl
  refine lv_iconst hx hb d_M_keepFresh_0 ki_0 ?_
  refine lv_istore_n (lv' := [(2, .int 0), (0, .ref (h 0)), (1, .int (nI r))]) hx hb d_M_keepFresh_1 rfl hl (by decide) rfl (fun ls hl => ?_)
  refine lp_keepFresh (B := B) (Rg := Rg) (r := r) SF hr14 (fun H locs ls M hl => ?_) 32 0 rfl _ _ ls (by rw [kf_0]; exact M) (lv_sub hl [1, 2, 0] rfl)
  rw [kf_32] at M
  exact retV SF hlk hr () trivial M d_M_keepFresh_31
set_option maxHeartbeats 4000000 in
set_option maxRecDepth 100000 in
/-- loadConstant(r, v): the register r becomes v -/
theorem c_loadConstant (l : Launch) (D : va_G) (h : Nat → Nat) (cs : Nat → ClassId) (ln nx la st : Int32) (O Dd Aa Bb k0 k1 k2 k3 k4 : Nat → Int32) (Rg : Nat → BitVec 32) (fr : Nat → Int32) (r : Nat) (v : Int32) (hr14 : r < 14) : CtV l y_M_loadConstant b_M_loadConstant 4 (rmm 0 0) D (tysM cs) [.ref (h 0), .int (nI r), .int v] (mW h cs ln nx la st O Dd Aa Bb (bOf Rg) fr k0 k1 k2 k3 k4) (fun _ : Unit => True) (fun _ => mW h cs ln nx la st O Dd Aa Bb (bOf (upR Rg r v.toBitVec)) fr k0 k1 k2 k3 k4) := by
  refine CtV.of R_M (by decide) rfl (Nat.le_of_ble_eq_true rfl) ?_
  intro p e s m args below meth c A ls SF hlk hr M hl
  have hx := SF.1
  have hb := SF.2.1
  have hl : lv_has ls 4 [(0, .ref (h 0)), (1, .int (nI r)), (2, .int v)] := hl
  refine lv_iconst hx hb d_M_loadConstant_0 ki_0 ?_
  refine lv_istore_n (lv' := [(3, .int 0), (0, .ref (h 0)), (1, .int (nI r)), (2, .int v)]) hx hb d_M_loadConstant_1 rfl hl (by decide) rfl (fun ls hl => ?_)
  refine lp_loadConstant (v := v) (Rg := Rg) (r := r) SF hr14 (fun H locs ls M hl => ?_) 32 0 rfl _ _ ls (by rw [kf_0]; exact M) (lv_sub hl [1, 2, 3, 0] rfl)
  rw [kf_32] at M
  exact retV SF hlk hr () trivial M d_M_loadConstant_38
set_option maxHeartbeats 4000000 in
set_option maxRecDepth 100000 in
/-- widen(r, q) -/
theorem c_widen (l : Launch) (D : va_G) (h : Nat → Nat) (cs : Nat → ClassId) (ln nx la st : Int32) (O Dd Aa Bb k0 k1 k2 k3 k4 : Nat → Int32) (Rg : Nat → BitVec 32) (B : BitVec 32) (r q : Nat) (hr14 : r < 14) (hq : q < 14) : CtV l y_M_widen b_M_widen 4 (rmm 1 22) D (tysM cs) [.ref (h 0), .int (nI r), .int (nI q)] (mW h cs ln nx la st O Dd Aa Bb (bOf Rg) (fOf B) k0 k1 k2 k3 k4) (fun _ : Unit => True) (fun _ => mW h cs ln nx la st O Dd Aa Bb (bOf (upR Rg r (wdF (Rg q)))) (fOf (wdF (Rg q))) k0 k1 k2 k3 k4) := by
  refine CtV.of R_M (by decide) rfl (Nat.le_of_ble_eq_true rfl) ?_
  intro p e s m args below meth c A ls SF hlk hr M hl
  have hx := SF.1
  have hb := SF.2.1
  have hl : lv_has ls 4 [(0, .ref (h 0)), (1, .int (nI r)), (2, .int (nI q))] := hl
  refine lv_iconst hx hb d_M_widen_0 ki_0 ?_
  refine lv_istore_n (lv' := [(3, .int 0), (0, .ref (h 0)), (1, .int (nI r)), (2, .int (nI q))]) hx hb d_M_widen_1 rfl hl (by decide) rfl (fun ls hl => ?_)
  refine lp_widen (B := wdF (Rg q)) (B0 := B) (Rg := Rg)  SF hq (fun i hi => (wdF_bit (Rg q) hi).symm) ?_ 32 0 rfl _ _ ls (by rw [fz_0]; exact M) (lv_sub hl [1, 2, 3, 0] rfl)
  intro H locs ls M hl
  rw [fz_32] at M
  refine lv_aload_n hx hb d_M_widen_42 rfl (lv_at hl 0 rfl) ?_
  refine lv_iload_n hx hb d_M_widen_43 rfl (lv_at hl 1 rfl) ?_
  refine ccV SF M (c_keepFresh l D h cs ln nx la st O Dd Aa Bb k0 k1 k2 k3 k4 Rg (wdF (Rg q)) r hr14) g_M_128 hd_M_keepFresh ⟨Nat.le_of_ble_eq_true rfl, Nat.le_of_ble_eq_true rfl⟩ (ci := 0) rfl rfl hl.1 rfl (Nat.le_of_ble_eq_true rfl) d_M_widen_44 ⟨Nat.zero_le _, Nat.zero_le _⟩ (fun u H locs hu M => ?_)
  exact retV SF hlk hr () trivial M d_M_widen_47
set_option maxHeartbeats 4000000 in
set_option maxRecDepth 100000 in
/-- lowHalf(r, q) -/
theorem c_lowHalf (l : Launch) (D : va_G) (h : Nat → Nat) (cs : Nat → ClassId) (ln nx la st : Int32) (O Dd Aa Bb k0 k1 k2 k3 k4 : Nat → Int32) (Rg : Nat → BitVec 32) (B : BitVec 32) (r q : Nat) (hr14 : r < 14) (hq : q < 14) : CtV l y_M_lowHalf b_M_lowHalf 4 (rmm 1 22) D (tysM cs) [.ref (h 0), .int (nI r), .int (nI q)] (mW h cs ln nx la st O Dd Aa Bb (bOf Rg) (fOf B) k0 k1 k2 k3 k4) (fun _ : Unit => True) (fun _ => mW h cs ln nx la st O Dd Aa Bb (bOf (upR Rg r (lhF (Rg q)))) (fOf (lhF (Rg q))) k0 k1 k2 k3 k4) := by
  refine CtV.of R_M (by decide) rfl (Nat.le_of_ble_eq_true rfl) ?_
  intro p e s m args below meth c A ls SF hlk hr M hl
  have hx := SF.1
  have hb := SF.2.1
  have hl : lv_has ls 4 [(0, .ref (h 0)), (1, .int (nI r)), (2, .int (nI q))] := hl
  refine lv_iconst hx hb d_M_lowHalf_0 ki_0 ?_
  refine lv_istore_n (lv' := [(3, .int 0), (0, .ref (h 0)), (1, .int (nI r)), (2, .int (nI q))]) hx hb d_M_lowHalf_1 rfl hl (by decide) rfl (fun ls hl => ?_)
  refine lp_lowHalf (B := lhF (Rg q)) (B0 := B) (Rg := Rg)  SF hq (fun i hi => (lhF_bit (Rg q) hi).symm) ?_ 32 0 rfl _ _ ls (by rw [fz_0]; exact M) (lv_sub hl [1, 2, 3, 0] rfl)
  intro H locs ls M hl
  rw [fz_32] at M
  refine lv_aload_n hx hb d_M_lowHalf_45 rfl (lv_at hl 0 rfl) ?_
  refine lv_iload_n hx hb d_M_lowHalf_46 rfl (lv_at hl 1 rfl) ?_
  refine ccV SF M (c_keepFresh l D h cs ln nx la st O Dd Aa Bb k0 k1 k2 k3 k4 Rg (lhF (Rg q)) r hr14) g_M_128 hd_M_keepFresh ⟨Nat.le_of_ble_eq_true rfl, Nat.le_of_ble_eq_true rfl⟩ (ci := 0) rfl rfl hl.1 rfl (Nat.le_of_ble_eq_true rfl) d_M_lowHalf_47 ⟨Nat.zero_le _, Nat.zero_le _⟩ (fun u H locs hu M => ?_)
  exact retV SF hlk hr () trivial M d_M_lowHalf_50
set_option maxHeartbeats 4000000 in
set_option maxRecDepth 100000 in
/-- shift(r, q, o) -/
theorem c_shift (l : Launch) (D : va_G) (h : Nat → Nat) (cs : Nat → ClassId) (ln nx la st : Int32) (O Dd Aa Bb k0 k1 k2 k3 k4 : Nat → Int32) (Rg : Nat → BitVec 32) (B : BitVec 32) (r q : Nat) (o : Int32) (hr14 : r < 14) (hq : q < 14) (ho1 : -64 ≤ o.toInt) (ho2 : o.toInt ≤ 64) : CtV l y_M_shift b_M_shift 6 (rmm 1 22) D (tysM cs) [.ref (h 0), .int (nI r), .int (nI q), .int o] (mW h cs ln nx la st O Dd Aa Bb (bOf Rg) (fOf B) k0 k1 k2 k3 k4) (fun _ : Unit => True) (fun _ => mW h cs ln nx la st O Dd Aa Bb (bOf (upR Rg r (shF (Rg q) o))) (fOf (shF (Rg q) o)) k0 k1 k2 k3 k4) := by
  refine CtV.of R_M (by decide) rfl (Nat.le_of_ble_eq_true rfl) ?_
  intro p e s m args below meth c A ls SF hlk hr M hl
  have hx := SF.1
  have hb := SF.2.1
  have hl : lv_has ls 6 [(0, .ref (h 0)), (1, .int (nI r)), (2, .int (nI q)), (3, .int o)] := hl
  refine lv_iconst hx hb d_M_shift_0 ki_0 ?_
  refine lv_istore (lv' := [(4, .int 0), (0, .ref (h 0)), (1, .int (nI r)), (2, .int (nI q)), (3, .int o)]) hx hb d_M_shift_1 hl (by decide) rfl (fun ls hl => ?_)
  refine lp_shift (B := shF (Rg q) o) (B0 := B) (Rg := Rg)  SF hq ho1 ho2 (fun i hi => (shF_bit (Rg q) o hi).symm) ?_ 32 0 rfl _ _ ls (by rw [fz_0]; exact M) (lv_sub hl [1, 2, 3, 4, 0] rfl)
  intro H locs ls M hl
  rw [fz_32] at M
  refine lv_aload_n hx hb d_M_shift_61 rfl (lv_at hl 0 rfl) ?_
  refine lv_iload_n hx hb d_M_shift_62 rfl (lv_at hl 1 rfl) ?_
  refine ccV SF M (c_keepFresh l D h cs ln nx la st O Dd Aa Bb k0 k1 k2 k3 k4 Rg (shF (Rg q) o) r hr14) g_M_128 hd_M_keepFresh ⟨Nat.le_of_ble_eq_true rfl, Nat.le_of_ble_eq_true rfl⟩ (ci := 0) rfl rfl hl.1 rfl (Nat.le_of_ble_eq_true rfl) d_M_shift_63 ⟨Nat.zero_le _, Nat.zero_le _⟩ (fun u H locs hu M => ?_)
  exact retV SF hlk hr () trivial M d_M_shift_66
set_option maxHeartbeats 4000000 in
set_option maxRecDepth 100000 in
/-- addSerially(r, x, y, v) -/
theorem c_addSerially (l : Launch) (D : va_G) (h : Nat → Nat) (cs : Nat → ClassId) (ln nx la st : Int32) (O Dd Aa Bb k0 k1 k2 k3 k4 : Nat → Int32) (Rg : Nat → BitVec 32) (B : BitVec 32) (r x y : Nat) (v : Bool) (hr14 : r < 14) (hx14 : x < 14) (hy14 : y < 14) : CtV l y_M_addSerially b_M_addSerially 10 (rmm 1 22) D (tysM cs) [.ref (h 0), .int (nI r), .int (nI x), .int (nI y), .int (bI v)] (mW h cs ln nx la st O Dd Aa Bb (bOf Rg) (fOf B) k0 k1 k2 k3 k4) (fun _ : Unit => True) (fun _ => mW h cs ln nx (bI (cyF (Rg x) (Rg y) v 32)) st O Dd Aa Bb (bOf (upR Rg r (adF (Rg x) (Rg y) v))) (fOf (adF (Rg x) (Rg y) v)) k0 k1 k2 k3 k4) := by
  refine CtV.of R_M (by decide) rfl (Nat.le_of_ble_eq_true rfl) ?_
  intro p e s m args below meth c A ls SF hlk hr M hl
  have hx := SF.1
  have hb := SF.2.1
  have hl : lv_has ls 10 [(0, .ref (h 0)), (1, .int (nI r)), (2, .int (nI x)), (3, .int (nI y)), (4, .int (bI v))] := hl
  refine lv_iload hx hb d_M_addSerially_0 (lv_at hl 4 rfl) ?_
  refine lv_istore (lv' := [(5, .int (bI v)), (0, .ref (h 0)), (1, .int (nI r)), (2, .int (nI x)), (3, .int (nI y)), (4, .int (bI v))]) hx hb d_M_addSerially_2 hl (by decide) rfl (fun ls hl => ?_)
  refine lv_iconst hx hb d_M_addSerially_4 ki_0 ?_
  refine lv_istore (lv' := [(6, .int 0), (5, .int (bI v)), (0, .ref (h 0)), (1, .int (nI r)), (2, .int (nI x)), (3, .int (nI y)), (4, .int (bI v))]) hx hb d_M_addSerially_5 hl (by decide) rfl (fun ls hl => ?_)
  refine lp_addSerially (B := adF (Rg x) (Rg y) v) (B0 := B) (Rg := Rg) (x := x) (y := y) (v := v) (x1 := nI r) SF hx14 hy14 rfl ?_ 32 0 rfl _ _ ls (by rw [fz_0]; exact M) (by rw [cyF_0]; exact lv_sub hl [2, 3, 4, 5, 6, 1, 0] rfl)
  intro H locs ls M hl
  rw [fz_32] at M
  refine lv_aload_n hx hb d_M_addSerially_118 rfl (lv_at hl 0 rfl) ?_
  refine lv_iload hx hb d_M_addSerially_119 (lv_at hl 5 rfl) ?_
  refine pM_latch SF M d_M_addSerially_121 (fun H locs M => ?_)
  refine lv_aload_n hx hb d_M_addSerially_124 rfl (lv_at hl 0 rfl) ?_
  refine lv_iload_n hx hb d_M_addSerially_125 rfl (lv_at hl 1 rfl) ?_
  refine ccV SF M (c_keepFresh l D h cs ln nx (bI (cyF (Rg x) (Rg y) v 32)) st O Dd Aa Bb k0 k1 k2 k3 k4 Rg (adF (Rg x) (Rg y) v) r hr14) g_M_128 hd_M_keepFresh ⟨Nat.le_of_ble_eq_true rfl, Nat.le_of_ble_eq_true rfl⟩ (ci := 0) rfl rfl hl.1 rfl (Nat.le_of_ble_eq_true rfl) d_M_addSerially_126 ⟨Nat.zero_le _, Nat.zero_le _⟩ (fun u H locs hu M => ?_)
  exact retV SF hlk hr () trivial M d_M_addSerially_129
set_option maxHeartbeats 4000000 in
set_option maxRecDepth 100000 in
/-- combine(k, r, x, y) -/
theorem c_combine (l : Launch) (D : va_G) (h : Nat → Nat) (cs : Nat → ClassId) (ln nx la st : Int32) (O Dd Aa Bb k0 k1 k2 k3 k4 : Nat → Int32) (Rg : Nat → BitVec 32) (B : BitVec 32) (k : Int32) (r x y : Nat) (hr14 : r < 14) (hx14 : x < 14) (hy14 : y < 14) : CtV l y_M_combine b_M_combine 8 (rmm 1 22) D (tysM cs) [.ref (h 0), .int k, .int (nI r), .int (nI x), .int (nI y)] (mW h cs ln nx la st O Dd Aa Bb (bOf Rg) (fOf B) k0 k1 k2 k3 k4) (fun _ : Unit => True) (fun _ => mW h cs ln nx la st O Dd Aa Bb (bOf (upR Rg r (if k = 3 then Rg x &&& Rg y else if k = 4 then Rg x ||| Rg y else Rg x ^^^ Rg y))) (fOf (if k = 3 then Rg x &&& Rg y else if k = 4 then Rg x ||| Rg y else Rg x ^^^ Rg y)) k0 k1 k2 k3 k4) := by
  refine CtV.of R_M (by decide) rfl (Nat.le_of_ble_eq_true rfl) ?_
  intro p e s m args below meth c A ls SF hlk hr M hl
  have hx := SF.1
  have hb := SF.2.1
  have hl : lv_has ls 8 [(0, .ref (h 0)), (1, .int k), (2, .int (nI r)), (3, .int (nI x)), (4, .int (nI y))] := hl
  refine lv_iconst hx hb d_M_combine_0 ki_0 ?_
  refine lv_istore (lv' := [(5, .int 0), (0, .ref (h 0)), (1, .int k), (2, .int (nI r)), (3, .int (nI x)), (4, .int (nI y))]) hx hb d_M_combine_1 hl (by decide) rfl (fun ls hl => ?_)
  refine lp_combine (B := if k = 3 then Rg x &&& Rg y else if k = 4 then Rg x ||| Rg y else Rg x ^^^ Rg y) (B0 := B) (Rg := Rg) (x := x) (y := y) (k := k) SF hx14 hy14 (fun i hi => by split <;> (try split) <;> simp) ?_ 32 0 rfl _ _ ls (by rw [fz_0]; exact M) (lv_sub hl [1, 2, 3, 4, 5, 0] rfl)
  intro H locs ls M hl
  rw [fz_32] at M
  refine lv_aload_n hx hb d_M_combine_110 rfl (lv_at hl 0 rfl) ?_
  refine lv_iload_n hx hb d_M_combine_111 rfl (lv_at hl 2 rfl) ?_
  refine ccV SF M (c_keepFresh l D h cs ln nx la st O Dd Aa Bb k0 k1 k2 k3 k4 Rg (if k = 3 then Rg x &&& Rg y else if k = 4 then Rg x ||| Rg y else Rg x ^^^ Rg y) r hr14) g_M_128 hd_M_keepFresh ⟨Nat.le_of_ble_eq_true rfl, Nat.le_of_ble_eq_true rfl⟩ (ci := 0) rfl rfl hl.1 rfl (Nat.le_of_ble_eq_true rfl) d_M_combine_112 ⟨Nat.zero_le _, Nat.zero_le _⟩ (fun u H locs hu M => ?_)
  exact retV SF hlk hr () trivial M d_M_combine_115
set_option maxHeartbeats 4000000 in
set_option maxRecDepth 100000 in
/-- isZero(r) -/
theorem c_isZero (l : Launch) (D : va_G) (h : Nat → Nat) (cs : Nat → ClassId) (ln nx la st : Int32) (O Dd Aa Bb k0 k1 k2 k3 k4 : Nat → Int32) (Rg : Nat → BitVec 32) (fr : Nat → Int32) (r : Nat) (hr14 : r < 14) : CtI l y_M_isZero b_M_isZero 3 .boolean (rmm 0 0) D (tysM cs) [.ref (h 0), .int (nI r)] (mW h cs ln nx la st O Dd Aa Bb (bOf Rg) fr k0 k1 k2 k3 k4) (fun (z : Int32) (_ : Unit) => z = bI (decide (Rg r = 0))) (fun _ => mW h cs ln nx la st O Dd Aa Bb (bOf Rg) fr k0 k1 k2 k3 k4) := by
  refine CtI.of R_M (by decide) rfl (Nat.le_of_ble_eq_true rfl) ?_
  intro p e s m args below meth c A ls SF hlk hr M hl
  have hx := SF.1
  have hb := SF.2.1
  have hl : lv_has ls 3 [(0, .ref (h 0)), (1, .int (nI r))] := hl
  refine lv_iconst hx hb d_M_isZero_0 ki_0 ?_
  refine lv_istore_n (lv' := [(2, .int 0), (0, .ref (h 0)), (1, .int (nI r))]) hx hb d_M_isZero_1 rfl hl (by decide) rfl (fun ls hl => ?_)
  refine lp_isZero (Rg := Rg) (r := r) SF hr14 (fun i H locs ls hz M => ?_) (fun H locs ls hz M hl => ?_) 32 0 rfl (fun a ha => absurd ha (Nat.not_lt_zero a)) _ _ ls M (lv_sub hl [1, 2, 0] rfl)
  · refine lv_iconst hx hb d_M_isZero_22 ki_0 ?_
    exact retZ (b := false) SF hlk hr () (by rw [decide_eq_false (zr_no hz)]) M d_M_isZero_23
  · refine lv_iconst hx hb d_M_isZero_30 ki_1 ?_
    exact retZ (b := true) SF hlk hr () (by rw [decide_eq_true (zr_all hz)]) M d_M_isZero_31
set_option maxHeartbeats 4000000 in
set_option maxRecDepth 100000 in
/-- unsigned(r) -/
theorem c_unsigned (l : Launch) (D : va_G) (h : Nat → Nat) (cs : Nat → ClassId) (ln nx la st : Int32) (O Dd Aa Bb k0 k1 k2 k3 k4 : Nat → Int32) (Rg : Nat → BitVec 32) (fr : Nat → Int32) (r : Nat) (hr14 : r < 14) : CtI l y_M_unsigned b_M_unsigned 4 .int (rmm 0 0) D (tysM cs) [.ref (h 0), .int (nI r)] (mW h cs ln nx la st O Dd Aa Bb (bOf Rg) fr k0 k1 k2 k3 k4) (fun (z : Int32) (_ : Unit) => z = nI ((Rg r).toNat % 65536)) (fun _ => mW h cs ln nx la st O Dd Aa Bb (bOf Rg) fr k0 k1 k2 k3 k4) := by
  refine CtI.of R_M (by decide) rfl (Nat.le_of_ble_eq_true rfl) ?_
  intro p e s m args below meth c A ls SF hlk hr M hl
  have hx := SF.1
  have hb := SF.2.1
  have hl : lv_has ls 4 [(0, .ref (h 0)), (1, .int (nI r))] := hl
  refine lv_iconst hx hb d_M_unsigned_0 ki_0 ?_
  refine lv_istore_n (lv' := [(2, .int 0), (0, .ref (h 0)), (1, .int (nI r))]) hx hb d_M_unsigned_1 rfl hl (by decide) rfl (fun ls hl => ?_)
  refine lv_bipush hx hb d_M_unsigned_2 kb_15 ?_
  refine lv_istore_n (lv' := [(3, .int 15), (2, .int 0), (0, .ref (h 0)), (1, .int (nI r))]) hx hb d_M_unsigned_4 rfl hl (by decide) rfl (fun ls hl => ?_)
  refine lp_unsigned (Rg := Rg) (r := r) SF hr14 (fun H locs ls M hl => ?_) 16 (Nat.le_refl 16) _ _ ls M ?_
  · refine lv_iload_n hx hb d_M_unsigned_39 rfl (lv_at hl 2 rfl) ?_
    exact retI SF hlk hr () (by rw [Nat.pow_zero, Nat.div_one]) M d_M_unsigned_40
  · have e0 : nI ((Rg r).toNat % 65536 / 2 ^ 16) = 0 := by rw [Nat.div_eq_of_lt (by omega)]; rfl
    rw [e0]
    exact lv_sub hl [2, 3, 1, 0] rfl
end
section
/-! micro-steps: what one does, what a list of them does -/
abbrev MO : Type := Nat × Nat × Nat × Int32 × Nat
abbrev RS : Type := (Nat → BitVec 32) × Bool
/-- the five arrays hold the list -/
def Holds (P : List MO) (k0 k1 k2 k3 k4 : Nat → Int32) : Prop := ∀ (i : Nat) (x : MO), P[i]? = some x → k0 i = nI x.1 ∧ k1 i = nI x.2.1 ∧ k2 i = nI x.2.2.1 ∧ k3 i = x.2.2.2.1 ∧ k4 i = nI x.2.2.2.2
def cbI (k : Int32) (x y : BitVec 32) : BitVec 32 := if k = 3 then x &&& y else if k = 4 then x ||| y else x ^^^ y
/-- one micro-step: the registers and the latch behind it, and whether it lets the next ones pass -/
def pf (x : MO) (z : RS) : RS × Bool :=
  if x.1 = 8 then (z, (z.1 x.2.2.1).getLsbD x.2.2.2.1.toNatClampNeg)
  else if x.1 = 9 then (z, z.2)
  else if x.1 = 12 then (z, decide (z.1 x.2.2.1 = 0))
  else if x.1 = 10 then ((upR z.1 x.2.1 (z.1 x.2.1 ||| BitVec.twoPow 32 x.2.2.2.1.toNatClampNeg), z.2), true)
  else if x.1 = 11 then ((upR z.1 x.2.1 x.2.2.2.1.toBitVec, z.2), true)
  else if x.1 = 0 then ((upR z.1 x.2.1 (shF (z.1 x.2.2.1) x.2.2.2.1), z.2), true)
  else if x.1 = 6 then ((upR z.1 x.2.1 (wdF (z.1 x.2.2.1)), z.2), true)
  else if x.1 = 7 then ((upR z.1 x.2.1 (lhF (z.1 x.2.2.1)), z.2), true)
  else if x.1 = 1 then ((upR z.1 x.2.1 (adF (z.1 x.2.2.1) (z.1 x.2.2.2.1.toNatClampNeg) false), cyF (z.1 x.2.2.1) (z.1 x.2.2.2.1.toNatClampNeg) false 32), true)
  else if x.1 = 2 then ((upR z.1 x.2.1 (adF (z.1 x.2.2.1) (z.1 x.2.2.2.1.toNatClampNeg) true), cyF (z.1 x.2.2.1) (z.1 x.2.2.2.1.toNatClampNeg) true 32), true)
  else ((upR z.1 x.2.1 (cbI (nI x.1) (z.1 x.2.2.1) (z.1 x.2.2.2.1.toNatClampNeg)), z.2), true)
/-- a micro-step that the unit can carry out -/
def okM (x : MO) : Prop := x.1 ≤ 12 ∧ x.2.1 < 14 ∧ x.2.2.1 < 14 ∧ x.2.2.2.2 < 3 ∧ (x.1 = 8 ∨ x.1 = 10 → ∃ j, j < 32 ∧ x.2.2.2.1 = nI j) ∧ (x.1 = 0 → -64 ≤ x.2.2.2.1.toInt ∧ x.2.2.2.1.toInt ≤ 64) ∧ (1 ≤ x.1 ∧ x.1 ≤ 5 → ∃ j, j < 14 ∧ x.2.2.2.1 = nI j)
/-- a list of them, the first j left out -/
def skl : Nat → List MO → RS → RS
  | _, [], z => z
  | j + 1, _ :: xs, z => skl j xs z
  | 0, x :: xs, z => skl (if (pf x z).2 then 0 else x.2.2.2.2) xs (pf x z).1
theorem skl_drop : ∀ (j : Nat) (xs : List MO) (z : RS), skl j xs z = skl 0 (xs.drop j) z
  | 0, xs, z => by rw [List.drop_zero]
  | j + 1, [], z => by simp [skl]
  | j + 1, x :: xs, z => by
    rw [skl, List.drop_succ_cons]
    exact skl_drop j xs z
theorem skl_at {P : List MO} {a : Nat} {x : MO} (h : P[a]? = some x) (z : RS) : skl 0 (P.drop a) z = skl 0 (P.drop (a + 1 + (if (pf x z).2 then 0 else x.2.2.2.2))) (pf x z).1 := by
  obtain ⟨hl, he⟩ := List.getElem?_eq_some_iff.mp h
  rw [List.drop_eq_getElem_cons hl, he, skl, skl_drop, List.drop_drop]
theorem skl_end {P : List MO} {a : Nat} (h : P.length ≤ a) (z : RS) : skl 0 (P.drop a) z = z := by
  rw [List.drop_eq_nil_of_le h]
  rfl
theorem nI_is {k n : Nat} (hk : k ≤ 200) (hn : n ≤ 200) (h : nI k = nI n) : k = n := (nI_eq (by omega) (by omega)).mp h
end
section
set_option maxHeartbeats 4000000 in
set_option maxRecDepth 100000 in
/-- perform(at): the micro-step at place a -/
theorem c_perform (l : Launch) (D : va_G) (h : Nat → Nat) (cs : Nat → ClassId) (ln nx st : Int32) (O Dd Aa Bb k0 k1 k2 k3 k4 : Nat → Int32) (Rg : Nat → BitVec 32) (B : BitVec 32) (lb : Bool) (a k t f : Nat) (o : Int32) (sk : Nat) (ha : a < 160) (e0 : k0 a = nI k) (e1 : k1 a = nI t) (e2 : k2 a = nI f) (e3 : k3 a = o) (hok : okM (k, t, f, o, sk)) : CtI l y_M_perform b_M_perform 3 .boolean (rmm 2 51) D (tysM cs) [.ref (h 0), .int (nI a)] (mW h cs ln nx (bI lb) st O Dd Aa Bb (bOf Rg) (fOf B) k0 k1 k2 k3 k4) (fun (z : Int32) (_ : BitVec 32) => z = bI (pf (k, t, f, o, sk) (Rg, lb)).2) (fun B2 => mW h cs ln nx (bI (pf (k, t, f, o, sk) (Rg, lb)).1.2) st O Dd Aa Bb (bOf (pf (k, t, f, o, sk) (Rg, lb)).1.1) (fOf B2) k0 k1 k2 k3 k4) := by
  refine CtI.of R_M (by decide) rfl (Nat.le_of_ble_eq_true rfl) ?_
  intro p e s m args below meth c A ls SF hlk hr M hl
  have hx := SF.1
  have hb := SF.2.1
  have hl : lv_has ls 3 [(0, .ref (h 0)), (1, .int (nI a))] := hl
  obtain ⟨ok1, ok2, ok3, ok4, ok5, ok6, ok7⟩ := hok
  dsimp only at e0 e1 e2 e3 ok1 ok2 ok3 ok4 ok5 ok6 ok7
  refine lv_aload_n hx hb d_M_perform_0 rfl (lv_at hl 0 rfl) ?_
  refine gM_kind SF M d_M_perform_1 ?_
  refine lv_iload_n hx hb d_M_perform_4 rfl (lv_at hl 1 rfl) ?_
  refine aM_kind SF M a rfl ha d_M_perform_5 ?_
  rw [e0]
  refine lv_istore_n (lv' := [(2, .int (nI k)), (0, .ref (h 0)), (1, .int (nI a))]) hx hb d_M_perform_6 rfl hl (by decide) rfl (fun ls hl => ?_)
  refine lv_iload_n hx hb d_M_perform_7 rfl (lv_at hl 0 rfl) ?_
  refine lv_bipush hx hb d_M_perform_8 kb_8 ?_
  refine lv_icmp_ne (tgt := 35) hx hb d_M_perform_10 (by decide) (fun c8 => ?_) (fun c8 => ?_)
  · have k8 : ¬ k = 8 := fun q9 => c8 (by rw [q9]; rfl)
    refine lv_iload_n hx hb d_M_perform_35 rfl (lv_at hl 0 rfl) ?_
    refine lv_bipush hx hb d_M_perform_36 kb_9 ?_
    refine lv_icmp_ne (tgt := 46) hx hb d_M_perform_38 (by decide) (fun c9 => ?_) (fun c9 => ?_)
    · have k9 : ¬ k = 9 := fun q9 => c9 (by rw [q9]; rfl)
      refine lv_iload_n hx hb d_M_perform_46 rfl (lv_at hl 0 rfl) ?_
      refine lv_bipush hx hb d_M_perform_47 kb_12 ?_
      refine lv_icmp_ne (tgt := 63) hx hb d_M_perform_49 (by decide) (fun c12 => ?_) (fun c12 => ?_)
      · have k12 : ¬ k = 12 := fun q9 => c12 (by rw [q9]; rfl)
        refine lv_iload_n hx hb d_M_perform_63 rfl (lv_at hl 0 rfl) ?_
        refine lv_bipush hx hb d_M_perform_64 kb_10 ?_
        refine lv_icmp_ne (tgt := 94) hx hb d_M_perform_66 (by decide) (fun c10 => ?_) (fun c10 => ?_)
        · have k10 : ¬ k = 10 := fun q9 => c10 (by rw [q9]; rfl)
          refine lv_iload_n hx hb d_M_perform_94 rfl (lv_at hl 0 rfl) ?_
          refine lv_bipush hx hb d_M_perform_95 kb_11 ?_
          refine lv_icmp_ne (tgt := 119) hx hb d_M_perform_97 (by decide) (fun c11 => ?_) (fun c11 => ?_)
          · have k11 : ¬ k = 11 := fun q9 => c11 (by rw [q9]; rfl)
            refine lv_iload_n hx hb d_M_perform_119 rfl (lv_at hl 0 rfl) ?_
            refine lv_if_ne (tgt := 148) hx hb d_M_perform_120 (by decide) (fun c0 => ?_) (fun c0 => ?_)
            · have kz : ¬ k = 0 := fun q9 => c0 (by rw [q9]; rfl)
              refine lv_iload_n hx hb d_M_perform_148 rfl (lv_at hl 0 rfl) ?_
              refine lv_bipush hx hb d_M_perform_149 kb_6 ?_
              refine lv_icmp_ne (tgt := 173) hx hb d_M_perform_151 (by decide) (fun c6 => ?_) (fun c6 => ?_)
              · have k6 : ¬ k = 6 := fun q9 => c6 (by rw [q9]; rfl)
                refine lv_iload_n hx hb d_M_perform_173 rfl (lv_at hl 0 rfl) ?_
                refine lv_bipush hx hb d_M_perform_174 kb_7 ?_
                refine lv_icmp_ne (tgt := 198) hx hb d_M_perform_176 (by decide) (fun c7 => ?_) (fun c7 => ?_)
                · have k7 : ¬ k = 7 := fun q9 => c7 (by rw [q9]; rfl)
                  refine lv_iload_n hx hb d_M_perform_198 rfl (lv_at hl 0 rfl) ?_
                  refine lv_iconst hx hb d_M_perform_199 ki_1 ?_
                  refine lv_icmp_eq (tgt := 208) hx hb d_M_perform_200 (by decide) (fun c1 => ?_) (fun c1 => ?_)
                  · have hk : k = 1 := nI_is (by omega) (by decide) c1
                    subst hk
                    obtain ⟨j, hj, rfl⟩ := ok7 (by decide)
                    refine lv_aload_n hx hb d_M_perform_208 rfl (lv_at hl 1 rfl) ?_
                    refine lv_aload_n hx hb d_M_perform_209 rfl (lv_at hl 1 rfl) ?_
                    refine gM_to SF M d_M_perform_210 ?_
                    refine lv_iload_n hx hb d_M_perform_213 rfl (lv_at hl 2 rfl) ?_
                    refine aM_to SF M a rfl ha d_M_perform_214 ?_
                    rw [e1]
                    refine lv_aload_n hx hb d_M_perform_215 rfl (lv_at hl 1 rfl) ?_
                    refine gM_from SF M d_M_perform_216 ?_
                    refine lv_iload_n hx hb d_M_perform_219 rfl (lv_at hl 2 rfl) ?_
                    refine aM_from SF M a rfl ha d_M_perform_220 ?_
                    rw [e2]
                    refine lv_aload_n hx hb d_M_perform_221 rfl (lv_at hl 1 rfl) ?_
                    refine gM_other SF M d_M_perform_222 ?_
                    refine lv_iload_n hx hb d_M_perform_225 rfl (lv_at hl 2 rfl) ?_
                    refine aM_other SF M a rfl ha d_M_perform_226 ?_
                    rw [e3]
                    refine lv_iload_n hx hb d_M_perform_227 rfl (lv_at hl 0 rfl) ?_
                    refine lv_iconst hx hb d_M_perform_228 ki_2 ?_
                    refine lv_icmp_ne (tgt := 236) hx hb d_M_perform_229 (by decide) (fun _ => ?_) (fun c9 => absurd c9 (by decide : ¬ nI 1 = 2))
                    refine lv_iconst hx hb d_M_perform_236 ki_0 ?_
                    show W _ _ _ _ _ _ _ _ _ _ _ _ _ _ _ (F0 m _ ls (.int (bI false) :: _))
                    refine ccV SF M (c_addSerially l D h cs ln nx (bI lb) st O Dd Aa Bb k0 k1 k2 k3 k4 Rg B t f j false ok2 ok3 hj) g_M_121 hd_M_addSerially ⟨Nat.le_of_ble_eq_true rfl, Nat.le_of_ble_eq_true rfl⟩ (ci := 0) rfl rfl hl.1 rfl (Nat.le_of_ble_eq_true rfl) d_M_perform_237 ⟨Nat.zero_le _, Nat.zero_le _⟩ (fun u H locs hu M => ?_)
                    refine lv_goto (tgt := 266) hx hb d_M_perform_240 (by decide) ?_
                    refine lv_iconst hx hb d_M_perform_266 ki_1 ?_
                    refine retZ (b := true) SF hlk hr (adF (Rg f) (Rg j) false) rfl ?_ d_M_perform_267
                    show WW _ _ _ _ (mW h cs ln nx (bI (cyF (Rg f) (Rg (nI j).toNatClampNeg) false 32)) st O Dd Aa Bb (bOf (upR Rg t (adF (Rg f) (Rg (nI j).toNatClampNeg) false))) (fOf (adF (Rg f) (Rg j) false)) k0 k1 k2 k3 k4) _ _
                    rw [nI_clamp (by omega)]
                    exact M
                  · have k1n : ¬ k = 1 := fun q9 => c1 (by rw [q9]; rfl)
                    refine lv_iload_n hx hb d_M_perform_203 rfl (lv_at hl 0 rfl) ?_
                    refine lv_iconst hx hb d_M_perform_204 ki_2 ?_
                    refine lv_icmp_ne (tgt := 243) hx hb d_M_perform_205 (by decide) (fun c2 => ?_) (fun c2 => ?_)
                    · have k2n : ¬ k = 2 := fun q9 => c2 (by rw [q9]; rfl)
                      obtain ⟨j, hj, rfl⟩ := ok7 (by omega)
                      refine lv_aload_n hx hb d_M_perform_243 rfl (lv_at hl 1 rfl) ?_
                      refine lv_iload_n hx hb d_M_perform_244 rfl (lv_at hl 0 rfl) ?_
                      refine lv_aload_n hx hb d_M_perform_245 rfl (lv_at hl 1 rfl) ?_
                      refine gM_to SF M d_M_perform_246 ?_
                      refine lv_iload_n hx hb d_M_perform_249 rfl (lv_at hl 2 rfl) ?_
                      refine aM_to SF M a rfl ha d_M_perform_250 ?_
                      rw [e1]
                      refine lv_aload_n hx hb d_M_perform_251 rfl (lv_at hl 1 rfl) ?_
                      refine gM_from SF M d_M_perform_252 ?_
                      refine lv_iload_n hx hb d_M_perform_255 rfl (lv_at hl 2 rfl) ?_
                      refine aM_from SF M a rfl ha d_M_perform_256 ?_
                      rw [e2]
                      refine lv_aload_n hx hb d_M_perform_257 rfl (lv_at hl 1 rfl) ?_
                      refine gM_other SF M d_M_perform_258 ?_
                      refine lv_iload_n hx hb d_M_perform_261 rfl (lv_at hl 2 rfl) ?_
                      refine aM_other SF M a rfl ha d_M_perform_262 ?_
                      rw [e3]
                      refine ccV SF M (c_combine l D h cs ln nx (bI lb) st O Dd Aa Bb k0 k1 k2 k3 k4 Rg B (nI k) t f j ok2 ok3 hj) g_M_125 hd_M_combine ⟨Nat.le_of_ble_eq_true rfl, Nat.le_of_ble_eq_true rfl⟩ (ci := 0) rfl rfl hl.1 rfl (Nat.le_of_ble_eq_true rfl) d_M_perform_263 ⟨Nat.zero_le _, Nat.zero_le _⟩ (fun u H locs hu M => ?_)
                      refine lv_iconst hx hb d_M_perform_266 ki_1 ?_
                      refine retZ (b := true) SF hlk hr (cbI (nI k) (Rg f) (Rg j)) ?_ ?_ d_M_perform_267
                      · simp only [pf, k8, k9, k12, k10, k11, kz, k6, k7, k1n, k2n, if_false]
                      · simp only [pf, k8, k9, k12, k10, k11, kz, k6, k7, k1n, k2n, if_false]
                        rw [nI_clamp (by omega)]
                        exact M
                    · have hk : k = 2 := nI_is (by omega) (by decide) c2
                      subst hk
                      obtain ⟨j, hj, rfl⟩ := ok7 (by decide)
                      refine lv_aload_n hx hb d_M_perform_208 rfl (lv_at hl 1 rfl) ?_
                      refine lv_aload_n hx hb d_M_perform_209 rfl (lv_at hl 1 rfl) ?_
                      refine gM_to SF M d_M_perform_210 ?_
                      refine lv_iload_n hx hb d_M_perform_213 rfl (lv_at hl 2 rfl) ?_
                      refine aM_to SF M a rfl ha d_M_perform_214 ?_
                      rw [e1]
                      refine lv_aload_n hx hb d_M_perform_215 rfl (lv_at hl 1 rfl) ?_
                      refine gM_from SF M d_M_perform_216 ?_
                      refine lv_iload_n hx hb d_M_perform_219 rfl (lv_at hl 2 rfl) ?_
                      refine aM_from SF M a rfl ha d_M_perform_220 ?_
                      rw [e2]
                      refine lv_aload_n hx hb d_M_perform_221 rfl (lv_at hl 1 rfl) ?_
                      refine gM_other SF M d_M_perform_222 ?_
                      refine lv_iload_n hx hb d_M_perform_225 rfl (lv_at hl 2 rfl) ?_
                      refine aM_other SF M a rfl ha d_M_perform_226 ?_
                      rw [e3]
                      refine lv_iload_n hx hb d_M_perform_227 rfl (lv_at hl 0 rfl) ?_
                      refine lv_iconst hx hb d_M_perform_228 ki_2 ?_
                      refine lv_icmp_ne (tgt := 236) hx hb d_M_perform_229 (by decide) (fun c9 => absurd (rfl : nI 2 = 2) c9) (fun _ => ?_)
                      refine lv_iconst hx hb d_M_perform_232 ki_1 ?_
                      refine lv_goto (tgt := 237) hx hb d_M_perform_233 (by decide) ?_
                      show W _ _ _ _ _ _ _ _ _ _ _ _ _ _ _ (F0 m _ ls (.int (bI true) :: _))
                      refine ccV SF M (c_addSerially l D h cs ln nx (bI lb) st O Dd Aa Bb k0 k1 k2 k3 k4 Rg B t f j true ok2 ok3 hj) g_M_121 hd_M_addSerially ⟨Nat.le_of_ble_eq_true rfl, Nat.le_of_ble_eq_true rfl⟩ (ci := 0) rfl rfl hl.1 rfl (Nat.le_of_ble_eq_true rfl) d_M_perform_237 ⟨Nat.zero_le _, Nat.zero_le _⟩ (fun u H locs hu M => ?_)
                      refine lv_goto (tgt := 266) hx hb d_M_perform_240 (by decide) ?_
                      refine lv_iconst hx hb d_M_perform_266 ki_1 ?_
                      refine retZ (b := true) SF hlk hr (adF (Rg f) (Rg j) true) rfl ?_ d_M_perform_267
                      show WW _ _ _ _ (mW h cs ln nx (bI (cyF (Rg f) (Rg (nI j).toNatClampNeg) true 32)) st O Dd Aa Bb (bOf (upR Rg t (adF (Rg f) (Rg (nI j).toNatClampNeg) true))) (fOf (adF (Rg f) (Rg j) true)) k0 k1 k2 k3 k4) _ _
                      rw [nI_clamp (by omega)]
                      exact M
                · have hk : k = 7 := nI_is (by omega) (by decide) c7
                  subst hk
                  refine lv_aload_n hx hb d_M_perform_179 rfl (lv_at hl 1 rfl) ?_
                  refine lv_aload_n hx hb d_M_perform_180 rfl (lv_at hl 1 rfl) ?_
                  refine gM_to SF M d_M_perform_181 ?_
                  refine lv_iload_n hx hb d_M_perform_184 rfl (lv_at hl 2 rfl) ?_
                  refine aM_to SF M a rfl ha d_M_perform_185 ?_
                  rw [e1]
                  refine lv_aload_n hx hb d_M_perform_186 rfl (lv_at hl 1 rfl) ?_
                  refine gM_from SF M d_M_perform_187 ?_
                  refine lv_iload_n hx hb d_M_perform_190 rfl (lv_at hl 2 rfl) ?_
                  refine aM_from SF M a rfl ha d_M_perform_191 ?_
                  rw [e2]
                  refine ccV SF M (c_lowHalf l D h cs ln nx (bI lb) st O Dd Aa Bb k0 k1 k2 k3 k4 Rg B t f ok2 ok3) g_M_118 hd_M_lowHalf ⟨Nat.le_of_ble_eq_true rfl, Nat.le_of_ble_eq_true rfl⟩ (ci := 0) rfl rfl hl.1 rfl (Nat.le_of_ble_eq_true rfl) d_M_perform_192 ⟨Nat.zero_le _, Nat.zero_le _⟩ (fun u H locs hu M => ?_)
                  refine lv_goto (tgt := 266) hx hb d_M_perform_195 (by decide) ?_
                  refine lv_iconst hx hb d_M_perform_266 ki_1 ?_
                  exact retZ (b := true) SF hlk hr (lhF (Rg f)) rfl M d_M_perform_267
              · have hk : k = 6 := nI_is (by omega) (by decide) c6
                subst hk
                refine lv_aload_n hx hb d_M_perform_154 rfl (lv_at hl 1 rfl) ?_
                refine lv_aload_n hx hb d_M_perform_155 rfl (lv_at hl 1 rfl) ?_
                refine gM_to SF M d_M_perform_156 ?_
                refine lv_iload_n hx hb d_M_perform_159 rfl (lv_at hl 2 rfl) ?_
                refine aM_to SF M a rfl ha d_M_perform_160 ?_
                rw [e1]
                refine lv_aload_n hx hb d_M_perform_161 rfl (lv_at hl 1 rfl) ?_
                refine gM_from SF M d_M_perform_162 ?_
                refine lv_iload_n hx hb d_M_perform_165 rfl (lv_at hl 2 rfl) ?_
                refine aM_from SF M a rfl ha d_M_perform_166 ?_
                rw [e2]
                refine ccV SF M (c_widen l D h cs ln nx (bI lb) st O Dd Aa Bb k0 k1 k2 k3 k4 Rg B t f ok2 ok3) g_M_55 hd_M_widen ⟨Nat.le_of_ble_eq_true rfl, Nat.le_of_ble_eq_true rfl⟩ (ci := 0) rfl rfl hl.1 rfl (Nat.le_of_ble_eq_true rfl) d_M_perform_167 ⟨Nat.zero_le _, Nat.zero_le _⟩ (fun u H locs hu M => ?_)
                refine lv_goto (tgt := 266) hx hb d_M_perform_170 (by decide) ?_
                refine lv_iconst hx hb d_M_perform_266 ki_1 ?_
                exact retZ (b := true) SF hlk hr (wdF (Rg f)) rfl M d_M_perform_267
            · have hk : k = 0 := nI_is (by omega) (by decide) c0
              subst hk
              refine lv_aload_n hx hb d_M_perform_123 rfl (lv_at hl 1 rfl) ?_
              refine lv_aload_n hx hb d_M_perform_124 rfl (lv_at hl 1 rfl) ?_
              refine gM_to SF M d_M_perform_125 ?_
              refine lv_iload_n hx hb d_M_perform_128 rfl (lv_at hl 2 rfl) ?_
              refine aM_to SF M a rfl ha d_M_perform_129 ?_
              rw [e1]
              refine lv_aload_n hx hb d_M_perform_130 rfl (lv_at hl 1 rfl) ?_
              refine gM_from SF M d_M_perform_131 ?_
              refine lv_iload_n hx hb d_M_perform_134 rfl (lv_at hl 2 rfl) ?_
              refine aM_from SF M a rfl ha d_M_perform_135 ?_
              rw [e2]
              refine lv_aload_n hx hb d_M_perform_136 rfl (lv_at hl 1 rfl) ?_
              refine gM_other SF M d_M_perform_137 ?_
              refine lv_iload_n hx hb d_M_perform_140 rfl (lv_at hl 2 rfl) ?_
              refine aM_other SF M a rfl ha d_M_perform_141 ?_
              rw [e3]
              refine ccV SF M (c_shift l D h cs ln nx (bI lb) st O Dd Aa Bb k0 k1 k2 k3 k4 Rg B t f o ok2 ok3 (ok6 rfl).1 (ok6 rfl).2) g_M_114 hd_M_shift ⟨Nat.le_of_ble_eq_true rfl, Nat.le_of_ble_eq_true rfl⟩ (ci := 0) rfl rfl hl.1 rfl (Nat.le_of_ble_eq_true rfl) d_M_perform_142 ⟨Nat.zero_le _, Nat.zero_le _⟩ (fun u H locs hu M => ?_)
              refine lv_goto (tgt := 266) hx hb d_M_perform_145 (by decide) ?_
              refine lv_iconst hx hb d_M_perform_266 ki_1 ?_
              exact retZ (b := true) SF hlk hr (shF (Rg f) o) rfl M d_M_perform_267
          · have hk : k = 11 := nI_is (by omega) (by decide) c11
            subst hk
            refine lv_aload_n hx hb d_M_perform_100 rfl (lv_at hl 1 rfl) ?_
            refine lv_aload_n hx hb d_M_perform_101 rfl (lv_at hl 1 rfl) ?_
            refine gM_to SF M d_M_perform_102 ?_
            refine lv_iload_n hx hb d_M_perform_105 rfl (lv_at hl 2 rfl) ?_
            refine aM_to SF M a rfl ha d_M_perform_106 ?_
            rw [e1]
            refine lv_aload_n hx hb d_M_perform_107 rfl (lv_at hl 1 rfl) ?_
            refine gM_other SF M d_M_perform_108 ?_
            refine lv_iload_n hx hb d_M_perform_111 rfl (lv_at hl 2 rfl) ?_
            refine aM_other SF M a rfl ha d_M_perform_112 ?_
            rw [e3]
            refine ccV SF M (c_loadConstant l D h cs ln nx (bI lb) st O Dd Aa Bb k0 k1 k2 k3 k4 Rg (fOf B) t o ok2) g_M_51 hd_M_loadConstant ⟨Nat.le_of_ble_eq_true rfl, Nat.le_of_ble_eq_true rfl⟩ (ci := 0) rfl rfl hl.1 rfl (Nat.le_of_ble_eq_true rfl) d_M_perform_113 ⟨Nat.zero_le _, Nat.zero_le _⟩ (fun u H locs hu M => ?_)
            refine lv_goto (tgt := 266) hx hb d_M_perform_116 (by decide) ?_
            refine lv_iconst hx hb d_M_perform_266 ki_1 ?_
            exact retZ (b := true) SF hlk hr (B) rfl M d_M_perform_267
        · have hk : k = 10 := nI_is (by omega) (by decide) c10
          subst hk
          obtain ⟨j, hj, rfl⟩ := ok5 (Or.inr rfl)
          refine lv_aload_n hx hb d_M_perform_69 rfl (lv_at hl 1 rfl) ?_
          refine gM_bit SF M d_M_perform_70 ?_
          refine lv_bipush hx hb d_M_perform_73 kb_32 ?_
          refine lv_aload_n hx hb d_M_perform_75 rfl (lv_at hl 1 rfl) ?_
          refine gM_to SF M d_M_perform_76 ?_
          refine lv_iload_n hx hb d_M_perform_79 rfl (lv_at hl 2 rfl) ?_
          refine aM_to SF M a rfl ha d_M_perform_80 ?_
          rw [e1]
          refine lv_imul hx hb d_M_perform_81 ?_
          refine lv_aload_n hx hb d_M_perform_82 rfl (lv_at hl 1 rfl) ?_
          refine gM_other SF M d_M_perform_83 ?_
          refine lv_iload_n hx hb d_M_perform_86 rfl (lv_at hl 2 rfl) ?_
          refine aM_other SF M a rfl ha d_M_perform_87 ?_
          rw [e3]
          refine lv_iadd hx hb d_M_perform_88 ?_
          refine lv_iconst hx hb d_M_perform_89 ki_1 ?_
          show W _ _ _ _ _ _ _ _ _ _ _ _ _ _ _ (F0 m _ ls (.int (bI true) :: _))
          refine sM_bit SF M (32 * t + j) (ix32 t j) (by omega) d_M_perform_90 (fun H locs M => ?_)
          rw [bOf_set hj] at M
          refine lv_goto (tgt := 266) hx hb d_M_perform_91 (by decide) ?_
          refine lv_iconst hx hb d_M_perform_266 ki_1 ?_
          refine retZ (b := true) SF hlk hr B rfl ?_ d_M_perform_267
          show WW _ _ _ _ (mW h cs ln nx (bI lb) st O Dd Aa Bb (bOf (upR Rg t (Rg t ||| BitVec.twoPow 32 (nI j).toNatClampNeg))) (fOf B) k0 k1 k2 k3 k4) _ _
          rw [nI_clamp (by omega)]
          exact M
      · have hk : k = 12 := nI_is (by omega) (by decide) c12
        subst hk
        refine lv_aload_n hx hb d_M_perform_52 rfl (lv_at hl 1 rfl) ?_
        refine lv_aload_n hx hb d_M_perform_53 rfl (lv_at hl 1 rfl) ?_
        refine gM_from SF M d_M_perform_54 ?_
        refine lv_iload_n hx hb d_M_perform_57 rfl (lv_at hl 2 rfl) ?_
        refine aM_from SF M a rfl ha d_M_perform_58 ?_
        rw [e2]
        refine ccI SF M (c_isZero l D h cs ln nx (bI lb) st O Dd Aa Bb k0 k1 k2 k3 k4 Rg (fOf B) f ok3) g_M_68 hd_M_isZero ⟨Nat.le_of_ble_eq_true rfl, Nat.le_of_ble_eq_true rfl⟩ (ci := 0) rfl rfl hl.1 rfl (Nat.le_of_ble_eq_true rfl) d_M_perform_59 ⟨Nat.zero_le _, Nat.zero_le _⟩ (fun r u H locs hu M => ?_)
        subst hu
        exact retZ SF hlk hr B rfl M d_M_perform_62
    · have hk : k = 9 := nI_is (by omega) (by decide) c9
      subst hk
      refine lv_aload_n hx hb d_M_perform_41 rfl (lv_at hl 1 rfl) ?_
      refine gM_latch SF M d_M_perform_42 ?_
      exact retZ SF hlk hr B rfl M d_M_perform_45
  · have hk : k = 8 := nI_is (by omega) (by decide) c8
    subst hk
    obtain ⟨j, hj, rfl⟩ := ok5 (Or.inl rfl)
    refine lv_aload_n hx hb d_M_perform_13 rfl (lv_at hl 1 rfl) ?_
    refine gM_bit SF M d_M_perform_14 ?_
    refine lv_bipush hx hb d_M_perform_17 kb_32 ?_
    refine lv_aload_n hx hb d_M_perform_19 rfl (lv_at hl 1 rfl) ?_
    refine gM_from SF M d_M_perform_20 ?_
    refine lv_iload_n hx hb d_M_perform_23 rfl (lv_at hl 2 rfl) ?_
    refine aM_from SF M a rfl ha d_M_perform_24 ?_
    rw [e2]
    refine lv_imul hx hb d_M_perform_25 ?_
    refine lv_aload_n hx hb d_M_perform_26 rfl (lv_at hl 1 rfl) ?_
    refine gM_other SF M d_M_perform_27 ?_
    refine lv_iload_n hx hb d_M_perform_30 rfl (lv_at hl 2 rfl) ?_
    refine aM_other SF M a rfl ha d_M_perform_31 ?_
    rw [e3]
    refine lv_iadd hx hb d_M_perform_32 ?_
    refine aM_bit SF M (32 * f + j) (ix32 f j) (by omega) d_M_perform_33 ?_
    rw [bOf_at Rg f hj]
    refine retZ SF hlk hr B ?_ M d_M_perform_34
    show bI _ = bI ((Rg f).getLsbD (nI j).toNatClampNeg)
    rw [nI_clamp (by omega)]
end
section
section PerfAll
variable {p : Program} {l : Launch} {e : Env} {R : Room} {s : State} {m : MethodId} {args : Array Value} {below : List Frame} {meth : Method} {c : Code} {cells slots : Nat} {Q : State → Prop}
variable {D : va_G} {A : Nat → Prop} {h : Nat → Nat} {cs : Nat → ClassId}
variable {ln nx la st : Int32} {O Dd Aa Bb bt fr k0 k1 k2 k3 k4 : Nat → Int32}
set_option maxHeartbeats 4000000 in
set_option maxRecDepth 100000 in
theorem lp_performAll (SF : CallFix p m c b_M_performAll 4 s args mt_tbl R_M) (hR : 3 ≤ R.frames ∧ 73 ≤ R.locals) {P : List MO} {zf : RS} (hlen : P.length ≤ 160) (hH : Holds P k0 k1 k2 k3 k4) (hok : ∀ x ∈ P, okM x)
    (kx : ∀ (B : BitVec 32) (H : Heap) (locs : List Loc) (ls : Array Slot), WW D (tysM cs) A s (mW h cs ln nx (bI (zf).2) (nI P.length) O Dd Aa Bb (bOf (zf).1) (fOf B) k0 k1 k2 k3 k4) H locs → W p l e R s m args below meth c H locs 0 0 Q (F0 m 50 ls [])) :
    ∀ (n a q : Nat) (z : RS) (B : BitVec 32), P.length ≤ a + n → q ≤ a → a ≤ P.length + 3 → skl 0 (P.drop a) z = zf → ∀ (H : Heap) (locs : List Loc) (ls : Array Slot), WW D (tysM cs) A s (mW h cs ln nx (bI (z).2) (nI P.length) O Dd Aa Bb (bOf (z).1) (fOf B) k0 k1 k2 k3 k4) H locs → lv_has ls 4 [(0, .ref (h 0)), (1, .int (nI a)), (2, .int (nI q))] → W p l e R s m args below meth c H locs 0 0 Q (F0 m 4 ls []) := by
  have hx := SF.1
  have hb := SF.2.1
  intro n
  induction n with
  | zero =>
    intro a q z B h1 h2 h3 hz H locs ls M hl
    rw [Nat.add_zero] at h1
    rw [skl_end h1] at hz
    subst hz
    refine lv_iload_n hx hb d_M_performAll_4 rfl (lv_at hl 2 rfl) ?_
    refine lv_sipush hx hb d_M_performAll_5 ks_160 ?_
    refine lv_icmp_ge (tgt := 50) hx hb d_M_performAll_8 (by decide) (fun c8 => ?_) (fun c8 => ?_)
    · exact kx B H locs ls M
    · refine lv_iload_n hx hb d_M_performAll_11 rfl (lv_at hl 1 rfl) ?_
      refine lv_aload_n hx hb d_M_performAll_12 rfl (lv_at hl 0 rfl) ?_
      refine gM_steps SF M d_M_performAll_13 ?_
      refine lv_icmp_ge (tgt := 50) hx hb d_M_performAll_16 (by decide) (fun _ => ?_) (fun c9 => absurd (nI_le h1 (by omega) : nI P.length ≤ nI a) c9)
      exact kx B H locs ls M
  | succ n ih =>
    intro a q z B h1 h2 h3 hz H locs ls M hl
    rcases Nat.lt_or_ge a P.length with ha | ha
    · obtain ⟨x, hxa⟩ : ∃ x, P[a]? = some x := ⟨_, List.getElem?_eq_getElem ha⟩
      obtain ⟨e0, e1, e2, e3, e4⟩ := hH a x hxa
      have hokx := hok x (List.mem_of_getElem? hxa)
      rw [skl_at hxa] at hz
      obtain ⟨k, t, f, o, sk⟩ := x
      have hsk : sk < 3 := hokx.2.2.2.1
      dsimp only at e0 e1 e2 e3 e4 hz
      refine lv_iload_n hx hb d_M_performAll_4 rfl (lv_at hl 2 rfl) ?_
      refine lv_sipush hx hb d_M_performAll_5 ks_160 ?_
      refine lv_icmp_ge (tgt := 50) hx hb d_M_performAll_8 (by decide) (fun c9 => absurd c9 (nI_ge (by omega) (by decide) : ¬ nI 160 ≤ nI q)) (fun _ => ?_)
      refine lv_iload_n hx hb d_M_performAll_11 rfl (lv_at hl 1 rfl) ?_
      refine lv_aload_n hx hb d_M_performAll_12 rfl (lv_at hl 0 rfl) ?_
      refine gM_steps SF M d_M_performAll_13 ?_
      refine lv_icmp_ge (tgt := 50) hx hb d_M_performAll_16 (by decide) (fun c9 => absurd c9 (nI_ge ha (by omega) : ¬ nI P.length ≤ nI a)) (fun _ => ?_)
      refine lv_aload_n hx hb d_M_performAll_19 rfl (lv_at hl 0 rfl) ?_
      refine lv_iload_n hx hb d_M_performAll_20 rfl (lv_at hl 1 rfl) ?_
      refine ccI SF M (c_perform l D h cs ln nx (nI P.length) O Dd Aa Bb k0 k1 k2 k3 k4 z.1 B z.2 a k t f o sk (by omega) e0 e1 e2 e3 hokx) g_M_107 hd_M_perform hR (ci := 0) rfl rfl hl.1 rfl (Nat.le_of_ble_eq_true rfl) d_M_performAll_21 ⟨Nat.zero_le _, Nat.zero_le _⟩ (fun r B2 H locs hu M => ?_)
      have M : WW D (tysM cs) A s (mW h cs ln nx (bI ((pf (k, t, f, o, sk) z).1).2) (nI P.length) O Dd Aa Bb (bOf ((pf (k, t, f, o, sk) z).1).1) (fOf B2) k0 k1 k2 k3 k4) H locs := M
      generalize hpb : (pf (k, t, f, o, sk) z).2 = pb at hu hz
      generalize (pf (k, t, f, o, sk) z).1 = z2 at hz M
      subst hu
      refine lv_istore_n (lv' := [(3, .int (bI pb)), (0, .ref (h 0)), (1, .int (nI a)), (2, .int (nI q))]) hx hb d_M_performAll_24 rfl hl (by decide) rfl (fun ls hl => ?_)
      refine lv_iload_n hx hb d_M_performAll_25 rfl (lv_at hl 2 rfl) ?_
      refine lv_iload_n hx hb d_M_performAll_26 rfl (lv_at hl 0 rfl) ?_
      cases pb
      · refine lv_if_eq (tgt := 34) hx hb d_M_performAll_27 (by decide) (fun _ => ?_) (fun c9 => absurd (rfl : (0 : Int32) = 0) c9)
        refine lv_iconst hx hb d_M_performAll_34 ki_1 ?_
        refine lv_aload_n hx hb d_M_performAll_35 rfl (lv_at hl 1 rfl) ?_
        refine gM_skip SF M d_M_performAll_36 ?_
        refine lv_iload_n hx hb d_M_performAll_39 rfl (lv_at hl 2 rfl) ?_
        refine aM_skip SF M a rfl (by omega) d_M_performAll_40 ?_
        rw [e4]
        refine lv_iadd hx hb d_M_performAll_41 ?_
        refine lv_iadd hx hb d_M_performAll_42 ?_
        rw [show nI a + (1 + nI sk) = nI (a + 1 + sk) by rw [show (1 : Int32) = nI 1 from rfl, nI_add, nI_add, Nat.add_assoc]]
        refine lv_istore_n (lv' := [(1, .int (nI (a + 1 + sk))), (3, .int (bI false)), (0, .ref (h 0)), (2, .int (nI q))]) hx hb d_M_performAll_43 rfl hl (by decide) rfl (fun ls hl => ?_)
        refine lv_iinc (v := nI (q + 1)) (lv' := [(2, .int (nI (q + 1))), (1, .int (nI (a + 1 + sk))), (3, .int (bI false)), (0, .ref (h 0))]) hx hb d_M_performAll_44 hl (k := 3) rfl (nI_1 _) (by decide) rfl (fun ls hl => ?_)
        refine lv_goto (tgt := 4) hx hb d_M_performAll_47 (by decide) ?_
        exact ih (a + 1 + sk) (q + 1) z2 B2 (by omega) (by omega) (by omega) hz H locs ls M (lv_sub hl [3, 1, 0] rfl)
      · refine lv_if_eq (tgt := 34) hx hb d_M_performAll_27 (by decide) (fun c9 => absurd c9 (by decide : ¬ (1 : Int32) = 0)) (fun _ => ?_)
        refine lv_iconst hx hb d_M_performAll_30 ki_1 ?_
        refine lv_goto (tgt := 42) hx hb d_M_performAll_31 (by decide) ?_
        refine lv_iadd hx hb d_M_performAll_42 ?_
        rw [nI_1]
        refine lv_istore_n (lv' := [(1, .int (nI (a + 1))), (3, .int (bI true)), (0, .ref (h 0)), (2, .int (nI q))]) hx hb d_M_performAll_43 rfl hl (by decide) rfl (fun ls hl => ?_)
        refine lv_iinc (v := nI (q + 1)) (lv' := [(2, .int (nI (q + 1))), (1, .int (nI (a + 1))), (3, .int (bI true)), (0, .ref (h 0))]) hx hb d_M_performAll_44 hl (k := 3) rfl (nI_1 _) (by decide) rfl (fun ls hl => ?_)
        refine lv_goto (tgt := 4) hx hb d_M_performAll_47 (by decide) ?_
        exact ih (a + 1) (q + 1) z2 B2 (by omega) (by omega) (by omega) hz H locs ls M (lv_sub hl [3, 1, 0] rfl)
    · rw [skl_end ha] at hz
      subst hz
      have h1 := ha
      refine lv_iload_n hx hb d_M_performAll_4 rfl (lv_at hl 2 rfl) ?_
      refine lv_sipush hx hb d_M_performAll_5 ks_160 ?_
      refine lv_icmp_ge (tgt := 50) hx hb d_M_performAll_8 (by decide) (fun c8 => ?_) (fun c8 => ?_)
      · exact kx B H locs ls M
      · refine lv_iload_n hx hb d_M_performAll_11 rfl (lv_at hl 1 rfl) ?_
        refine lv_aload_n hx hb d_M_performAll_12 rfl (lv_at hl 0 rfl) ?_
        refine gM_steps SF M d_M_performAll_13 ?_
        refine lv_icmp_ge (tgt := 50) hx hb d_M_performAll_16 (by decide) (fun _ => ?_) (fun c9 => absurd (nI_le h1 (by omega) : nI P.length ≤ nI a) c9)
        exact kx B H locs ls M
end PerfAll
set_option maxHeartbeats 4000000 in
set_option maxRecDepth 100000 in
/-- performAll(): the whole list -/
theorem c_performAll (l : Launch) (D : va_G) (h : Nat → Nat) (cs : Nat → ClassId) (ln nx : Int32) (O Dd Aa Bb k0 k1 k2 k3 k4 : Nat → Int32) (Rg : Nat → BitVec 32) (B : BitVec 32) (lb : Bool) (P : List MO) (hlen : P.length ≤ 160) (hH : Holds P k0 k1 k2 k3 k4) (hok : ∀ x ∈ P, okM x) : CtV l y_M_performAll b_M_performAll 4 (rmm 3 73) D (tysM cs) [.ref (h 0)] (mW h cs ln nx (bI lb) (nI P.length) O Dd Aa Bb (bOf Rg) (fOf B) k0 k1 k2 k3 k4) (fun _ : BitVec 32 => True) (fun B2 => mW h cs ln nx (bI (skl 0 P (Rg, lb)).2) (nI P.length) O Dd Aa Bb (bOf (skl 0 P (Rg, lb)).1) (fOf B2) k0 k1 k2 k3 k4) := by
  refine CtV.of R_M (by decide) rfl (Nat.le_of_ble_eq_true rfl) ?_
  intro p e s m args below meth c A ls SF hlk hr M hl
  have hx := SF.1
  have hb := SF.2.1
  have hl : lv_has ls 4 [(0, .ref (h 0))] := hl
  refine lv_iconst hx hb d_M_performAll_0 ki_0 ?_
  refine lv_istore_n (lv' := [(1, .int 0), (0, .ref (h 0))]) hx hb d_M_performAll_1 rfl hl (by decide) rfl (fun ls hl => ?_)
  refine lv_iconst hx hb d_M_performAll_2 ki_0 ?_
  refine lv_istore_n (lv' := [(2, .int 0), (1, .int 0), (0, .ref (h 0))]) hx hb d_M_performAll_3 rfl hl (by decide) rfl (fun ls hl => ?_)
  refine lp_performAll (P := P) (zf := skl 0 P (Rg, lb)) SF ⟨Nat.le_of_ble_eq_true rfl, Nat.le_of_ble_eq_true rfl⟩ hlen hH hok (fun B2 H locs ls M => ?_) P.length 0 0 (Rg, lb) B (by omega) (Nat.le_refl 0) (by omega) (by rw [List.drop_zero]) _ _ ls M (lv_sub hl [2, 1, 0] rfl)
  exact retV SF hlk hr B2 trivial M d_M_performAll_50
end
section
/-! the micro-programs of the lines -/
def pB : Nat → Nat → List MO
  | _, 0 => []
  | i, n + 1 => [(8, 0, 9, nI i, 1), (1, 10, 10, nI 8, 0), (0, 8, 8, 1, 0)] ++ pB (i + 1) n
def prodP (x y : Nat) : List MO := [(0, 8, x, 0, 0), (0, 9, y, 0, 0), (11, 10, 0, 0, 0)] ++ pB 0 32
def amtP (t x : Nat) : List MO := [(0, t, x, 0, 0), (8, 0, x, nI 31, 1), (2, t, 13, nI x, 0)]
def qB : Nat → List MO
  | 0 => []
  | n + 1 => [(0, 10, 10, 1, 0), (8, 0, 8, nI n, 1), (10, 10, 0, 0, 0), (2, 12, 10, nI 9, 0), (9, 0, 0, 0, 2), (0, 10, 12, 0, 0), (10, 11, 0, nI n, 0)] ++ qB n
def quoP (x y : Nat) : List MO := [(11, 13, 0, 0, 0)] ++ amtP 8 x ++ amtP 9 y ++ [(11, 10, 0, 0, 0), (11, 11, 0, 0, 0)] ++ qB 16
def finP (o d x y : Nat) : List MO := if o = 6 then [(12, 0, 9, 0, 1), (11, 11, 0, 0, 0), (5, 12, x, nI y, 0), (8, 0, 12, nI 31, 1), (2, 11, 13, nI 11, 0), (6, d, 11, 0, 0)] else [(8, 0, x, nI 31, 1), (2, 10, 13, nI 10, 0), (6, d, 10, 0, 0)]
def cmpP (o d x y : Nat) : List MO := [(11, 9, 0, 0, 0)] ++ (if o = 13 then [(2, 8, x, nI y, 0), (8, 0, 8, nI 31, 1)] else [(5, 8, x, nI y, 0), (12, 0, 8, 0, 1)]) ++ [(10, 9, 0, 0, 0), (6, d, 9, 0, 0)]
def rB : Nat → List MO
  | 0 => []
  | n + 1 => [(0, 9, 9, 2, 0), (8, 0, 8, nI (2 * n + 1), 1), (10, 9, 0, 1, 0), (8, 0, 8, nI (2 * n), 1), (10, 9, 0, 0, 0), (0, 11, 10, 2, 0), (10, 11, 0, 0, 0), (0, 10, 10, 1, 0), (2, 12, 9, nI 11, 0), (9, 0, 0, 0, 2), (0, 9, 12, 0, 0), (10, 10, 0, 0, 0)] ++ rB n
def rootP (x : Nat) : List MO := [(7, 8, x, 0, 0), (11, 9, 0, 0, 0), (11, 10, 0, 0, 0)] ++ rB 8
def oB (x : Nat) : Nat → Nat → List MO
  | _, 0 => []
  | i, n + 1 => [(8, 0, x, nI i, 1), (1, 8, 8, nI 9, 0)] ++ oB x (i + 1) n
def onesP (x : Nat) : List MO := [(11, 8, 0, 0, 0), (11, 9, 0, 1, 0)] ++ oB x 0 16
def progOf (o d x y b : Nat) (a : Int32) : List MO :=
  if o = 0 then [(11, 8, 0, a, 0), (6, d, 8, 0, 0)]
  else if o = 1 then [(6, d, x, 0, 0)]
  else if o = 2 ∨ o = 3 then [(if o = 2 then 1 else 2, 8, x, nI y, 0), (6, d, 8, 0, 0)]
  else if o = 4 ∨ o = 5 then prodP x y ++ [(0, 10, 10, if o = 4 then 0 else -16, 0), (6, d, 10, 0, 0)]
  else if o = 6 ∨ o = 7 then quoP x y ++ finP o d x y
  else if o ≤ 10 then [(if o = 8 then 3 else if o = 9 then 4 else 5, 8, x, nI y, 0), (6, d, 8, 0, 0)]
  else if o ≤ 12 then [(0, 8, x, if o = 11 then nI b else -nI b, 0), (6, d, 8, 0, 0)]
  else if o ≤ 14 then cmpP o d x y
  else if o = 15 then rootP x ++ [(6, d, 10, 0, 0)]
  else onesP x ++ [(6, d, 8, 0, 0)]
theorem pB_len : ∀ n i, (pB i n).length = 3 * n
  | 0, i => rfl
  | n + 1, i => by
    rw [pB, List.length_append, pB_len n (i + 1)]
    simp only [List.length_cons, List.length_nil]
    omega
theorem qB_len : ∀ n, (qB n).length = 7 * n
  | 0 => rfl
  | n + 1 => by
    rw [qB, List.length_append, qB_len n]
    simp only [List.length_cons, List.length_nil]
    omega
theorem rB_len : ∀ n, (rB n).length = 12 * n
  | 0 => rfl
  | n + 1 => by
    rw [rB, List.length_append, rB_len n]
    simp only [List.length_cons, List.length_nil]
    omega
theorem oB_len (x : Nat) : ∀ n i, (oB x i n).length = 2 * n
  | 0, i => rfl
  | n + 1, i => by
    rw [oB, List.length_append, oB_len x n (i + 1)]
    simp only [List.length_cons, List.length_nil]
    omega
theorem Holds_nil (k0 k1 k2 k3 k4 : Nat → Int32) : Holds [] k0 k1 k2 k3 k4 := fun i x h => by simp at h
theorem Holds_push {P : List MO} {k0 k1 k2 k3 k4 : Nat → Int32} (h : Holds P k0 k1 k2 k3 k4) (x : MO) : Holds (P ++ [x]) (upd k0 P.length (nI x.1)) (upd k1 P.length (nI x.2.1)) (upd k2 P.length (nI x.2.2.1)) (upd k3 P.length x.2.2.2.1) (upd k4 P.length (nI x.2.2.2.2)) := by
  intro i y hy
  rcases Nat.lt_trichotomy i P.length with hl | hl | hl
  · rw [List.getElem?_append_left hl] at hy
    have e : i ≠ P.length := by omega
    rw [pk_un e, pk_un e, pk_un e, pk_un e, pk_un e]
    exact h i y hy
  · subst hl
    rw [List.getElem?_append_right (Nat.le_refl _), Nat.sub_self, List.getElem?_cons_zero] at hy
    cases hy
    rw [pk_us, pk_us, pk_us, pk_us, pk_us]
    exact ⟨rfl, rfl, rfl, rfl, rfl⟩
  · rw [List.getElem?_eq_none (by simp; omega)] at hy
    cases hy
theorem ix2 (n : Nat) : 2 * nI n = nI (2 * n) := by rw [show (2 : Int32) = nI 2 from rfl, pk_mul]
theorem ix21 (n : Nat) : 2 * nI n + 1 = nI (2 * n + 1) := by rw [ix2, nI_1]
def r7 (v : Int32) : Nat := v.toBitVec.toNat % 8
def r15 (v : Int32) : Nat := v.toBitVec.toNat % 16
def r31 (v : Int32) : Nat := v.toBitVec.toNat % 32
theorem r7_lt (v : Int32) : r7 v < 8 := Nat.mod_lt _ (by decide)
theorem r15_lt (v : Int32) : r15 v < 16 := Nat.mod_lt _ (by decide)
theorem r31_lt (v : Int32) : r31 v < 32 := Nat.mod_lt _ (by decide)
theorem ix7 (v : Int32) : v &&& 7 = nI (r7 v) := pk_and v 3 rfl
theorem ix15 (v : Int32) : v &&& 15 = nI (r15 v) := pk_and v 4 rfl
theorem ix31 (v : Int32) : v &&& 31 = nI (r31 v) := pk_and v 5 rfl
end
section
set_option maxHeartbeats 4000000 in
set_option maxRecDepth 100000 in
/-- step(k, t, f, o, s): one more micro-step -/
theorem c_step (l : Launch) (D : va_G) (h : Nat → Nat) (cs : Nat → ClassId) (ln nx la : Int32) (O Dd Aa Bb bt fr k0 k1 k2 k3 k4 : Nat → Int32) (P : List MO) (k t f : Nat) (o : Int32) (sk : Nat) (hH : Holds P k0 k1 k2 k3 k4) (hP : P.length < 160) : CtV l y_M_step b_M_step 6 (rmm 0 0) D (tysM cs) [.ref (h 0), .int (nI k), .int (nI t), .int (nI f), .int o, .int (nI sk)] (mW h cs ln nx la (nI P.length) O Dd Aa Bb bt fr k0 k1 k2 k3 k4) (fun μ : Nat → Nat → Int32 => Holds (P ++ [(k, t, f, o, sk)]) (μ 0) (μ 1) (μ 2) (μ 3) (μ 4)) (fun μ => mW h cs ln nx la (nI (P ++ [(k, t, f, o, sk)]).length) O Dd Aa Bb bt fr (μ 0) (μ 1) (μ 2) (μ 3) (μ 4)) := by
  refine CtV.of R_M (by decide) rfl (Nat.le_of_ble_eq_true rfl) ?_
  intro p e s m args below meth c A ls SF hlk hr M hl
  have hx := SF.1
  have hb := SF.2.1
  have hl : lv_has ls 6 [(0, .ref (h 0)), (1, .int (nI k)), (2, .int (nI t)), (3, .int (nI f)), (4, .int o), (5, .int (nI sk))] := hl
  refine lv_aload_n hx hb d_M_step_0 rfl (lv_at hl 0 rfl) ?_
  refine gM_kind SF M d_M_step_1 ?_
  refine lv_aload_n hx hb d_M_step_4 rfl (lv_at hl 0 rfl) ?_
  refine gM_steps SF M d_M_step_5 ?_
  refine lv_iload_n hx hb d_M_step_8 rfl (lv_at hl 1 rfl) ?_
  refine sM_kind SF M P.length rfl hP d_M_step_9 (fun H locs M => ?_)
  refine lv_aload_n hx hb d_M_step_10 rfl (lv_at hl 0 rfl) ?_
  refine gM_to SF M d_M_step_11 ?_
  refine lv_aload_n hx hb d_M_step_14 rfl (lv_at hl 0 rfl) ?_
  refine gM_steps SF M d_M_step_15 ?_
  refine lv_iload_n hx hb d_M_step_18 rfl (lv_at hl 2 rfl) ?_
  refine sM_to SF M P.length rfl hP d_M_step_19 (fun H locs M => ?_)
  refine lv_aload_n hx hb d_M_step_20 rfl (lv_at hl 0 rfl) ?_
  refine gM_from SF M d_M_step_21 ?_
  refine lv_aload_n hx hb d_M_step_24 rfl (lv_at hl 0 rfl) ?_
  refine gM_steps SF M d_M_step_25 ?_
  refine lv_iload_n hx hb d_M_step_28 rfl (lv_at hl 3 rfl) ?_
  refine sM_from SF M P.length rfl hP d_M_step_29 (fun H locs M => ?_)
  refine lv_aload_n hx hb d_M_step_30 rfl (lv_at hl 0 rfl) ?_
  refine gM_other SF M d_M_step_31 ?_
  refine lv_aload_n hx hb d_M_step_34 rfl (lv_at hl 0 rfl) ?_
  refine gM_steps SF M d_M_step_35 ?_
  refine lv_iload hx hb d_M_step_38 (lv_at hl 4 rfl) ?_
  refine sM_other SF M P.length rfl hP d_M_step_40 (fun H locs M => ?_)
  refine lv_aload_n hx hb d_M_step_41 rfl (lv_at hl 0 rfl) ?_
  refine gM_skip SF M d_M_step_42 ?_
  refine lv_aload_n hx hb d_M_step_45 rfl (lv_at hl 0 rfl) ?_
  refine gM_steps SF M d_M_step_46 ?_
  refine lv_iload hx hb d_M_step_49 (lv_at hl 5 rfl) ?_
  refine sM_skip SF M P.length rfl hP d_M_step_51 (fun H locs M => ?_)
  refine lv_aload_n hx hb d_M_step_52 rfl (lv_at hl 0 rfl) ?_
  refine lv_dup hx hb d_M_step_53 rfl ?_
  refine gM_steps SF M d_M_step_54 ?_
  refine lv_iconst hx hb d_M_step_57 ki_1 ?_
  refine lv_iadd hx hb d_M_step_58 ?_
  rw [nI_1]
  refine pM_steps SF M d_M_step_59 (fun H locs M => ?_)
  refine retV SF hlk hr (fun i => match i with | 0 => upd k0 P.length (nI k) | 1 => upd k1 P.length (nI t) | 2 => upd k2 P.length (nI f) | 3 => upd k3 P.length o | _ => upd k4 P.length (nI sk)) (Holds_push hH (k, t, f, o, sk)) ?_ d_M_step_62
  show WW _ _ _ _ (mW h cs ln nx la (nI (P ++ [(k, t, f, o, sk)]).length) O Dd Aa Bb bt fr (upd k0 P.length (nI k)) (upd k1 P.length (nI t)) (upd k2 P.length (nI f)) (upd k3 P.length o) (upd k4 P.length (nI sk))) _ _
  rw [List.length_append]
  exact M
section StepRows
variable {p : Program} {l : Launch} {e : Env} {R : Room} {s : State} {m : MethodId} {args : Array Value} {below : List Frame} {meth : Method} {c : Code} {cells slots : Nat} {Q : State → Prop}
variable {D : va_G} {A : Nat → Prop} {h : Nat → Nat} {cs : Nat → ClassId}
variable {ln nx la st : Int32} {O Dd Aa Bb bt fr k0 k1 k2 k3 k4 : Nat → Int32}
set_option maxHeartbeats 4000000 in
set_option maxRecDepth 100000 in
theorem kw_step {cc : ByteArray} {nL pc : Nat} {ls : Array Slot} {rest : List Value} {H : Heap} {locs : List Loc} {P : List MO} {vk vt vf vo vs : Int32} (SF : CallFix p m c cc nL s args mt_tbl R_M) (hR : 1 ≤ R.frames ∧ 25 ≤ R.locals) (M : WW D (tysM cs) A s (mW h cs ln nx la (nI P.length) O Dd Aa Bb bt fr k0 k1 k2 k3 k4) H locs) (hH : Holds P k0 k1 k2 k3 k4) (hn : P.length < 160) (x : MO) (hv : vk = nI x.1 ∧ vt = nI x.2.1 ∧ vf = nI x.2.2.1 ∧ vo = x.2.2.2.1 ∧ vs = nI x.2.2.2.2) (hls : ls.size = nL) (hrm : (rest.map fun v => v.category).sum ≤ 8) (hdg : decode cc pc = .ok (.invokevirtual 81, 3))
    (kk : ∀ (μ : Nat → Nat → Int32) (H : Heap) (locs : List Loc), Holds (P ++ [x]) (μ 0) (μ 1) (μ 2) (μ 3) (μ 4) → WW D (tysM cs) A s (mW h cs ln nx la (nI (P ++ [x]).length) O Dd Aa Bb bt fr (μ 0) (μ 1) (μ 2) (μ 3) (μ 4)) H locs → W p l e R s m args below meth c H locs 0 0 Q (F0 m (pc + 3) ls rest)) : W p l e R s m args below meth c H locs 0 0 Q (F0 m pc ls (.int vs :: .int vo :: .int vf :: .int vt :: .int vk :: .ref (h 0) :: rest)) := by
  obtain ⟨k, t, f, o, sk⟩ := x
  obtain ⟨rfl, rfl, rfl, rfl, rfl⟩ := hv
  exact ccV SF M (c_step l D h cs ln nx la O Dd Aa Bb bt fr k0 k1 k2 k3 k4 P k t f vo sk hH hn) g_M_81 hd_M_step hR (ci := 0) rfl rfl hls rfl hrm hdg ⟨Nat.zero_le _, Nat.zero_le _⟩ (fun μ H locs hu M => kk μ H locs hu M)
set_option maxHeartbeats 4000000 in
set_option maxRecDepth 100000 in
theorem lp_product (SF : CallFix p m c b_M_product 4 s args mt_tbl R_M) (hR : 1 ≤ R.frames ∧ 25 ≤ R.locals) {PF : List MO} {x1 x2 : Int32} (hPF : PF.length ≤ 160)
    (kx : ∀ (μ : Nat → Nat → Int32) (H : Heap) (locs : List Loc) (ls : Array Slot), Holds PF (μ 0) (μ 1) (μ 2) (μ 3) (μ 4) → WW D (tysM cs) A s (mW h cs ln nx la (nI PF.length) O Dd Aa Bb bt fr (μ 0) (μ 1) (μ 2) (μ 3) (μ 4)) H locs → W p l e R s m args below meth c H locs 0 0 Q (F0 m 79 ls [])) :
    ∀ (n i : Nat) (P : List MO) (μ : Nat → Nat → Int32), i + n = 32 → P ++ pB i n = PF → Holds P (μ 0) (μ 1) (μ 2) (μ 3) (μ 4) → ∀ (H : Heap) (locs : List Loc) (ls : Array Slot), WW D (tysM cs) A s (mW h cs ln nx la (nI P.length) O Dd Aa Bb bt fr (μ 0) (μ 1) (μ 2) (μ 3) (μ 4)) H locs → lv_has ls 4 [(0, .ref (h 0)), (1, .int x1), (2, .int x2), (3, .int (nI i))] → W p l e R s m args below meth c H locs 0 0 Q (F0 m 33 ls []) := by
  have hx := SF.1
  have hb := SF.2.1
  intro n
  induction n with
  | zero =>
    intro i P μ hi hP hH H locs ls M hl
    obtain rfl : i = 32 := by omega
    rw [show pB 32 0 = [] from rfl, List.append_nil] at hP
    subst hP
    refine lv_iload_n hx hb d_M_product_33 rfl (lv_at hl 3 rfl) ?_
    refine lv_bipush hx hb d_M_product_34 kb_32 ?_
    refine lv_icmp_ge (tgt := 79) hx hb d_M_product_36 (by decide) (fun _ => ?_) (fun c9 => absurd (nI_le (Nat.le_refl 32) (by decide) : nI 32 ≤ nI 32) c9)
    exact kx μ H locs ls hH M
  | succ n ih =>
    intro i P μ hi hP hH H locs ls M hl
    have hlen := congrArg List.length hP
    rw [List.length_append, pB_len] at hlen
    refine lv_iload_n hx hb d_M_product_33 rfl (lv_at hl 3 rfl) ?_
    refine lv_bipush hx hb d_M_product_34 kb_32 ?_
    refine lv_icmp_ge (tgt := 79) hx hb d_M_product_36 (by decide) (fun c9 => absurd c9 (nI_ge (by omega) (by decide) : ¬ nI 32 ≤ nI i)) (fun _ => ?_)
    refine lv_aload_n hx hb d_M_product_39 rfl (lv_at hl 0 rfl) ?_
    refine lv_bipush hx hb d_M_product_40 kb_8 ?_
    refine lv_iconst hx hb d_M_product_42 ki_0 ?_
    refine lv_bipush hx hb d_M_product_43 kb_9 ?_
    refine lv_iload_n hx hb d_M_product_45 rfl (lv_at hl 3 rfl) ?_
    refine lv_iconst hx hb d_M_product_46 ki_1 ?_
    refine kw_step SF hR M hH (by (try simp only [List.length_append, List.length_cons, List.length_nil]); omega) (8, 0, 9, nI i, 1) ⟨rfl, rfl, rfl, rfl, rfl⟩ hl.1 (Nat.le_of_ble_eq_true rfl) d_M_product_47 (fun μ H locs hH M => ?_)
    refine lv_aload_n hx hb d_M_product_50 rfl (lv_at hl 0 rfl) ?_
    refine lv_iconst hx hb d_M_product_51 ki_1 ?_
    refine lv_bipush hx hb d_M_product_52 kb_10 ?_
    refine lv_bipush hx hb d_M_product_54 kb_10 ?_
    refine lv_bipush hx hb d_M_product_56 kb_8 ?_
    refine lv_iconst hx hb d_M_product_58 ki_0 ?_
    refine kw_step SF hR M hH (by (try simp only [List.length_append, List.length_cons, List.length_nil]); omega) (1, 10, 10, nI 8, 0) ⟨rfl, rfl, rfl, rfl, rfl⟩ hl.1 (Nat.le_of_ble_eq_true rfl) d_M_product_59 (fun μ H locs hH M => ?_)
    refine lv_aload_n hx hb d_M_product_62 rfl (lv_at hl 0 rfl) ?_
    refine lv_iconst hx hb d_M_product_63 ki_0 ?_
    refine lv_bipush hx hb d_M_product_64 kb_8 ?_
    refine lv_bipush hx hb d_M_product_66 kb_8 ?_
    refine lv_iconst hx hb d_M_product_68 ki_1 ?_
    refine lv_iconst hx hb d_M_product_69 ki_0 ?_
    refine kw_step SF hR M hH (by (try simp only [List.length_append, List.length_cons, List.length_nil]); omega) (0, 8, 8, 1, 0) ⟨rfl, rfl, rfl, rfl, rfl⟩ hl.1 (Nat.le_of_ble_eq_true rfl) d_M_product_70 (fun μ H locs hH M => ?_)
    refine lv_iinc (v := nI (i + 1)) (lv' := [(3, .int (nI (i + 1))), (0, .ref (h 0)), (1, .int x1), (2, .int x2)]) hx hb d_M_product_73 hl (k := 3) rfl (nI_1 _) (by decide) rfl (fun ls hl => ?_)
    refine lv_goto (tgt := 33) hx hb d_M_product_76 (by decide) ?_
    exact ih (i + 1) _ μ (by omega) (by rw [← hP, pB]; simp only [List.append_assoc, List.cons_append, List.nil_append]) hH H locs ls M (lv_sub hl [1, 2, 3, 0] rfl)
set_option maxHeartbeats 4000000 in
set_option maxRecDepth 100000 in
theorem lp_quotient (SF : CallFix p m c b_M_quotient 4 s args mt_tbl R_M) (hR : 1 ≤ R.frames ∧ 25 ≤ R.locals) {PF : List MO} {x1 x2 : Int32} (hPF : PF.length ≤ 160)
    (kx : ∀ (μ : Nat → Nat → Int32) (H : Heap) (locs : List Loc) (ls : Array Slot), Holds PF (μ 0) (μ 1) (μ 2) (μ 3) (μ 4) → WW D (tysM cs) A s (mW h cs ln nx la (nI PF.length) O Dd Aa Bb bt fr (μ 0) (μ 1) (μ 2) (μ 3) (μ 4)) H locs → W p l e R s m args below meth c H locs 0 0 Q (F0 m 137 ls [])) :
    ∀ (n : Nat) (P : List MO) (μ : Nat → Nat → Int32), n ≤ 16 → P ++ qB n = PF → Holds P (μ 0) (μ 1) (μ 2) (μ 3) (μ 4) → ∀ (H : Heap) (locs : List Loc) (ls : Array Slot), WW D (tysM cs) A s (mW h cs ln nx la (nI P.length) O Dd Aa Bb bt fr (μ 0) (μ 1) (μ 2) (μ 3) (μ 4)) H locs → lv_has ls 4 [(0, .ref (h 0)), (1, .int x1), (2, .int x2), (3, .int (nI n - 1))] → W p l e R s m args below meth c H locs 0 0 Q (F0 m 50 ls []) := by
  have hx := SF.1
  have hb := SF.2.1
  intro n
  induction n with
  | zero =>
    intro P μ hi hP hH H locs ls M hl
    rw [show qB 0 = [] from rfl, List.append_nil] at hP
    subst hP
    refine lv_iload_n hx hb d_M_quotient_50 rfl (lv_at hl 3 rfl) ?_
    refine lv_if_lt (tgt := 137) hx hb d_M_quotient_51 (by decide) (fun _ => ?_) (fun c9 => absurd (by decide : nI 0 - 1 < 0) c9)
    exact kx μ H locs ls hH M
  | succ n ih =>
    intro P μ hi hP hH H locs ls M hl
    have hlen := congrArg List.length hP
    rw [List.length_append, qB_len] at hlen
    rw [nI_pred] at hl
    refine lv_iload_n hx hb d_M_quotient_50 rfl (lv_at hl 3 rfl) ?_
    refine lv_if_lt (tgt := 137) hx hb d_M_quotient_51 (by decide) (fun c9 => absurd c9 (nI_pos (by omega) : ¬ nI n < 0)) (fun _ => ?_)
    refine lv_aload_n hx hb d_M_quotient_54 rfl (lv_at hl 0 rfl) ?_
    refine lv_iconst hx hb d_M_quotient_55 ki_0 ?_
    refine lv_bipush hx hb d_M_quotient_56 kb_10 ?_
    refine lv_bipush hx hb d_M_quotient_58 kb_10 ?_
    refine lv_iconst hx hb d_M_quotient_60 ki_1 ?_
    refine lv_iconst hx hb d_M_quotient_61 ki_0 ?_
    refine kw_step SF hR M hH (by (try simp only [List.length_append, List.length_cons, List.length_nil]); omega) (0, 10, 10, 1, 0) ⟨rfl, rfl, rfl, rfl, rfl⟩ hl.1 (Nat.le_of_ble_eq_true rfl) d_M_quotient_62 (fun μ H locs hH M => ?_)
    refine lv_aload_n hx hb d_M_quotient_65 rfl (lv_at hl 0 rfl) ?_
    refine lv_bipush hx hb d_M_quotient_66 kb_8 ?_
    refine lv_iconst hx hb d_M_quotient_68 ki_0 ?_
    refine lv_bipush hx hb d_M_quotient_69 kb_8 ?_
    refine lv_iload_n hx hb d_M_quotient_71 rfl (lv_at hl 3 rfl) ?_
    refine lv_iconst hx hb d_M_quotient_72 ki_1 ?_
    refine kw_step SF hR M hH (by (try simp only [List.length_append, List.length_cons, List.length_nil]); omega) (8, 0, 8, nI n, 1) ⟨rfl, rfl, rfl, rfl, rfl⟩ hl.1 (Nat.le_of_ble_eq_true rfl) d_M_quotient_73 (fun μ H locs hH M => ?_)
    refine lv_aload_n hx hb d_M_quotient_76 rfl (lv_at hl 0 rfl) ?_
    refine lv_bipush hx hb d_M_quotient_77 kb_10 ?_
    refine lv_bipush hx hb d_M_quotient_79 kb_10 ?_
    refine lv_iconst hx hb d_M_quotient_81 ki_0 ?_
    refine lv_iconst hx hb d_M_quotient_82 ki_0 ?_
    refine lv_iconst hx hb d_M_quotient_83 ki_0 ?_
    refine kw_step SF hR M hH (by (try simp only [List.length_append, List.length_cons, List.length_nil]); omega) (10, 10, 0, 0, 0) ⟨rfl, rfl, rfl, rfl, rfl⟩ hl.1 (Nat.le_of_ble_eq_true rfl) d_M_quotient_84 (fun μ H locs hH M => ?_)
    refine lv_aload_n hx hb d_M_quotient_87 rfl (lv_at hl 0 rfl) ?_
    refine lv_iconst hx hb d_M_quotient_88 ki_2 ?_
    refine lv_bipush hx hb d_M_quotient_89 kb_12 ?_
    refine lv_bipush hx hb d_M_quotient_91 kb_10 ?_
    refine lv_bipush hx hb d_M_quotient_93 kb_9 ?_
    refine lv_iconst hx hb d_M_quotient_95 ki_0 ?_
    refine kw_step SF hR M hH (by (try simp only [List.length_append, List.length_cons, List.length_nil]); omega) (2, 12, 10, nI 9, 0) ⟨rfl, rfl, rfl, rfl, rfl⟩ hl.1 (Nat.le_of_ble_eq_true rfl) d_M_quotient_96 (fun μ H locs hH M => ?_)
    refine lv_aload_n hx hb d_M_quotient_99 rfl (lv_at hl 0 rfl) ?_
    refine lv_bipush hx hb d_M_quotient_100 kb_9 ?_
    refine lv_iconst hx hb d_M_quotient_102 ki_0 ?_
    refine lv_iconst hx hb d_M_quotient_103 ki_0 ?_
    refine lv_iconst hx hb d_M_quotient_104 ki_0 ?_
    refine lv_iconst hx hb d_M_quotient_105 ki_2 ?_
    refine kw_step SF hR M hH (by (try simp only [List.length_append, List.length_cons, List.length_nil]); omega) (9, 0, 0, 0, 2) ⟨rfl, rfl, rfl, rfl, rfl⟩ hl.1 (Nat.le_of_ble_eq_true rfl) d_M_quotient_106 (fun μ H locs hH M => ?_)
    refine lv_aload_n hx hb d_M_quotient_109 rfl (lv_at hl 0 rfl) ?_
    refine lv_iconst hx hb d_M_quotient_110 ki_0 ?_
    refine lv_bipush hx hb d_M_quotient_111 kb_10 ?_
    refine lv_bipush hx hb d_M_quotient_113 kb_12 ?_
    refine lv_iconst hx hb d_M_quotient_115 ki_0 ?_
    refine lv_iconst hx hb d_M_quotient_116 ki_0 ?_
    refine kw_step SF hR M hH (by (try simp only [List.length_append, List.length_cons, List.length_nil]); omega) (0, 10, 12, 0, 0) ⟨rfl, rfl, rfl, rfl, rfl⟩ hl.1 (Nat.le_of_ble_eq_true rfl) d_M_quotient_117 (fun μ H locs hH M => ?_)
    refine lv_aload_n hx hb d_M_quotient_120 rfl (lv_at hl 0 rfl) ?_
    refine lv_bipush hx hb d_M_quotient_121 kb_10 ?_
    refine lv_bipush hx hb d_M_quotient_123 kb_11 ?_
    refine lv_iconst hx hb d_M_quotient_125 ki_0 ?_
    refine lv_iload_n hx hb d_M_quotient_126 rfl (lv_at hl 3 rfl) ?_
    refine lv_iconst hx hb d_M_quotient_127 ki_0 ?_
    refine kw_step SF hR M hH (by (try simp only [List.length_append, List.length_cons, List.length_nil]); omega) (10, 11, 0, nI n, 0) ⟨rfl, rfl, rfl, rfl, rfl⟩ hl.1 (Nat.le_of_ble_eq_true rfl) d_M_quotient_128 (fun μ H locs hH M => ?_)
    refine lv_iinc (v := nI n - 1) (lv' := [(3, .int (nI n - 1)), (0, .ref (h 0)), (1, .int x1), (2, .int x2)]) hx hb d_M_quotient_131 hl (k := 3) rfl (k_dec1 _) (by decide) rfl (fun ls hl => ?_)
    refine lv_goto (tgt := 50) hx hb d_M_quotient_134 (by decide) ?_
    exact ih _ μ (by omega) (by rw [← hP, qB]; simp only [List.append_assoc, List.cons_append, List.nil_append]) hH H locs ls M (lv_sub hl [1, 2, 3, 0] rfl)
set_option maxHeartbeats 4000000 in
set_option maxRecDepth 100000 in
theorem lp_root (SF : CallFix p m c b_M_root 3 s args mt_tbl R_M) (hR : 1 ≤ R.frames ∧ 25 ≤ R.locals) {PF : List MO} {x1 : Int32} (hPF : PF.length ≤ 160)
    (kx : ∀ (μ : Nat → Nat → Int32) (H : Heap) (locs : List Loc) (ls : Array Slot), Holds PF (μ 0) (μ 1) (μ 2) (μ 3) (μ 4) → WW D (tysM cs) A s (mW h cs ln nx la (nI PF.length) O Dd Aa Bb bt fr (μ 0) (μ 1) (μ 2) (μ 3) (μ 4)) H locs → W p l e R s m args below meth c H locs 0 0 Q (F0 m 184 ls [])) :
    ∀ (n : Nat) (P : List MO) (μ : Nat → Nat → Int32), n ≤ 8 → P ++ rB n = PF → Holds P (μ 0) (μ 1) (μ 2) (μ 3) (μ 4) → ∀ (H : Heap) (locs : List Loc) (ls : Array Slot), WW D (tysM cs) A s (mW h cs ln nx la (nI P.length) O Dd Aa Bb bt fr (μ 0) (μ 1) (μ 2) (μ 3) (μ 4)) H locs → lv_has ls 3 [(0, .ref (h 0)), (1, .int x1), (2, .int (nI n - 1))] → W p l e R s m args below meth c H locs 0 0 Q (F0 m 36 ls []) := by
  have hx := SF.1
  have hb := SF.2.1
  intro n
  induction n with
  | zero =>
    intro P μ hi hP hH H locs ls M hl
    rw [show rB 0 = [] from rfl, List.append_nil] at hP
    subst hP
    refine lv_iload_n hx hb d_M_root_36 rfl (lv_at hl 2 rfl) ?_
    refine lv_if_lt (tgt := 184) hx hb d_M_root_37 (by decide) (fun _ => ?_) (fun c9 => absurd (by decide : nI 0 - 1 < 0) c9)
    exact kx μ H locs ls hH M
  | succ n ih =>
    intro P μ hi hP hH H locs ls M hl
    have hlen := congrArg List.length hP
    rw [List.length_append, rB_len] at hlen
    rw [nI_pred] at hl
    refine lv_iload_n hx hb d_M_root_36 rfl (lv_at hl 2 rfl) ?_
    refine lv_if_lt (tgt := 184) hx hb d_M_root_37 (by decide) (fun c9 => absurd c9 (nI_pos (by omega) : ¬ nI n < 0)) (fun _ => ?_)
    refine lv_aload_n hx hb d_M_root_40 rfl (lv_at hl 0 rfl) ?_
    refine lv_iconst hx hb d_M_root_41 ki_0 ?_
    refine lv_bipush hx hb d_M_root_42 kb_9 ?_
    refine lv_bipush hx hb d_M_root_44 kb_9 ?_
    refine lv_iconst hx hb d_M_root_46 ki_2 ?_
    refine lv_iconst hx hb d_M_root_47 ki_0 ?_
    refine kw_step SF hR M hH (by (try simp only [List.length_append, List.length_cons, List.length_nil]); omega) (0, 9, 9, 2, 0) ⟨rfl, rfl, rfl, rfl, rfl⟩ hl.1 (Nat.le_of_ble_eq_true rfl) d_M_root_48 (fun μ H locs hH M => ?_)
    refine lv_aload_n hx hb d_M_root_51 rfl (lv_at hl 0 rfl) ?_
    refine lv_bipush hx hb d_M_root_52 kb_8 ?_
    refine lv_iconst hx hb d_M_root_54 ki_0 ?_
    refine lv_bipush hx hb d_M_root_55 kb_8 ?_
    refine lv_iconst hx hb d_M_root_57 ki_2 ?_
    refine lv_iload_n hx hb d_M_root_58 rfl (lv_at hl 2 rfl) ?_
    refine lv_imul hx hb d_M_root_59 ?_
    refine lv_iconst hx hb d_M_root_60 ki_1 ?_
    refine lv_iadd hx hb d_M_root_61 ?_
    refine lv_iconst hx hb d_M_root_62 ki_1 ?_
    refine kw_step SF hR M hH (by (try simp only [List.length_append, List.length_cons, List.length_nil]); omega) (8, 0, 8, nI (2 * n + 1), 1) ⟨rfl, rfl, rfl, ix21 n, rfl⟩ hl.1 (Nat.le_of_ble_eq_true rfl) d_M_root_63 (fun μ H locs hH M => ?_)
    refine lv_aload_n hx hb d_M_root_66 rfl (lv_at hl 0 rfl) ?_
    refine lv_bipush hx hb d_M_root_67 kb_10 ?_
    refine lv_bipush hx hb d_M_root_69 kb_9 ?_
    refine lv_iconst hx hb d_M_root_71 ki_0 ?_
    refine lv_iconst hx hb d_M_root_72 ki_1 ?_
    refine lv_iconst hx hb d_M_root_73 ki_0 ?_
    refine kw_step SF hR M hH (by (try simp only [List.length_append, List.length_cons, List.length_nil]); omega) (10, 9, 0, 1, 0) ⟨rfl, rfl, rfl, rfl, rfl⟩ hl.1 (Nat.le_of_ble_eq_true rfl) d_M_root_74 (fun μ H locs hH M => ?_)
    refine lv_aload_n hx hb d_M_root_77 rfl (lv_at hl 0 rfl) ?_
    refine lv_bipush hx hb d_M_root_78 kb_8 ?_
    refine lv_iconst hx hb d_M_root_80 ki_0 ?_
    refine lv_bipush hx hb d_M_root_81 kb_8 ?_
    refine lv_iconst hx hb d_M_root_83 ki_2 ?_
    refine lv_iload_n hx hb d_M_root_84 rfl (lv_at hl 2 rfl) ?_
    refine lv_imul hx hb d_M_root_85 ?_
    refine lv_iconst hx hb d_M_root_86 ki_1 ?_
    refine kw_step SF hR M hH (by (try simp only [List.length_append, List.length_cons, List.length_nil]); omega) (8, 0, 8, nI (2 * n), 1) ⟨rfl, rfl, rfl, ix2 n, rfl⟩ hl.1 (Nat.le_of_ble_eq_true rfl) d_M_root_87 (fun μ H locs hH M => ?_)
    refine lv_aload_n hx hb d_M_root_90 rfl (lv_at hl 0 rfl) ?_
    refine lv_bipush hx hb d_M_root_91 kb_10 ?_
    refine lv_bipush hx hb d_M_root_93 kb_9 ?_
    refine lv_iconst hx hb d_M_root_95 ki_0 ?_
    refine lv_iconst hx hb d_M_root_96 ki_0 ?_
    refine lv_iconst hx hb d_M_root_97 ki_0 ?_
    refine kw_step SF hR M hH (by (try simp only [List.length_append, List.length_cons, List.length_nil]); omega) (10, 9, 0, 0, 0) ⟨rfl, rfl, rfl, rfl, rfl⟩ hl.1 (Nat.le_of_ble_eq_true rfl) d_M_root_98 (fun μ H locs hH M => ?_)
    refine lv_aload_n hx hb d_M_root_101 rfl (lv_at hl 0 rfl) ?_
    refine lv_iconst hx hb d_M_root_102 ki_0 ?_
    refine lv_bipush hx hb d_M_root_103 kb_11 ?_
    refine lv_bipush hx hb d_M_root_105 kb_10 ?_
    refine lv_iconst hx hb d_M_root_107 ki_2 ?_
    refine lv_iconst hx hb d_M_root_108 ki_0 ?_
    refine kw_step SF hR M hH (by (try simp only [List.length_append, List.length_cons, List.length_nil]); omega) (0, 11, 10, 2, 0) ⟨rfl, rfl, rfl, rfl, rfl⟩ hl.1 (Nat.le_of_ble_eq_true rfl) d_M_root_109 (fun μ H locs hH M => ?_)
    refine lv_aload_n hx hb d_M_root_112 rfl (lv_at hl 0 rfl) ?_
    refine lv_bipush hx hb d_M_root_113 kb_10 ?_
    refine lv_bipush hx hb d_M_root_115 kb_11 ?_
    refine lv_iconst hx hb d_M_root_117 ki_0 ?_
    refine lv_iconst hx hb d_M_root_118 ki_0 ?_
    refine lv_iconst hx hb d_M_root_119 ki_0 ?_
    refine kw_step SF hR M hH (by (try simp only [List.length_append, List.length_cons, List.length_nil]); omega) (10, 11, 0, 0, 0) ⟨rfl, rfl, rfl, rfl, rfl⟩ hl.1 (Nat.le_of_ble_eq_true rfl) d_M_root_120 (fun μ H locs hH M => ?_)
    refine lv_aload_n hx hb d_M_root_123 rfl (lv_at hl 0 rfl) ?_
    refine lv_iconst hx hb d_M_root_124 ki_0 ?_
    refine lv_bipush hx hb d_M_root_125 kb_10 ?_
    refine lv_bipush hx hb d_M_root_127 kb_10 ?_
    refine lv_iconst hx hb d_M_root_129 ki_1 ?_
    refine lv_iconst hx hb d_M_root_130 ki_0 ?_
    refine kw_step SF hR M hH (by (try simp only [List.length_append, List.length_cons, List.length_nil]); omega) (0, 10, 10, 1, 0) ⟨rfl, rfl, rfl, rfl, rfl⟩ hl.1 (Nat.le_of_ble_eq_true rfl) d_M_root_131 (fun μ H locs hH M => ?_)
    refine lv_aload_n hx hb d_M_root_134 rfl (lv_at hl 0 rfl) ?_
    refine lv_iconst hx hb d_M_root_135 ki_2 ?_
    refine lv_bipush hx hb d_M_root_136 kb_12 ?_
    refine lv_bipush hx hb d_M_root_138 kb_9 ?_
    refine lv_bipush hx hb d_M_root_140 kb_11 ?_
    refine lv_iconst hx hb d_M_root_142 ki_0 ?_
    refine kw_step SF hR M hH (by (try simp only [List.length_append, List.length_cons, List.length_nil]); omega) (2, 12, 9, nI 11, 0) ⟨rfl, rfl, rfl, rfl, rfl⟩ hl.1 (Nat.le_of_ble_eq_true rfl) d_M_root_143 (fun μ H locs hH M => ?_)
    refine lv_aload_n hx hb d_M_root_146 rfl (lv_at hl 0 rfl) ?_
    refine lv_bipush hx hb d_M_root_147 kb_9 ?_
    refine lv_iconst hx hb d_M_root_149 ki_0 ?_
    refine lv_iconst hx hb d_M_root_150 ki_0 ?_
    refine lv_iconst hx hb d_M_root_151 ki_0 ?_
    refine lv_iconst hx hb d_M_root_152 ki_2 ?_
    refine kw_step SF hR M hH (by (try simp only [List.length_append, List.length_cons, List.length_nil]); omega) (9, 0, 0, 0, 2) ⟨rfl, rfl, rfl, rfl, rfl⟩ hl.1 (Nat.le_of_ble_eq_true rfl) d_M_root_153 (fun μ H locs hH M => ?_)
    refine lv_aload_n hx hb d_M_root_156 rfl (lv_at hl 0 rfl) ?_
    refine lv_iconst hx hb d_M_root_157 ki_0 ?_
    refine lv_bipush hx hb d_M_root_158 kb_9 ?_
    refine lv_bipush hx hb d_M_root_160 kb_12 ?_
    refine lv_iconst hx hb d_M_root_162 ki_0 ?_
    refine lv_iconst hx hb d_M_root_163 ki_0 ?_
    refine kw_step SF hR M hH (by (try simp only [List.length_append, List.length_cons, List.length_nil]); omega) (0, 9, 12, 0, 0) ⟨rfl, rfl, rfl, rfl, rfl⟩ hl.1 (Nat.le_of_ble_eq_true rfl) d_M_root_164 (fun μ H locs hH M => ?_)
    refine lv_aload_n hx hb d_M_root_167 rfl (lv_at hl 0 rfl) ?_
    refine lv_bipush hx hb d_M_root_168 kb_10 ?_
    refine lv_bipush hx hb d_M_root_170 kb_10 ?_
    refine lv_iconst hx hb d_M_root_172 ki_0 ?_
    refine lv_iconst hx hb d_M_root_173 ki_0 ?_
    refine lv_iconst hx hb d_M_root_174 ki_0 ?_
    refine kw_step SF hR M hH (by (try simp only [List.length_append, List.length_cons, List.length_nil]); omega) (10, 10, 0, 0, 0) ⟨rfl, rfl, rfl, rfl, rfl⟩ hl.1 (Nat.le_of_ble_eq_true rfl) d_M_root_175 (fun μ H locs hH M => ?_)
    refine lv_iinc (v := nI n - 1) (lv' := [(2, .int (nI n - 1)), (0, .ref (h 0)), (1, .int x1)]) hx hb d_M_root_178 hl (k := 2) rfl (k_dec1 _) (by decide) rfl (fun ls hl => ?_)
    refine lv_goto (tgt := 36) hx hb d_M_root_181 (by decide) ?_
    exact ih _ μ (by omega) (by rw [← hP, rB]; simp only [List.append_assoc, List.cons_append, List.nil_append]) hH H locs ls M (lv_sub hl [1, 2, 0] rfl)
set_option maxHeartbeats 4000000 in
set_option maxRecDepth 100000 in
theorem lp_countOnes (SF : CallFix p m c b_M_countOnes 3 s args mt_tbl R_M) (hR : 1 ≤ R.frames ∧ 25 ≤ R.locals) {PF : List MO} {x : Nat} (hPF : PF.length ≤ 160)
    (kx : ∀ (μ : Nat → Nat → Int32) (H : Heap) (locs : List Loc) (ls : Array Slot), Holds PF (μ 0) (μ 1) (μ 2) (μ 3) (μ 4) → WW D (tysM cs) A s (mW h cs ln nx la (nI PF.length) O Dd Aa Bb bt fr (μ 0) (μ 1) (μ 2) (μ 3) (μ 4)) H locs → W p l e R s m args below meth c H locs 0 0 Q (F0 m 58 ls [])) :
    ∀ (n i : Nat) (P : List MO) (μ : Nat → Nat → Int32), i + n = 16 → P ++ oB x i n = PF → Holds P (μ 0) (μ 1) (μ 2) (μ 3) (μ 4) → ∀ (H : Heap) (locs : List Loc) (ls : Array Slot), WW D (tysM cs) A s (mW h cs ln nx la (nI P.length) O Dd Aa Bb bt fr (μ 0) (μ 1) (μ 2) (μ 3) (μ 4)) H locs → lv_has ls 3 [(0, .ref (h 0)), (1, .int (nI x)), (2, .int (nI i))] → W p l e R s m args below meth c H locs 0 0 Q (F0 m 24 ls []) := by
  have hx := SF.1
  have hb := SF.2.1
  intro n
  induction n with
  | zero =>
    intro i P μ hi hP hH H locs ls M hl
    obtain rfl : i = 16 := by omega
    rw [show oB x 16 0 = [] from rfl, List.append_nil] at hP
    subst hP
    refine lv_iload_n hx hb d_M_countOnes_24 rfl (lv_at hl 2 rfl) ?_
    refine lv_bipush hx hb d_M_countOnes_25 kb_16 ?_
    refine lv_icmp_ge (tgt := 58) hx hb d_M_countOnes_27 (by decide) (fun _ => ?_) (fun c9 => absurd (nI_le (Nat.le_refl 16) (by decide) : nI 16 ≤ nI 16) c9)
    exact kx μ H locs ls hH M
  | succ n ih =>
    intro i P μ hi hP hH H locs ls M hl
    have hlen := congrArg List.length hP
    rw [List.length_append, oB_len] at hlen
    refine lv_iload_n hx hb d_M_countOnes_24 rfl (lv_at hl 2 rfl) ?_
    refine lv_bipush hx hb d_M_countOnes_25 kb_16 ?_
    refine lv_icmp_ge (tgt := 58) hx hb d_M_countOnes_27 (by decide) (fun c9 => absurd c9 (nI_ge (by omega) (by decide) : ¬ nI 16 ≤ nI i)) (fun _ => ?_)
    refine lv_aload_n hx hb d_M_countOnes_30 rfl (lv_at hl 0 rfl) ?_
    refine lv_bipush hx hb d_M_countOnes_31 kb_8 ?_
    refine lv_iconst hx hb d_M_countOnes_33 ki_0 ?_
    refine lv_iload_n hx hb d_M_countOnes_34 rfl (lv_at hl 1 rfl) ?_
    refine lv_iload_n hx hb d_M_countOnes_35 rfl (lv_at hl 2 rfl) ?_
    refine lv_iconst hx hb d_M_countOnes_36 ki_1 ?_
    refine kw_step SF hR M hH (by (try simp only [List.length_append, List.length_cons, List.length_nil]); omega) (8, 0, x, nI i, 1) ⟨rfl, rfl, rfl, rfl, rfl⟩ hl.1 (Nat.le_of_ble_eq_true rfl) d_M_countOnes_37 (fun μ H locs hH M => ?_)
    refine lv_aload_n hx hb d_M_countOnes_40 rfl (lv_at hl 0 rfl) ?_
    refine lv_iconst hx hb d_M_countOnes_41 ki_1 ?_
    refine lv_bipush hx hb d_M_countOnes_42 kb_8 ?_
    refine lv_bipush hx hb d_M_countOnes_44 kb_8 ?_
    refine lv_bipush hx hb d_M_countOnes_46 kb_9 ?_
    refine lv_iconst hx hb d_M_countOnes_48 ki_0 ?_
    refine kw_step SF hR M hH (by (try simp only [List.length_append, List.length_cons, List.length_nil]); omega) (1, 8, 8, nI 9, 0) ⟨rfl, rfl, rfl, rfl, rfl⟩ hl.1 (Nat.le_of_ble_eq_true rfl) d_M_countOnes_49 (fun μ H locs hH M => ?_)
    refine lv_iinc (v := nI (i + 1)) (lv' := [(2, .int (nI (i + 1))), (0, .ref (h 0)), (1, .int (nI x))]) hx hb d_M_countOnes_52 hl (k := 2) rfl (nI_1 _) (by decide) rfl (fun ls hl => ?_)
    refine lv_goto (tgt := 24) hx hb d_M_countOnes_55 (by decide) ?_
    exact ih (i + 1) _ μ (by omega) (by rw [← hP, oB]; simp only [List.append_assoc, List.cons_append, List.nil_append]) hH H locs ls M (lv_sub hl [1, 2, 0] rfl)
end StepRows
set_option maxHeartbeats 4000000 in
set_option maxRecDepth 100000 in
/-- amount(t, x) -/
theorem c_amount (l : Launch) (D : va_G) (h : Nat → Nat) (cs : Nat → ClassId) (ln nx la : Int32) (O Dd Aa Bb bt fr k0 k1 k2 k3 k4 : Nat → Int32) (P : List MO) (t x : Nat) (hH : Holds P k0 k1 k2 k3 k4) (hP : P.length + 3 ≤ 160) : CtV l y_M_amount b_M_amount 3 (rmm 1 25) D (tysM cs) [.ref (h 0), .int (nI t), .int (nI x)] (mW h cs ln nx la (nI P.length) O Dd Aa Bb bt fr k0 k1 k2 k3 k4) (fun μ : Nat → Nat → Int32 => Holds (P ++ amtP t x) (μ 0) (μ 1) (μ 2) (μ 3) (μ 4)) (fun μ => mW h cs ln nx la (nI (P ++ amtP t x).length) O Dd Aa Bb bt fr (μ 0) (μ 1) (μ 2) (μ 3) (μ 4)) := by
  refine CtV.of R_M (by decide) rfl (Nat.le_of_ble_eq_true rfl) ?_
  intro p e s m args below meth c A ls SF hlk hr M hl
  have hx := SF.1
  have hb := SF.2.1
  have hl : lv_has ls 3 [(0, .ref (h 0)), (1, .int (nI t)), (2, .int (nI x))] := hl
  refine lv_aload_n hx hb d_M_amount_0 rfl (lv_at hl 0 rfl) ?_
  refine lv_iconst hx hb d_M_amount_1 ki_0 ?_
  refine lv_iload_n hx hb d_M_amount_2 rfl (lv_at hl 1 rfl) ?_
  refine lv_iload_n hx hb d_M_amount_3 rfl (lv_at hl 2 rfl) ?_
  refine lv_iconst hx hb d_M_amount_4 ki_0 ?_
  refine lv_iconst hx hb d_M_amount_5 ki_0 ?_
  refine kw_step SF ⟨Nat.le_of_ble_eq_true rfl, Nat.le_of_ble_eq_true rfl⟩ M hH (by (try simp only [List.length_append, List.length_cons, List.length_nil]); omega) (0, t, x, 0, 0) ⟨rfl, rfl, rfl, rfl, rfl⟩ hl.1 (Nat.le_of_ble_eq_true rfl) d_M_amount_6 (fun μ H locs hH M => ?_)
  refine lv_aload_n hx hb d_M_amount_9 rfl (lv_at hl 0 rfl) ?_
  refine lv_bipush hx hb d_M_amount_10 kb_8 ?_
  refine lv_iconst hx hb d_M_amount_12 ki_0 ?_
  refine lv_iload_n hx hb d_M_amount_13 rfl (lv_at hl 2 rfl) ?_
  refine lv_bipush hx hb d_M_amount_14 kb_31 ?_
  refine lv_iconst hx hb d_M_amount_16 ki_1 ?_
  refine kw_step SF ⟨Nat.le_of_ble_eq_true rfl, Nat.le_of_ble_eq_true rfl⟩ M hH (by (try simp only [List.length_append, List.length_cons, List.length_nil]); omega) (8, 0, x, nI 31, 1) ⟨rfl, rfl, rfl, rfl, rfl⟩ hl.1 (Nat.le_of_ble_eq_true rfl) d_M_amount_17 (fun μ H locs hH M => ?_)
  refine lv_aload_n hx hb d_M_amount_20 rfl (lv_at hl 0 rfl) ?_
  refine lv_iconst hx hb d_M_amount_21 ki_2 ?_
  refine lv_iload_n hx hb d_M_amount_22 rfl (lv_at hl 1 rfl) ?_
  refine lv_bipush hx hb d_M_amount_23 kb_13 ?_
  refine lv_iload_n hx hb d_M_amount_25 rfl (lv_at hl 2 rfl) ?_
  refine lv_iconst hx hb d_M_amount_26 ki_0 ?_
  refine kw_step SF ⟨Nat.le_of_ble_eq_true rfl, Nat.le_of_ble_eq_true rfl⟩ M hH (by (try simp only [List.length_append, List.length_cons, List.length_nil]); omega) (2, t, 13, nI x, 0) ⟨rfl, rfl, rfl, rfl, rfl⟩ hl.1 (Nat.le_of_ble_eq_true rfl) d_M_amount_27 (fun μ H locs hH M => ?_)
  have hL : P ++ [(0, t, x, 0, 0)] ++ [(8, 0, x, nI 31, 1)] ++ [(2, t, 13, nI x, 0)] = P ++ amtP t x := by simp only [amtP, List.append_assoc, List.cons_append, List.nil_append]
  rw [hL] at hH M
  exact retV SF hlk hr μ hH M d_M_amount_30
set_option maxHeartbeats 4000000 in
set_option maxRecDepth 100000 in
/-- product(x, y) -/
theorem c_product (l : Launch) (D : va_G) (h : Nat → Nat) (cs : Nat → ClassId) (ln nx la : Int32) (O Dd Aa Bb bt fr k0 k1 k2 k3 k4 : Nat → Int32) (P : List MO) (x y : Nat) (hH : Holds P k0 k1 k2 k3 k4) (hP : P.length + 99 ≤ 160) : CtV l y_M_product b_M_product 4 (rmm 1 25) D (tysM cs) [.ref (h 0), .int (nI x), .int (nI y)] (mW h cs ln nx la (nI P.length) O Dd Aa Bb bt fr k0 k1 k2 k3 k4) (fun μ : Nat → Nat → Int32 => Holds (P ++ prodP x y) (μ 0) (μ 1) (μ 2) (μ 3) (μ 4)) (fun μ => mW h cs ln nx la (nI (P ++ prodP x y).length) O Dd Aa Bb bt fr (μ 0) (μ 1) (μ 2) (μ 3) (μ 4)) := by
  refine CtV.of R_M (by decide) rfl (Nat.le_of_ble_eq_true rfl) ?_
  intro p e s m args below meth c A ls SF hlk hr M hl
  have hx := SF.1
  have hb := SF.2.1
  have hl : lv_has ls 4 [(0, .ref (h 0)), (1, .int (nI x)), (2, .int (nI y))] := hl
  refine lv_aload_n hx hb d_M_product_0 rfl (lv_at hl 0 rfl) ?_
  refine lv_iconst hx hb d_M_product_1 ki_0 ?_
  refine lv_bipush hx hb d_M_product_2 kb_8 ?_
  refine lv_iload_n hx hb d_M_product_4 rfl (lv_at hl 1 rfl) ?_
  refine lv_iconst hx hb d_M_product_5 ki_0 ?_
  refine lv_iconst hx hb d_M_product_6 ki_0 ?_
  refine kw_step SF ⟨Nat.le_of_ble_eq_true rfl, Nat.le_of_ble_eq_true rfl⟩ M hH (by (try simp only [List.length_append, List.length_cons, List.length_nil]); omega) (0, 8, x, 0, 0) ⟨rfl, rfl, rfl, rfl, rfl⟩ hl.1 (Nat.le_of_ble_eq_true rfl) d_M_product_7 (fun μ H locs hH M => ?_)
  refine lv_aload_n hx hb d_M_product_10 rfl (lv_at hl 0 rfl) ?_
  refine lv_iconst hx hb d_M_product_11 ki_0 ?_
  refine lv_bipush hx hb d_M_product_12 kb_9 ?_
  refine lv_iload_n hx hb d_M_product_14 rfl (lv_at hl 2 rfl) ?_
  refine lv_iconst hx hb d_M_product_15 ki_0 ?_
  refine lv_iconst hx hb d_M_product_16 ki_0 ?_
  refine kw_step SF ⟨Nat.le_of_ble_eq_true rfl, Nat.le_of_ble_eq_true rfl⟩ M hH (by (try simp only [List.length_append, List.length_cons, List.length_nil]); omega) (0, 9, y, 0, 0) ⟨rfl, rfl, rfl, rfl, rfl⟩ hl.1 (Nat.le_of_ble_eq_true rfl) d_M_product_17 (fun μ H locs hH M => ?_)
  refine lv_aload_n hx hb d_M_product_20 rfl (lv_at hl 0 rfl) ?_
  refine lv_bipush hx hb d_M_product_21 kb_11 ?_
  refine lv_bipush hx hb d_M_product_23 kb_10 ?_
  refine lv_iconst hx hb d_M_product_25 ki_0 ?_
  refine lv_iconst hx hb d_M_product_26 ki_0 ?_
  refine lv_iconst hx hb d_M_product_27 ki_0 ?_
  refine kw_step SF ⟨Nat.le_of_ble_eq_true rfl, Nat.le_of_ble_eq_true rfl⟩ M hH (by (try simp only [List.length_append, List.length_cons, List.length_nil]); omega) (11, 10, 0, 0, 0) ⟨rfl, rfl, rfl, rfl, rfl⟩ hl.1 (Nat.le_of_ble_eq_true rfl) d_M_product_28 (fun μ H locs hH M => ?_)
  refine lv_iconst hx hb d_M_product_31 ki_0 ?_
  refine lv_istore_n (lv' := [(3, .int 0), (0, .ref (h 0)), (1, .int (nI x)), (2, .int (nI y))]) hx hb d_M_product_32 rfl hl (by decide) rfl (fun ls hl => ?_)
  refine lp_product (PF := P ++ prodP x y) SF ⟨Nat.le_of_ble_eq_true rfl, Nat.le_of_ble_eq_true rfl⟩  ?_ ?_ 32 0 _ μ (by rfl) ?_ hH _ _ ls M (lv_sub hl [1, 2, 3, 0] rfl)
  · rw [List.length_append, prodP, List.length_append, pB_len]
    simp only [List.length_cons, List.length_nil]
    omega
  · intro μ H locs ls hH M
    exact retV SF hlk hr μ hH M d_M_product_79
  · simp only [prodP, List.append_assoc, List.cons_append, List.nil_append]
set_option maxHeartbeats 4000000 in
set_option maxRecDepth 100000 in
/-- quotient(x, y) -/
theorem c_quotient (l : Launch) (D : va_G) (h : Nat → Nat) (cs : Nat → ClassId) (ln nx la : Int32) (O Dd Aa Bb bt fr k0 k1 k2 k3 k4 : Nat → Int32) (P : List MO) (x y : Nat) (hH : Holds P k0 k1 k2 k3 k4) (hP : P.length + 121 ≤ 160) : CtV l y_M_quotient b_M_quotient 4 (rmm 2 47) D (tysM cs) [.ref (h 0), .int (nI x), .int (nI y)] (mW h cs ln nx la (nI P.length) O Dd Aa Bb bt fr k0 k1 k2 k3 k4) (fun μ : Nat → Nat → Int32 => Holds (P ++ quoP x y) (μ 0) (μ 1) (μ 2) (μ 3) (μ 4)) (fun μ => mW h cs ln nx la (nI (P ++ quoP x y).length) O Dd Aa Bb bt fr (μ 0) (μ 1) (μ 2) (μ 3) (μ 4)) := by
  refine CtV.of R_M (by decide) rfl (Nat.le_of_ble_eq_true rfl) ?_
  intro p e s m args below meth c A ls SF hlk hr M hl
  have hx := SF.1
  have hb := SF.2.1
  have hl : lv_has ls 4 [(0, .ref (h 0)), (1, .int (nI x)), (2, .int (nI y))] := hl
  refine lv_aload_n hx hb d_M_quotient_0 rfl (lv_at hl 0 rfl) ?_
  refine lv_bipush hx hb d_M_quotient_1 kb_11 ?_
  refine lv_bipush hx hb d_M_quotient_3 kb_13 ?_
  refine lv_iconst hx hb d_M_quotient_5 ki_0 ?_
  refine lv_iconst hx hb d_M_quotient_6 ki_0 ?_
  refine lv_iconst hx hb d_M_quotient_7 ki_0 ?_
  refine kw_step SF ⟨Nat.le_of_ble_eq_true rfl, Nat.le_of_ble_eq_true rfl⟩ M hH (by (try simp only [List.length_append, List.length_cons, List.length_nil]); omega) (11, 13, 0, 0, 0) ⟨rfl, rfl, rfl, rfl, rfl⟩ hl.1 (Nat.le_of_ble_eq_true rfl) d_M_quotient_8 (fun μ H locs hH M => ?_)
  refine lv_aload_n hx hb d_M_quotient_11 rfl (lv_at hl 0 rfl) ?_
  refine lv_bipush hx hb d_M_quotient_12 kb_8 ?_
  refine lv_iload_n hx hb d_M_quotient_14 rfl (lv_at hl 1 rfl) ?_
  refine ccV SF M (c_amount l D h cs ln nx la O Dd Aa Bb bt fr (μ 0) (μ 1) (μ 2) (μ 3) (μ 4) (P ++ [(11, 13, 0, 0, 0)]) 8 x hH (by (try simp only [List.length_append, List.length_cons, List.length_nil]); omega)) g_M_104 hd_M_amount ⟨Nat.le_of_ble_eq_true rfl, Nat.le_of_ble_eq_true rfl⟩ (ci := 0) rfl rfl hl.1 rfl (Nat.le_of_ble_eq_true rfl) d_M_quotient_15 ⟨Nat.zero_le _, Nat.zero_le _⟩ (fun μ H locs hH M => ?_)
  refine lv_aload_n hx hb d_M_quotient_18 rfl (lv_at hl 0 rfl) ?_
  refine lv_bipush hx hb d_M_quotient_19 kb_9 ?_
  refine lv_iload_n hx hb d_M_quotient_21 rfl (lv_at hl 2 rfl) ?_
  refine ccV SF M (c_amount l D h cs ln nx la O Dd Aa Bb bt fr (μ 0) (μ 1) (μ 2) (μ 3) (μ 4) ((P ++ [(11, 13, 0, 0, 0)]) ++ amtP 8 x) 9 y hH (by simp only [amtP, List.length_append, List.length_cons, List.length_nil]; omega)) g_M_104 hd_M_amount ⟨Nat.le_of_ble_eq_true rfl, Nat.le_of_ble_eq_true rfl⟩ (ci := 0) rfl rfl hl.1 rfl (Nat.le_of_ble_eq_true rfl) d_M_quotient_22 ⟨Nat.zero_le _, Nat.zero_le _⟩ (fun μ H locs hH M => ?_)
  have hH : Holds ((P ++ [(11, 13, 0, 0, 0)]) ++ amtP 8 x ++ amtP 9 y) (μ 0) (μ 1) (μ 2) (μ 3) (μ 4) := hH
  have M : WW D (tysM cs) A s (mW h cs ln nx la (nI ((P ++ [(11, 13, 0, 0, 0)]) ++ amtP 8 x ++ amtP 9 y).length) O Dd Aa Bb bt fr (μ 0) (μ 1) (μ 2) (μ 3) (μ 4)) H locs := M
  refine lv_aload_n hx hb d_M_quotient_25 rfl (lv_at hl 0 rfl) ?_
  refine lv_bipush hx hb d_M_quotient_26 kb_11 ?_
  refine lv_bipush hx hb d_M_quotient_28 kb_10 ?_
  refine lv_iconst hx hb d_M_quotient_30 ki_0 ?_
  refine lv_iconst hx hb d_M_quotient_31 ki_0 ?_
  refine lv_iconst hx hb d_M_quotient_32 ki_0 ?_
  refine kw_step SF ⟨Nat.le_of_ble_eq_true rfl, Nat.le_of_ble_eq_true rfl⟩ M hH (by simp only [amtP, List.length_append, List.length_cons, List.length_nil]; omega) (11, 10, 0, 0, 0) ⟨rfl, rfl, rfl, rfl, rfl⟩ hl.1 (Nat.le_of_ble_eq_true rfl) d_M_quotient_33 (fun μ H locs hH M => ?_)
  refine lv_aload_n hx hb d_M_quotient_36 rfl (lv_at hl 0 rfl) ?_
  refine lv_bipush hx hb d_M_quotient_37 kb_11 ?_
  refine lv_bipush hx hb d_M_quotient_39 kb_11 ?_
  refine lv_iconst hx hb d_M_quotient_41 ki_0 ?_
  refine lv_iconst hx hb d_M_quotient_42 ki_0 ?_
  refine lv_iconst hx hb d_M_quotient_43 ki_0 ?_
  refine kw_step SF ⟨Nat.le_of_ble_eq_true rfl, Nat.le_of_ble_eq_true rfl⟩ M hH (by simp only [amtP, List.length_append, List.length_cons, List.length_nil]; omega) (11, 11, 0, 0, 0) ⟨rfl, rfl, rfl, rfl, rfl⟩ hl.1 (Nat.le_of_ble_eq_true rfl) d_M_quotient_44 (fun μ H locs hH M => ?_)
  refine lv_bipush hx hb d_M_quotient_47 kb_15 ?_
  refine lv_istore_n (lv' := [(3, .int 15), (0, .ref (h 0)), (1, .int (nI x)), (2, .int (nI y))]) hx hb d_M_quotient_49 rfl hl (by decide) rfl (fun ls hl => ?_)
  refine lp_quotient (PF := P ++ quoP x y) SF ⟨Nat.le_of_ble_eq_true rfl, Nat.le_of_ble_eq_true rfl⟩  ?_ ?_ 16 _ μ (Nat.le_refl _) ?_ hH _ _ ls M (lv_sub hl [1, 2, 3, 0] rfl)
  · simp only [quoP, amtP, List.length_append, List.length_cons, List.length_nil, qB_len]
    omega
  · intro μ H locs ls hH M
    exact retV SF hlk hr μ hH M d_M_quotient_137
  · simp only [quoP, amtP, List.append_assoc, List.cons_append, List.nil_append]
set_option maxHeartbeats 4000000 in
set_option maxRecDepth 100000 in
/-- finishQuotient(o, d, x, y) -/
theorem c_finishQuotient (l : Launch) (D : va_G) (h : Nat → Nat) (cs : Nat → ClassId) (ln nx la : Int32) (O Dd Aa Bb bt fr k0 k1 k2 k3 k4 : Nat → Int32) (P : List MO) (o d x y : Nat) (hH : Holds P k0 k1 k2 k3 k4) (hP : P.length + 6 ≤ 160) (ho8 : o ≤ 200) : CtV l y_M_finishQuotient b_M_finishQuotient 5 (rmm 1 25) D (tysM cs) [.ref (h 0), .int (nI o), .int (nI d), .int (nI x), .int (nI y)] (mW h cs ln nx la (nI P.length) O Dd Aa Bb bt fr k0 k1 k2 k3 k4) (fun μ : Nat → Nat → Int32 => Holds (P ++ finP o d x y) (μ 0) (μ 1) (μ 2) (μ 3) (μ 4)) (fun μ => mW h cs ln nx la (nI (P ++ finP o d x y).length) O Dd Aa Bb bt fr (μ 0) (μ 1) (μ 2) (μ 3) (μ 4)) := by
  refine CtV.of R_M (by decide) rfl (Nat.le_of_ble_eq_true rfl) ?_
  intro p e s m args below meth c A ls SF hlk hr M hl
  have hx := SF.1
  have hb := SF.2.1
  have hl : lv_has ls 5 [(0, .ref (h 0)), (1, .int (nI o)), (2, .int (nI d)), (3, .int (nI x)), (4, .int (nI y))] := hl
  refine lv_iload_n hx hb d_M_finishQuotient_0 rfl (lv_at hl 1 rfl) ?_
  refine lv_bipush hx hb d_M_finishQuotient_1 kb_6 ?_
  refine lv_icmp_ne (tgt := 77) hx hb d_M_finishQuotient_3 (by decide) (fun c6 => ?_) (fun c6 => ?_)
  · have ho : ¬ o = 6 := fun q9 => c6 (by rw [q9]; rfl)
    refine lv_aload_n hx hb d_M_finishQuotient_77 rfl (lv_at hl 0 rfl) ?_
    refine lv_bipush hx hb d_M_finishQuotient_78 kb_8 ?_
    refine lv_iconst hx hb d_M_finishQuotient_80 ki_0 ?_
    refine lv_iload_n hx hb d_M_finishQuotient_81 rfl (lv_at hl 3 rfl) ?_
    refine lv_bipush hx hb d_M_finishQuotient_82 kb_31 ?_
    refine lv_iconst hx hb d_M_finishQuotient_84 ki_1 ?_
    refine kw_step SF ⟨Nat.le_of_ble_eq_true rfl, Nat.le_of_ble_eq_true rfl⟩ M hH (by (try simp only [List.length_append, List.length_cons, List.length_nil]); omega) (8, 0, x, nI 31, 1) ⟨rfl, rfl, rfl, rfl, rfl⟩ hl.1 (Nat.le_of_ble_eq_true rfl) d_M_finishQuotient_85 (fun μ H locs hH M => ?_)
    refine lv_aload_n hx hb d_M_finishQuotient_88 rfl (lv_at hl 0 rfl) ?_
    refine lv_iconst hx hb d_M_finishQuotient_89 ki_2 ?_
    refine lv_bipush hx hb d_M_finishQuotient_90 kb_10 ?_
    refine lv_bipush hx hb d_M_finishQuotient_92 kb_13 ?_
    refine lv_bipush hx hb d_M_finishQuotient_94 kb_10 ?_
    refine lv_iconst hx hb d_M_finishQuotient_96 ki_0 ?_
    refine kw_step SF ⟨Nat.le_of_ble_eq_true rfl, Nat.le_of_ble_eq_true rfl⟩ M hH (by (try simp only [List.length_append, List.length_cons, List.length_nil]); omega) (2, 10, 13, nI 10, 0) ⟨rfl, rfl, rfl, rfl, rfl⟩ hl.1 (Nat.le_of_ble_eq_true rfl) d_M_finishQuotient_97 (fun μ H locs hH M => ?_)
    refine lv_aload_n hx hb d_M_finishQuotient_100 rfl (lv_at hl 0 rfl) ?_
    refine lv_bipush hx hb d_M_finishQuotient_101 kb_6 ?_
    refine lv_iload_n hx hb d_M_finishQuotient_103 rfl (lv_at hl 2 rfl) ?_
    refine lv_bipush hx hb d_M_finishQuotient_104 kb_10 ?_
    refine lv_iconst hx hb d_M_finishQuotient_106 ki_0 ?_
    refine lv_iconst hx hb d_M_finishQuotient_107 ki_0 ?_
    refine kw_step SF ⟨Nat.le_of_ble_eq_true rfl, Nat.le_of_ble_eq_true rfl⟩ M hH (by (try simp only [List.length_append, List.length_cons, List.length_nil]); omega) (6, d, 10, 0, 0) ⟨rfl, rfl, rfl, rfl, rfl⟩ hl.1 (Nat.le_of_ble_eq_true rfl) d_M_finishQuotient_108 (fun μ H locs hH M => ?_)
    have hL : P ++ [(8, 0, x, nI 31, 1)] ++ [(2, 10, 13, nI 10, 0)] ++ [(6, d, 10, 0, 0)] = P ++ finP o d x y := by simp only [finP, ho, if_false, List.append_assoc, List.cons_append, List.nil_append]
    rw [hL] at hH M
    exact retV SF hlk hr μ hH M d_M_finishQuotient_111
  · have ho : o = 6 := nI_is (by omega) (by decide) c6
    refine lv_aload_n hx hb d_M_finishQuotient_6 rfl (lv_at hl 0 rfl) ?_
    refine lv_bipush hx hb d_M_finishQuotient_7 kb_12 ?_
    refine lv_iconst hx hb d_M_finishQuotient_9 ki_0 ?_
    refine lv_bipush hx hb d_M_finishQuotient_10 kb_9 ?_
    refine lv_iconst hx hb d_M_finishQuotient_12 ki_0 ?_
    refine lv_iconst hx hb d_M_finishQuotient_13 ki_1 ?_
    refine kw_step SF ⟨Nat.le_of_ble_eq_true rfl, Nat.le_of_ble_eq_true rfl⟩ M hH (by (try simp only [List.length_append, List.length_cons, List.length_nil]); omega) (12, 0, 9, 0, 1) ⟨rfl, rfl, rfl, rfl, rfl⟩ hl.1 (Nat.le_of_ble_eq_true rfl) d_M_finishQuotient_14 (fun μ H locs hH M => ?_)
    refine lv_aload_n hx hb d_M_finishQuotient_17 rfl (lv_at hl 0 rfl) ?_
    refine lv_bipush hx hb d_M_finishQuotient_18 kb_11 ?_
    refine lv_bipush hx hb d_M_finishQuotient_20 kb_11 ?_
    refine lv_iconst hx hb d_M_finishQuotient_22 ki_0 ?_
    refine lv_iconst hx hb d_M_finishQuotient_23 ki_0 ?_
    refine lv_iconst hx hb d_M_finishQuotient_24 ki_0 ?_
    refine kw_step SF ⟨Nat.le_of_ble_eq_true rfl, Nat.le_of_ble_eq_true rfl⟩ M hH (by (try simp only [List.length_append, List.length_cons, List.length_nil]); omega) (11, 11, 0, 0, 0) ⟨rfl, rfl, rfl, rfl, rfl⟩ hl.1 (Nat.le_of_ble_eq_true rfl) d_M_finishQuotient_25 (fun μ H locs hH M => ?_)
    refine lv_aload_n hx hb d_M_finishQuotient_28 rfl (lv_at hl 0 rfl) ?_
    refine lv_iconst hx hb d_M_finishQuotient_29 ki_5 ?_
    refine lv_bipush hx hb d_M_finishQuotient_30 kb_12 ?_
    refine lv_iload_n hx hb d_M_finishQuotient_32 rfl (lv_at hl 3 rfl) ?_
    refine lv_iload hx hb d_M_finishQuotient_33 (lv_at hl 4 rfl) ?_
    refine lv_iconst hx hb d_M_finishQuotient_35 ki_0 ?_
    refine kw_step SF ⟨Nat.le_of_ble_eq_true rfl, Nat.le_of_ble_eq_true rfl⟩ M hH (by (try simp only [List.length_append, List.length_cons, List.length_nil]); omega) (5, 12, x, nI y, 0) ⟨rfl, rfl, rfl, rfl, rfl⟩ hl.1 (Nat.le_of_ble_eq_true rfl) d_M_finishQuotient_36 (fun μ H locs hH M => ?_)
    refine lv_aload_n hx hb d_M_finishQuotient_39 rfl (lv_at hl 0 rfl) ?_
    refine lv_bipush hx hb d_M_finishQuotient_40 kb_8 ?_
    refine lv_iconst hx hb d_M_finishQuotient_42 ki_0 ?_
    refine lv_bipush hx hb d_M_finishQuotient_43 kb_12 ?_
    refine lv_bipush hx hb d_M_finishQuotient_45 kb_31 ?_
    refine lv_iconst hx hb d_M_finishQuotient_47 ki_1 ?_
    refine kw_step SF ⟨Nat.le_of_ble_eq_true rfl, Nat.le_of_ble_eq_true rfl⟩ M hH (by (try simp only [List.length_append, List.length_cons, List.length_nil]); omega) (8, 0, 12, nI 31, 1) ⟨rfl, rfl, rfl, rfl, rfl⟩ hl.1 (Nat.le_of_ble_eq_true rfl) d_M_finishQuotient_48 (fun μ H locs hH M => ?_)
    refine lv_aload_n hx hb d_M_finishQuotient_51 rfl (lv_at hl 0 rfl) ?_
    refine lv_iconst hx hb d_M_finishQuotient_52 ki_2 ?_
    refine lv_bipush hx hb d_M_finishQuotient_53 kb_11 ?_
    refine lv_bipush hx hb d_M_finishQuotient_55 kb_13 ?_
    refine lv_bipush hx hb d_M_finishQuotient_57 kb_11 ?_
    refine lv_iconst hx hb d_M_finishQuotient_59 ki_0 ?_
    refine kw_step SF ⟨Nat.le_of_ble_eq_true rfl, Nat.le_of_ble_eq_true rfl⟩ M hH (by (try simp only [List.length_append, List.length_cons, List.length_nil]); omega) (2, 11, 13, nI 11, 0) ⟨rfl, rfl, rfl, rfl, rfl⟩ hl.1 (Nat.le_of_ble_eq_true rfl) d_M_finishQuotient_60 (fun μ H locs hH M => ?_)
    refine lv_aload_n hx hb d_M_finishQuotient_63 rfl (lv_at hl 0 rfl) ?_
    refine lv_bipush hx hb d_M_finishQuotient_64 kb_6 ?_
    refine lv_iload_n hx hb d_M_finishQuotient_66 rfl (lv_at hl 2 rfl) ?_
    refine lv_bipush hx hb d_M_finishQuotient_67 kb_11 ?_
    refine lv_iconst hx hb d_M_finishQuotient_69 ki_0 ?_
    refine lv_iconst hx hb d_M_finishQuotient_70 ki_0 ?_
    refine kw_step SF ⟨Nat.le_of_ble_eq_true rfl, Nat.le_of_ble_eq_true rfl⟩ M hH (by (try simp only [List.length_append, List.length_cons, List.length_nil]); omega) (6, d, 11, 0, 0) ⟨rfl, rfl, rfl, rfl, rfl⟩ hl.1 (Nat.le_of_ble_eq_true rfl) d_M_finishQuotient_71 (fun μ H locs hH M => ?_)
    refine lv_goto (tgt := 111) hx hb d_M_finishQuotient_74 (by decide) ?_
    have hL : P ++ [(12, 0, 9, 0, 1)] ++ [(11, 11, 0, 0, 0)] ++ [(5, 12, x, nI y, 0)] ++ [(8, 0, 12, nI 31, 1)] ++ [(2, 11, 13, nI 11, 0)] ++ [(6, d, 11, 0, 0)] = P ++ finP o d x y := by simp only [finP, ho, if_true, List.append_assoc, List.cons_append, List.nil_append]
    rw [hL] at hH M
    exact retV SF hlk hr μ hH M d_M_finishQuotient_111
set_option maxHeartbeats 4000000 in
set_option maxRecDepth 100000 in
/-- comparison(o, d, x, y) -/
theorem c_comparison (l : Launch) (D : va_G) (h : Nat → Nat) (cs : Nat → ClassId) (ln nx la : Int32) (O Dd Aa Bb bt fr k0 k1 k2 k3 k4 : Nat → Int32) (P : List MO) (o d x y : Nat) (hH : Holds P k0 k1 k2 k3 k4) (hP : P.length + 5 ≤ 160) (ho8 : o ≤ 200) : CtV l y_M_comparison b_M_comparison 5 (rmm 1 25) D (tysM cs) [.ref (h 0), .int (nI o), .int (nI d), .int (nI x), .int (nI y)] (mW h cs ln nx la (nI P.length) O Dd Aa Bb bt fr k0 k1 k2 k3 k4) (fun μ : Nat → Nat → Int32 => Holds (P ++ cmpP o d x y) (μ 0) (μ 1) (μ 2) (μ 3) (μ 4)) (fun μ => mW h cs ln nx la (nI (P ++ cmpP o d x y).length) O Dd Aa Bb bt fr (μ 0) (μ 1) (μ 2) (μ 3) (μ 4)) := by
  refine CtV.of R_M (by decide) rfl (Nat.le_of_ble_eq_true rfl) ?_
  intro p e s m args below meth c A ls SF hlk hr M hl
  have hx := SF.1
  have hb := SF.2.1
  have hl : lv_has ls 5 [(0, .ref (h 0)), (1, .int (nI o)), (2, .int (nI d)), (3, .int (nI x)), (4, .int (nI y))] := hl
  refine lv_aload_n hx hb d_M_comparison_0 rfl (lv_at hl 0 rfl) ?_
  refine lv_bipush hx hb d_M_comparison_1 kb_11 ?_
  refine lv_bipush hx hb d_M_comparison_3 kb_9 ?_
  refine lv_iconst hx hb d_M_comparison_5 ki_0 ?_
  refine lv_iconst hx hb d_M_comparison_6 ki_0 ?_
  refine lv_iconst hx hb d_M_comparison_7 ki_0 ?_
  refine kw_step SF ⟨Nat.le_of_ble_eq_true rfl, Nat.le_of_ble_eq_true rfl⟩ M hH (by (try simp only [List.length_append, List.length_cons, List.length_nil]); omega) (11, 9, 0, 0, 0) ⟨rfl, rfl, rfl, rfl, rfl⟩ hl.1 (Nat.le_of_ble_eq_true rfl) d_M_comparison_8 (fun μ H locs hH M => ?_)
  refine lv_iload_n hx hb d_M_comparison_11 rfl (lv_at hl 1 rfl) ?_
  refine lv_bipush hx hb d_M_comparison_12 kb_13 ?_
  refine lv_icmp_ne (tgt := 43) hx hb d_M_comparison_14 (by decide) (fun c13 => ?_) (fun c13 => ?_)
  · have ho : ¬ o = 13 := fun q9 => c13 (by rw [q9]; rfl)
    refine lv_aload_n hx hb d_M_comparison_43 rfl (lv_at hl 0 rfl) ?_
    refine lv_iconst hx hb d_M_comparison_44 ki_5 ?_
    refine lv_bipush hx hb d_M_comparison_45 kb_8 ?_
    refine lv_iload_n hx hb d_M_comparison_47 rfl (lv_at hl 3 rfl) ?_
    refine lv_iload hx hb d_M_comparison_48 (lv_at hl 4 rfl) ?_
    refine lv_iconst hx hb d_M_comparison_50 ki_0 ?_
    refine kw_step SF ⟨Nat.le_of_ble_eq_true rfl, Nat.le_of_ble_eq_true rfl⟩ M hH (by (try simp only [List.length_append, List.length_cons, List.length_nil]); omega) (5, 8, x, nI y, 0) ⟨rfl, rfl, rfl, rfl, rfl⟩ hl.1 (Nat.le_of_ble_eq_true rfl) d_M_comparison_51 (fun μ H locs hH M => ?_)
    refine lv_aload_n hx hb d_M_comparison_54 rfl (lv_at hl 0 rfl) ?_
    refine lv_bipush hx hb d_M_comparison_55 kb_12 ?_
    refine lv_iconst hx hb d_M_comparison_57 ki_0 ?_
    refine lv_bipush hx hb d_M_comparison_58 kb_8 ?_
    refine lv_iconst hx hb d_M_comparison_60 ki_0 ?_
    refine lv_iconst hx hb d_M_comparison_61 ki_1 ?_
    refine kw_step SF ⟨Nat.le_of_ble_eq_true rfl, Nat.le_of_ble_eq_true rfl⟩ M hH (by (try simp only [List.length_append, List.length_cons, List.length_nil]); omega) (12, 0, 8, 0, 1) ⟨rfl, rfl, rfl, rfl, rfl⟩ hl.1 (Nat.le_of_ble_eq_true rfl) d_M_comparison_62 (fun μ H locs hH M => ?_)
    refine lv_aload_n hx hb d_M_comparison_65 rfl (lv_at hl 0 rfl) ?_
    refine lv_bipush hx hb d_M_comparison_66 kb_10 ?_
    refine lv_bipush hx hb d_M_comparison_68 kb_9 ?_
    refine lv_iconst hx hb d_M_comparison_70 ki_0 ?_
    refine lv_iconst hx hb d_M_comparison_71 ki_0 ?_
    refine lv_iconst hx hb d_M_comparison_72 ki_0 ?_
    refine kw_step SF ⟨Nat.le_of_ble_eq_true rfl, Nat.le_of_ble_eq_true rfl⟩ M hH (by (try simp only [List.length_append, List.length_cons, List.length_nil]); omega) (10, 9, 0, 0, 0) ⟨rfl, rfl, rfl, rfl, rfl⟩ hl.1 (Nat.le_of_ble_eq_true rfl) d_M_comparison_73 (fun μ H locs hH M => ?_)
    refine lv_aload_n hx hb d_M_comparison_76 rfl (lv_at hl 0 rfl) ?_
    refine lv_bipush hx hb d_M_comparison_77 kb_6 ?_
    refine lv_iload_n hx hb d_M_comparison_79 rfl (lv_at hl 2 rfl) ?_
    refine lv_bipush hx hb d_M_comparison_80 kb_9 ?_
    refine lv_iconst hx hb d_M_comparison_82 ki_0 ?_
    refine lv_iconst hx hb d_M_comparison_83 ki_0 ?_
    refine kw_step SF ⟨Nat.le_of_ble_eq_true rfl, Nat.le_of_ble_eq_true rfl⟩ M hH (by (try simp only [List.length_append, List.length_cons, List.length_nil]); omega) (6, d, 9, 0, 0) ⟨rfl, rfl, rfl, rfl, rfl⟩ hl.1 (Nat.le_of_ble_eq_true rfl) d_M_comparison_84 (fun μ H locs hH M => ?_)
    have hL : P ++ [(11, 9, 0, 0, 0)] ++ [(5, 8, x, nI y, 0)] ++ [(12, 0, 8, 0, 1)] ++ [(10, 9, 0, 0, 0)] ++ [(6, d, 9, 0, 0)] = P ++ cmpP o d x y := by simp only [cmpP, ho, if_false, List.append_assoc, List.cons_append, List.nil_append]
    rw [hL] at hH M
    exact retV SF hlk hr μ hH M d_M_comparison_87
  · have ho : o = 13 := nI_is (by omega) (by decide) c13
    refine lv_aload_n hx hb d_M_comparison_17 rfl (lv_at hl 0 rfl) ?_
    refine lv_iconst hx hb d_M_comparison_18 ki_2 ?_
    refine lv_bipush hx hb d_M_comparison_19 kb_8 ?_
    refine lv_iload_n hx hb d_M_comparison_21 rfl (lv_at hl 3 rfl) ?_
    refine lv_iload hx hb d_M_comparison_22 (lv_at hl 4 rfl) ?_
    refine lv_iconst hx hb d_M_comparison_24 ki_0 ?_
    refine kw_step SF ⟨Nat.le_of_ble_eq_true rfl, Nat.le_of_ble_eq_true rfl⟩ M hH (by (try simp only [List.length_append, List.length_cons, List.length_nil]); omega) (2, 8, x, nI y, 0) ⟨rfl, rfl, rfl, rfl, rfl⟩ hl.1 (Nat.le_of_ble_eq_true rfl) d_M_comparison_25 (fun μ H locs hH M => ?_)
    refine lv_aload_n hx hb d_M_comparison_28 rfl (lv_at hl 0 rfl) ?_
    refine lv_bipush hx hb d_M_comparison_29 kb_8 ?_
    refine lv_iconst hx hb d_M_comparison_31 ki_0 ?_
    refine lv_bipush hx hb d_M_comparison_32 kb_8 ?_
    refine lv_bipush hx hb d_M_comparison_34 kb_31 ?_
    refine lv_iconst hx hb d_M_comparison_36 ki_1 ?_
    refine kw_step SF ⟨Nat.le_of_ble_eq_true rfl, Nat.le_of_ble_eq_true rfl⟩ M hH (by (try simp only [List.length_append, List.length_cons, List.length_nil]); omega) (8, 0, 8, nI 31, 1) ⟨rfl, rfl, rfl, rfl, rfl⟩ hl.1 (Nat.le_of_ble_eq_true rfl) d_M_comparison_37 (fun μ H locs hH M => ?_)
    refine lv_goto (tgt := 65) hx hb d_M_comparison_40 (by decide) ?_
    refine lv_aload_n hx hb d_M_comparison_65 rfl (lv_at hl 0 rfl) ?_
    refine lv_bipush hx hb d_M_comparison_66 kb_10 ?_
    refine lv_bipush hx hb d_M_comparison_68 kb_9 ?_
    refine lv_iconst hx hb d_M_comparison_70 ki_0 ?_
    refine lv_iconst hx hb d_M_comparison_71 ki_0 ?_
    refine lv_iconst hx hb d_M_comparison_72 ki_0 ?_
    refine kw_step SF ⟨Nat.le_of_ble_eq_true rfl, Nat.le_of_ble_eq_true rfl⟩ M hH (by (try simp only [List.length_append, List.length_cons, List.length_nil]); omega) (10, 9, 0, 0, 0) ⟨rfl, rfl, rfl, rfl, rfl⟩ hl.1 (Nat.le_of_ble_eq_true rfl) d_M_comparison_73 (fun μ H locs hH M => ?_)
    refine lv_aload_n hx hb d_M_comparison_76 rfl (lv_at hl 0 rfl) ?_
    refine lv_bipush hx hb d_M_comparison_77 kb_6 ?_
    refine lv_iload_n hx hb d_M_comparison_79 rfl (lv_at hl 2 rfl) ?_
    refine lv_bipush hx hb d_M_comparison_80 kb_9 ?_
    refine lv_iconst hx hb d_M_comparison_82 ki_0 ?_
    refine lv_iconst hx hb d_M_comparison_83 ki_0 ?_
    refine kw_step SF ⟨Nat.le_of_ble_eq_true rfl, Nat.le_of_ble_eq_true rfl⟩ M hH (by (try simp only [List.length_append, List.length_cons, List.length_nil]); omega) (6, d, 9, 0, 0) ⟨rfl, rfl, rfl, rfl, rfl⟩ hl.1 (Nat.le_of_ble_eq_true rfl) d_M_comparison_84 (fun μ H locs hH M => ?_)
    have hL : P ++ [(11, 9, 0, 0, 0)] ++ [(2, 8, x, nI y, 0)] ++ [(8, 0, 8, nI 31, 1)] ++ [(10, 9, 0, 0, 0)] ++ [(6, d, 9, 0, 0)] = P ++ cmpP o d x y := by simp only [cmpP, ho, if_true, List.append_assoc, List.cons_append, List.nil_append]
    rw [hL] at hH M
    exact retV SF hlk hr μ hH M d_M_comparison_87
set_option maxHeartbeats 4000000 in
set_option maxRecDepth 100000 in
/-- root(x) -/
theorem c_root (l : Launch) (D : va_G) (h : Nat → Nat) (cs : Nat → ClassId) (ln nx la : Int32) (O Dd Aa Bb bt fr k0 k1 k2 k3 k4 : Nat → Int32) (P : List MO) (x : Nat) (hH : Holds P k0 k1 k2 k3 k4) (hP : P.length + 99 ≤ 160) : CtV l y_M_root b_M_root 3 (rmm 1 25) D (tysM cs) [.ref (h 0), .int (nI x)] (mW h cs ln nx la (nI P.length) O Dd Aa Bb bt fr k0 k1 k2 k3 k4) (fun μ : Nat → Nat → Int32 => Holds (P ++ rootP x) (μ 0) (μ 1) (μ 2) (μ 3) (μ 4)) (fun μ => mW h cs ln nx la (nI (P ++ rootP x).length) O Dd Aa Bb bt fr (μ 0) (μ 1) (μ 2) (μ 3) (μ 4)) := by
  refine CtV.of R_M (by decide) rfl (Nat.le_of_ble_eq_true rfl) ?_
  intro p e s m args below meth c A ls SF hlk hr M hl
  have hx := SF.1
  have hb := SF.2.1
  have hl : lv_has ls 3 [(0, .ref (h 0)), (1, .int (nI x))] := hl
  refine lv_aload_n hx hb d_M_root_0 rfl (lv_at hl 0 rfl) ?_
  refine lv_bipush hx hb d_M_root_1 kb_7 ?_
  refine lv_bipush hx hb d_M_root_3 kb_8 ?_
  refine lv_iload_n hx hb d_M_root_5 rfl (lv_at hl 1 rfl) ?_
  refine lv_iconst hx hb d_M_root_6 ki_0 ?_
  refine lv_iconst hx hb d_M_root_7 ki_0 ?_
  refine kw_step SF ⟨Nat.le_of_ble_eq_true rfl, Nat.le_of_ble_eq_true rfl⟩ M hH (by (try simp only [List.length_append, List.length_cons, List.length_nil]); omega) (7, 8, x, 0, 0) ⟨rfl, rfl, rfl, rfl, rfl⟩ hl.1 (Nat.le_of_ble_eq_true rfl) d_M_root_8 (fun μ H locs hH M => ?_)
  refine lv_aload_n hx hb d_M_root_11 rfl (lv_at hl 0 rfl) ?_
  refine lv_bipush hx hb d_M_root_12 kb_11 ?_
  refine lv_bipush hx hb d_M_root_14 kb_9 ?_
  refine lv_iconst hx hb d_M_root_16 ki_0 ?_
  refine lv_iconst hx hb d_M_root_17 ki_0 ?_
  refine lv_iconst hx hb d_M_root_18 ki_0 ?_
  refine kw_step SF ⟨Nat.le_of_ble_eq_true rfl, Nat.le_of_ble_eq_true rfl⟩ M hH (by (try simp only [List.length_append, List.length_cons, List.length_nil]); omega) (11, 9, 0, 0, 0) ⟨rfl, rfl, rfl, rfl, rfl⟩ hl.1 (Nat.le_of_ble_eq_true rfl) d_M_root_19 (fun μ H locs hH M => ?_)
  refine lv_aload_n hx hb d_M_root_22 rfl (lv_at hl 0 rfl) ?_
  refine lv_bipush hx hb d_M_root_23 kb_11 ?_
  refine lv_bipush hx hb d_M_root_25 kb_10 ?_
  refine lv_iconst hx hb d_M_root_27 ki_0 ?_
  refine lv_iconst hx hb d_M_root_28 ki_0 ?_
  refine lv_iconst hx hb d_M_root_29 ki_0 ?_
  refine kw_step SF ⟨Nat.le_of_ble_eq_true rfl, Nat.le_of_ble_eq_true rfl⟩ M hH (by (try simp only [List.length_append, List.length_cons, List.length_nil]); omega) (11, 10, 0, 0, 0) ⟨rfl, rfl, rfl, rfl, rfl⟩ hl.1 (Nat.le_of_ble_eq_true rfl) d_M_root_30 (fun μ H locs hH M => ?_)
  refine lv_bipush hx hb d_M_root_33 kb_7 ?_
  refine lv_istore_n (lv' := [(2, .int 7), (0, .ref (h 0)), (1, .int (nI x))]) hx hb d_M_root_35 rfl hl (by decide) rfl (fun ls hl => ?_)
  refine lp_root (PF := P ++ rootP x) SF ⟨Nat.le_of_ble_eq_true rfl, Nat.le_of_ble_eq_true rfl⟩  ?_ ?_ 8 _ μ (Nat.le_refl _) ?_ hH _ _ ls M (lv_sub hl [1, 2, 0] rfl)
  · simp only [rootP, List.length_append, List.length_cons, List.length_nil, rB_len]
    omega
  · intro μ H locs ls hH M
    exact retV SF hlk hr μ hH M d_M_root_184
  · simp only [rootP, List.append_assoc, List.cons_append, List.nil_append]
set_option maxHeartbeats 4000000 in
set_option maxRecDepth 100000 in
/-- countOnes(x) -/
theorem c_countOnes (l : Launch) (D : va_G) (h : Nat → Nat) (cs : Nat → ClassId) (ln nx la : Int32) (O Dd Aa Bb bt fr k0 k1 k2 k3 k4 : Nat → Int32) (P : List MO) (x : Nat) (hH : Holds P k0 k1 k2 k3 k4) (hP : P.length + 34 ≤ 160) : CtV l y_M_countOnes b_M_countOnes 3 (rmm 1 25) D (tysM cs) [.ref (h 0), .int (nI x)] (mW h cs ln nx la (nI P.length) O Dd Aa Bb bt fr k0 k1 k2 k3 k4) (fun μ : Nat → Nat → Int32 => Holds (P ++ onesP x) (μ 0) (μ 1) (μ 2) (μ 3) (μ 4)) (fun μ => mW h cs ln nx la (nI (P ++ onesP x).length) O Dd Aa Bb bt fr (μ 0) (μ 1) (μ 2) (μ 3) (μ 4)) := by
  refine CtV.of R_M (by decide) rfl (Nat.le_of_ble_eq_true rfl) ?_
  intro p e s m args below meth c A ls SF hlk hr M hl
  have hx := SF.1
  have hb := SF.2.1
  have hl : lv_has ls 3 [(0, .ref (h 0)), (1, .int (nI x))] := hl
  refine lv_aload_n hx hb d_M_countOnes_0 rfl (lv_at hl 0 rfl) ?_
  refine lv_bipush hx hb d_M_countOnes_1 kb_11 ?_
  refine lv_bipush hx hb d_M_countOnes_3 kb_8 ?_
  refine lv_iconst hx hb d_M_countOnes_5 ki_0 ?_
  refine lv_iconst hx hb d_M_countOnes_6 ki_0 ?_
  refine lv_iconst hx hb d_M_countOnes_7 ki_0 ?_
  refine kw_step SF ⟨Nat.le_of_ble_eq_true rfl, Nat.le_of_ble_eq_true rfl⟩ M hH (by (try simp only [List.length_append, List.length_cons, List.length_nil]); omega) (11, 8, 0, 0, 0) ⟨rfl, rfl, rfl, rfl, rfl⟩ hl.1 (Nat.le_of_ble_eq_true rfl) d_M_countOnes_8 (fun μ H locs hH M => ?_)
  refine lv_aload_n hx hb d_M_countOnes_11 rfl (lv_at hl 0 rfl) ?_
  refine lv_bipush hx hb d_M_countOnes_12 kb_11 ?_
  refine lv_bipush hx hb d_M_countOnes_14 kb_9 ?_
  refine lv_iconst hx hb d_M_countOnes_16 ki_0 ?_
  refine lv_iconst hx hb d_M_countOnes_17 ki_1 ?_
  refine lv_iconst hx hb d_M_countOnes_18 ki_0 ?_
  refine kw_step SF ⟨Nat.le_of_ble_eq_true rfl, Nat.le_of_ble_eq_true rfl⟩ M hH (by (try simp only [List.length_append, List.length_cons, List.length_nil]); omega) (11, 9, 0, 1, 0) ⟨rfl, rfl, rfl, rfl, rfl⟩ hl.1 (Nat.le_of_ble_eq_true rfl) d_M_countOnes_19 (fun μ H locs hH M => ?_)
  refine lv_iconst hx hb d_M_countOnes_22 ki_0 ?_
  refine lv_istore_n (lv' := [(2, .int 0), (0, .ref (h 0)), (1, .int (nI x))]) hx hb d_M_countOnes_23 rfl hl (by decide) rfl (fun ls hl => ?_)
  refine lp_countOnes (PF := P ++ onesP x) SF ⟨Nat.le_of_ble_eq_true rfl, Nat.le_of_ble_eq_true rfl⟩  ?_ ?_ 16 0 _ μ (by rfl) ?_ hH _ _ ls M (lv_sub hl [1, 2, 0] rfl)
  · simp only [onesP, List.length_append, List.length_cons, List.length_nil, oB_len]
    omega
  · intro μ H locs ls hH M
    exact retV SF hlk hr μ hH M d_M_countOnes_58
  · simp only [onesP, List.append_assoc, List.cons_append, List.nil_append]
end
section
set_option maxHeartbeats 4000000 in
set_option maxRecDepth 100000 in
/-- translate(j): the micro-program of line j -/
theorem c_translate (l : Launch) (D : va_G) (h : Nat → Nat) (cs : Nat → ClassId) (ln nx la st : Int32) (O Dd Aa Bb bt fr k0 k1 k2 k3 k4 : Nat → Int32) (j o d : Nat) (hj : j < 32) (eo : O j = nI o) (ho : o ≤ 16) (ed : Dd j = nI d) : CtV l y_M_translate b_M_translate 7 (rmm 3 70) D (tysM cs) [.ref (h 0), .int (nI j)] (mW h cs ln nx la st O Dd Aa Bb bt fr k0 k1 k2 k3 k4) (fun μ : Nat → Nat → Int32 => Holds (progOf o d (r7 (Aa j)) (r7 (Bb j)) (r15 (Bb j)) (Aa j)) (μ 0) (μ 1) (μ 2) (μ 3) (μ 4)) (fun μ => mW h cs ln nx la (nI (progOf o d (r7 (Aa j)) (r7 (Bb j)) (r15 (Bb j)) (Aa j)).length) O Dd Aa Bb bt fr (μ 0) (μ 1) (μ 2) (μ 3) (μ 4)) := by
  refine CtV.of R_M (by decide) rfl (Nat.le_of_ble_eq_true rfl) ?_
  intro p e s m args below meth c A ls SF hlk hr M hl
  have hx := SF.1
  have hb := SF.2.1
  have hl : lv_has ls 7 [(0, .ref (h 0)), (1, .int (nI j))] := hl
  refine lv_aload_n hx hb d_M_translate_0 rfl (lv_at hl 0 rfl) ?_
  refine lv_iconst hx hb d_M_translate_1 ki_0 ?_
  refine pM_steps SF M d_M_translate_2 (fun H locs M => ?_)
  have M : WW D (tysM cs) A s (mW h cs ln nx la (nI ([] : List MO).length) O Dd Aa Bb bt fr k0 k1 k2 k3 k4) H locs := M
  have hH := Holds_nil k0 k1 k2 k3 k4
  refine lv_aload_n hx hb d_M_translate_5 rfl (lv_at hl 0 rfl) ?_
  refine gM_opOf SF M d_M_translate_6 ?_
  refine lv_iload_n hx hb d_M_translate_9 rfl (lv_at hl 1 rfl) ?_
  refine aM_opOf SF M j rfl hj d_M_translate_10 ?_
  rw [eo]
  refine lv_istore_n (lv' := [(2, .int (nI o)), (0, .ref (h 0)), (1, .int (nI j))]) hx hb d_M_translate_11 rfl hl (by decide) rfl (fun ls hl => ?_)
  refine lv_aload_n hx hb d_M_translate_12 rfl (lv_at hl 1 rfl) ?_
  refine gM_dstOf SF M d_M_translate_13 ?_
  refine lv_iload_n hx hb d_M_translate_16 rfl (lv_at hl 2 rfl) ?_
  refine aM_dstOf SF M j rfl hj d_M_translate_17 ?_
  rw [ed]
  refine lv_istore_n (lv' := [(3, .int (nI d)), (2, .int (nI o)), (0, .ref (h 0)), (1, .int (nI j))]) hx hb d_M_translate_18 rfl hl (by decide) rfl (fun ls hl => ?_)
  refine lv_aload_n hx hb d_M_translate_19 rfl (lv_at hl 2 rfl) ?_
  refine gM_aOf SF M d_M_translate_20 ?_
  refine lv_iload_n hx hb d_M_translate_23 rfl (lv_at hl 3 rfl) ?_
  refine aM_aOf SF M j rfl hj d_M_translate_24 ?_
  refine lv_bipush hx hb d_M_translate_25 kb_7 ?_
  refine lv_iand hx hb d_M_translate_27 ?_
  rw [ix7]
  refine lv_istore (lv' := [(4, .int (nI (r7 (Aa j)))), (3, .int (nI d)), (2, .int (nI o)), (0, .ref (h 0)), (1, .int (nI j))]) hx hb d_M_translate_28 hl (by decide) rfl (fun ls hl => ?_)
  refine lv_aload_n hx hb d_M_translate_30 rfl (lv_at hl 3 rfl) ?_
  refine gM_bOf SF M d_M_translate_31 ?_
  refine lv_iload_n hx hb d_M_translate_34 rfl (lv_at hl 4 rfl) ?_
  refine aM_bOf SF M j rfl hj d_M_translate_35 ?_
  refine lv_bipush hx hb d_M_translate_36 kb_7 ?_
  refine lv_iand hx hb d_M_translate_38 ?_
  rw [ix7]
  refine lv_istore (lv' := [(5, .int (nI (r7 (Bb j)))), (4, .int (nI (r7 (Aa j)))), (3, .int (nI d)), (2, .int (nI o)), (0, .ref (h 0)), (1, .int (nI j))]) hx hb d_M_translate_39 hl (by decide) rfl (fun ls hl => ?_)
  refine lv_aload_n hx hb d_M_translate_41 rfl (lv_at hl 4 rfl) ?_
  refine gM_bOf SF M d_M_translate_42 ?_
  refine lv_iload_n hx hb d_M_translate_45 rfl (lv_at hl 5 rfl) ?_
  refine aM_bOf SF M j rfl hj d_M_translate_46 ?_
  refine lv_bipush hx hb d_M_translate_47 kb_15 ?_
  refine lv_iand hx hb d_M_translate_49 ?_
  rw [ix15]
  refine lv_istore (lv' := [(6, .int (nI (r15 (Bb j)))), (5, .int (nI (r7 (Bb j)))), (4, .int (nI (r7 (Aa j)))), (3, .int (nI d)), (2, .int (nI o)), (0, .ref (h 0)), (1, .int (nI j))]) hx hb d_M_translate_50 hl (by decide) rfl (fun ls hl => ?_)
  have key : o = 0 ∨ o = 1 ∨ o = 2 ∨ o = 3 ∨ o = 4 ∨ o = 5 ∨ o = 6 ∨ o = 7 ∨ o = 8 ∨ o = 9 ∨ o = 10 ∨ o = 11 ∨ o = 12 ∨ o = 13 ∨ o = 14 ∨ o = 15 ∨ o = 16 := by omega
  rcases key with rfl | rfl | rfl | rfl | rfl | rfl | rfl | rfl | rfl | rfl | rfl | rfl | rfl | rfl | rfl | rfl | rfl
  · refine lv_iload_n hx hb d_M_translate_52 rfl (lv_at hl 4 rfl) ?_
    refine lv_if_ne (tgt := 86) hx hb d_M_translate_53 (by decide) (fun c9 => absurd (by decide : (nI 0) = 0) c9) (fun _ => ?_)
    refine lv_aload_n hx hb d_M_translate_56 rfl (lv_at hl 5 rfl) ?_
    refine lv_bipush hx hb d_M_translate_57 kb_11 ?_
    refine lv_bipush hx hb d_M_translate_59 kb_8 ?_
    refine lv_iconst hx hb d_M_translate_61 ki_0 ?_
    refine lv_aload_n hx hb d_M_translate_62 rfl (lv_at hl 5 rfl) ?_
    refine gM_aOf SF M d_M_translate_63 ?_
    refine lv_iload_n hx hb d_M_translate_66 rfl (lv_at hl 6 rfl) ?_
    refine aM_aOf SF M j rfl hj d_M_translate_67 ?_
    refine lv_iconst hx hb d_M_translate_68 ki_0 ?_
    refine kw_step SF ⟨Nat.le_of_ble_eq_true rfl, Nat.le_of_ble_eq_true rfl⟩ M hH (by (try simp only [prodP, pB_len, quoP, amtP, qB_len, rootP, rB_len, onesP, oB_len, finP, cmpP, List.length_append, List.length_cons, List.length_nil]); (try split); all_goals (try simp only [List.length_cons, List.length_nil]); all_goals omega) (11, 8, 0, Aa j, 0) ⟨rfl, rfl, rfl, rfl, rfl⟩ hl.1 (Nat.le_of_ble_eq_true rfl) d_M_translate_69 (fun μ H locs hH M => ?_)
    refine lv_aload_n hx hb d_M_translate_72 rfl (lv_at hl 5 rfl) ?_
    refine lv_bipush hx hb d_M_translate_73 kb_6 ?_
    refine lv_iload_n hx hb d_M_translate_75 rfl (lv_at hl 3 rfl) ?_
    refine lv_bipush hx hb d_M_translate_76 kb_8 ?_
    refine lv_iconst hx hb d_M_translate_78 ki_0 ?_
    refine lv_iconst hx hb d_M_translate_79 ki_0 ?_
    refine kw_step SF ⟨Nat.le_of_ble_eq_true rfl, Nat.le_of_ble_eq_true rfl⟩ M hH (by (try simp only [prodP, pB_len, quoP, amtP, qB_len, rootP, rB_len, onesP, oB_len, finP, cmpP, List.length_append, List.length_cons, List.length_nil]); (try split); all_goals (try simp only [List.length_cons, List.length_nil]); all_goals omega) (6, d, 8, 0, 0) ⟨rfl, rfl, rfl, rfl, rfl⟩ hl.1 (Nat.le_of_ble_eq_true rfl) d_M_translate_80 (fun μ H locs hH M => ?_)
    refine lv_goto (tgt := 394) hx hb d_M_translate_83 (by decide) ?_
    have hL : [] ++ [(11, 8, 0, Aa j, 0)] ++ [(6, d, 8, 0, 0)] = progOf 0 d (r7 (Aa j)) (r7 (Bb j)) (r15 (Bb j)) (Aa j) := by
      rfl
    rw [hL] at hH M
    exact retV SF hlk hr μ hH M d_M_translate_394
  · refine lv_iload_n hx hb d_M_translate_52 rfl (lv_at hl 4 rfl) ?_
    refine lv_if_ne (tgt := 86) hx hb d_M_translate_53 (by decide) (fun _ => ?_) (fun c9 => absurd c9 (by decide : ¬ (nI 1) = 0))
    refine lv_iload_n hx hb d_M_translate_86 rfl (lv_at hl 4 rfl) ?_
    refine lv_iconst hx hb d_M_translate_87 ki_1 ?_
    refine lv_icmp_ne (tgt := 105) hx hb d_M_translate_88 (by decide) (fun c9 => absurd (by decide : (nI 1) = 1) c9) (fun _ => ?_)
    refine lv_aload_n hx hb d_M_translate_91 rfl (lv_at hl 5 rfl) ?_
    refine lv_bipush hx hb d_M_translate_92 kb_6 ?_
    refine lv_iload_n hx hb d_M_translate_94 rfl (lv_at hl 3 rfl) ?_
    refine lv_iload hx hb d_M_translate_95 (lv_at hl 2 rfl) ?_
    refine lv_iconst hx hb d_M_translate_97 ki_0 ?_
    refine lv_iconst hx hb d_M_translate_98 ki_0 ?_
    refine kw_step SF ⟨Nat.le_of_ble_eq_true rfl, Nat.le_of_ble_eq_true rfl⟩ M hH (by (try simp only [prodP, pB_len, quoP, amtP, qB_len, rootP, rB_len, onesP, oB_len, finP, cmpP, List.length_append, List.length_cons, List.length_nil]); (try split); all_goals (try simp only [List.length_cons, List.length_nil]); all_goals omega) (6, d, (r7 (Aa j)), 0, 0) ⟨rfl, rfl, rfl, rfl, rfl⟩ hl.1 (Nat.le_of_ble_eq_true rfl) d_M_translate_99 (fun μ H locs hH M => ?_)
    refine lv_goto (tgt := 394) hx hb d_M_translate_102 (by decide) ?_
    have hL : [] ++ [(6, d, (r7 (Aa j)), 0, 0)] = progOf 1 d (r7 (Aa j)) (r7 (Bb j)) (r15 (Bb j)) (Aa j) := by
      rfl
    rw [hL] at hH M
    exact retV SF hlk hr μ hH M d_M_translate_394
  · refine lv_iload_n hx hb d_M_translate_52 rfl (lv_at hl 4 rfl) ?_
    refine lv_if_ne (tgt := 86) hx hb d_M_translate_53 (by decide) (fun _ => ?_) (fun c9 => absurd c9 (by decide : ¬ (nI 2) = 0))
    refine lv_iload_n hx hb d_M_translate_86 rfl (lv_at hl 4 rfl) ?_
    refine lv_iconst hx hb d_M_translate_87 ki_1 ?_
    refine lv_icmp_ne (tgt := 105) hx hb d_M_translate_88 (by decide) (fun _ => ?_) (fun c9 => absurd c9 (by decide : ¬ (nI 2) = 1))
    refine lv_iload_n hx hb d_M_translate_105 rfl (lv_at hl 4 rfl) ?_
    refine lv_iconst hx hb d_M_translate_106 ki_2 ?_
    refine lv_icmp_eq (tgt := 115) hx hb d_M_translate_107 (by decide) (fun _ => ?_) (fun c9 => absurd (by decide : (nI 2) = 2) c9)
    refine lv_aload_n hx hb d_M_translate_115 rfl (lv_at hl 5 rfl) ?_
    refine lv_iload_n hx hb d_M_translate_116 rfl (lv_at hl 4 rfl) ?_
    refine lv_iconst hx hb d_M_translate_117 ki_2 ?_
    refine lv_icmp_ne (tgt := 125) hx hb d_M_translate_118 (by decide) (fun c9 => absurd (by decide : (nI 2) = 2) c9) (fun _ => ?_)
    refine lv_iconst hx hb d_M_translate_121 ki_1 ?_
    refine lv_goto (tgt := 126) hx hb d_M_translate_122 (by decide) ?_
    refine lv_bipush hx hb d_M_translate_126 kb_8 ?_
    refine lv_iload hx hb d_M_translate_128 (lv_at hl 2 rfl) ?_
    refine lv_iload hx hb d_M_translate_130 (lv_at hl 1 rfl) ?_
    refine lv_iconst hx hb d_M_translate_132 ki_0 ?_
    refine kw_step SF ⟨Nat.le_of_ble_eq_true rfl, Nat.le_of_ble_eq_true rfl⟩ M hH (by (try simp only [prodP, pB_len, quoP, amtP, qB_len, rootP, rB_len, onesP, oB_len, finP, cmpP, List.length_append, List.length_cons, List.length_nil]); (try split); all_goals (try simp only [List.length_cons, List.length_nil]); all_goals omega) (1, 8, (r7 (Aa j)), nI (r7 (Bb j)), 0) ⟨rfl, rfl, rfl, rfl, rfl⟩ hl.1 (Nat.le_of_ble_eq_true rfl) d_M_translate_133 (fun μ H locs hH M => ?_)
    refine lv_aload_n hx hb d_M_translate_136 rfl (lv_at hl 5 rfl) ?_
    refine lv_bipush hx hb d_M_translate_137 kb_6 ?_
    refine lv_iload_n hx hb d_M_translate_139 rfl (lv_at hl 3 rfl) ?_
    refine lv_bipush hx hb d_M_translate_140 kb_8 ?_
    refine lv_iconst hx hb d_M_translate_142 ki_0 ?_
    refine lv_iconst hx hb d_M_translate_143 ki_0 ?_
    refine kw_step SF ⟨Nat.le_of_ble_eq_true rfl, Nat.le_of_ble_eq_true rfl⟩ M hH (by (try simp only [prodP, pB_len, quoP, amtP, qB_len, rootP, rB_len, onesP, oB_len, finP, cmpP, List.length_append, List.length_cons, List.length_nil]); (try split); all_goals (try simp only [List.length_cons, List.length_nil]); all_goals omega) (6, d, 8, 0, 0) ⟨rfl, rfl, rfl, rfl, rfl⟩ hl.1 (Nat.le_of_ble_eq_true rfl) d_M_translate_144 (fun μ H locs hH M => ?_)
    refine lv_goto (tgt := 394) hx hb d_M_translate_147 (by decide) ?_
    have hL : [] ++ [(1, 8, (r7 (Aa j)), nI (r7 (Bb j)), 0)] ++ [(6, d, 8, 0, 0)] = progOf 2 d (r7 (Aa j)) (r7 (Bb j)) (r15 (Bb j)) (Aa j) := by
      rfl
    rw [hL] at hH M
    exact retV SF hlk hr μ hH M d_M_translate_394
  · refine lv_iload_n hx hb d_M_translate_52 rfl (lv_at hl 4 rfl) ?_
    refine lv_if_ne (tgt := 86) hx hb d_M_translate_53 (by decide) (fun _ => ?_) (fun c9 => absurd c9 (by decide : ¬ (nI 3) = 0))
    refine lv_iload_n hx hb d_M_translate_86 rfl (lv_at hl 4 rfl) ?_
    refine lv_iconst hx hb d_M_translate_87 ki_1 ?_
    refine lv_icmp_ne (tgt := 105) hx hb d_M_translate_88 (by decide) (fun _ => ?_) (fun c9 => absurd c9 (by decide : ¬ (nI 3) = 1))
    refine lv_iload_n hx hb d_M_translate_105 rfl (lv_at hl 4 rfl) ?_
    refine lv_iconst hx hb d_M_translate_106 ki_2 ?_
    refine lv_icmp_eq (tgt := 115) hx hb d_M_translate_107 (by decide) (fun c9 => absurd c9 (by decide : ¬ (nI 3) = 2)) (fun _ => ?_)
    refine lv_iload_n hx hb d_M_translate_110 rfl (lv_at hl 4 rfl) ?_
    refine lv_iconst hx hb d_M_translate_111 ki_3 ?_
    refine lv_icmp_ne (tgt := 150) hx hb d_M_translate_112 (by decide) (fun c9 => absurd (by decide : (nI 3) = 3) c9) (fun _ => ?_)
    refine lv_aload_n hx hb d_M_translate_115 rfl (lv_at hl 5 rfl) ?_
    refine lv_iload_n hx hb d_M_translate_116 rfl (lv_at hl 4 rfl) ?_
    refine lv_iconst hx hb d_M_translate_117 ki_2 ?_
    refine lv_icmp_ne (tgt := 125) hx hb d_M_translate_118 (by decide) (fun _ => ?_) (fun c9 => absurd c9 (by decide : ¬ (nI 3) = 2))
    refine lv_iconst hx hb d_M_translate_125 ki_2 ?_
    refine lv_bipush hx hb d_M_translate_126 kb_8 ?_
    refine lv_iload hx hb d_M_translate_128 (lv_at hl 2 rfl) ?_
    refine lv_iload hx hb d_M_translate_130 (lv_at hl 1 rfl) ?_
    refine lv_iconst hx hb d_M_translate_132 ki_0 ?_
    refine kw_step SF ⟨Nat.le_of_ble_eq_true rfl, Nat.le_of_ble_eq_true rfl⟩ M hH (by (try simp only [prodP, pB_len, quoP, amtP, qB_len, rootP, rB_len, onesP, oB_len, finP, cmpP, List.length_append, List.length_cons, List.length_nil]); (try split); all_goals (try simp only [List.length_cons, List.length_nil]); all_goals omega) (2, 8, (r7 (Aa j)), nI (r7 (Bb j)), 0) ⟨rfl, rfl, rfl, rfl, rfl⟩ hl.1 (Nat.le_of_ble_eq_true rfl) d_M_translate_133 (fun μ H locs hH M => ?_)
    refine lv_aload_n hx hb d_M_translate_136 rfl (lv_at hl 5 rfl) ?_
    refine lv_bipush hx hb d_M_translate_137 kb_6 ?_
    refine lv_iload_n hx hb d_M_translate_139 rfl (lv_at hl 3 rfl) ?_
    refine lv_bipush hx hb d_M_translate_140 kb_8 ?_
    refine lv_iconst hx hb d_M_translate_142 ki_0 ?_
    refine lv_iconst hx hb d_M_translate_143 ki_0 ?_
    refine kw_step SF ⟨Nat.le_of_ble_eq_true rfl, Nat.le_of_ble_eq_true rfl⟩ M hH (by (try simp only [prodP, pB_len, quoP, amtP, qB_len, rootP, rB_len, onesP, oB_len, finP, cmpP, List.length_append, List.length_cons, List.length_nil]); (try split); all_goals (try simp only [List.length_cons, List.length_nil]); all_goals omega) (6, d, 8, 0, 0) ⟨rfl, rfl, rfl, rfl, rfl⟩ hl.1 (Nat.le_of_ble_eq_true rfl) d_M_translate_144 (fun μ H locs hH M => ?_)
    refine lv_goto (tgt := 394) hx hb d_M_translate_147 (by decide) ?_
    have hL : [] ++ [(2, 8, (r7 (Aa j)), nI (r7 (Bb j)), 0)] ++ [(6, d, 8, 0, 0)] = progOf 3 d (r7 (Aa j)) (r7 (Bb j)) (r15 (Bb j)) (Aa j) := by
      rfl
    rw [hL] at hH M
    exact retV SF hlk hr μ hH M d_M_translate_394
  · refine lv_iload_n hx hb d_M_translate_52 rfl (lv_at hl 4 rfl) ?_
    refine lv_if_ne (tgt := 86) hx hb d_M_translate_53 (by decide) (fun _ => ?_) (fun c9 => absurd c9 (by decide : ¬ (nI 4) = 0))
    refine lv_iload_n hx hb d_M_translate_86 rfl (lv_at hl 4 rfl) ?_
    refine lv_iconst hx hb d_M_translate_87 ki_1 ?_
    refine lv_icmp_ne (tgt := 105) hx hb d_M_translate_88 (by decide) (fun _ => ?_) (fun c9 => absurd c9 (by decide : ¬ (nI 4) = 1))
    refine lv_iload_n hx hb d_M_translate_105 rfl (lv_at hl 4 rfl) ?_
    refine lv_iconst hx hb d_M_translate_106 ki_2 ?_
    refine lv_icmp_eq (tgt := 115) hx hb d_M_translate_107 (by decide) (fun c9 => absurd c9 (by decide : ¬ (nI 4) = 2)) (fun _ => ?_)
    refine lv_iload_n hx hb d_M_translate_110 rfl (lv_at hl 4 rfl) ?_
    refine lv_iconst hx hb d_M_translate_111 ki_3 ?_
    refine lv_icmp_ne (tgt := 150) hx hb d_M_translate_112 (by decide) (fun _ => ?_) (fun c9 => absurd c9 (by decide : ¬ (nI 4) = 3))
    refine lv_iload_n hx hb d_M_translate_150 rfl (lv_at hl 4 rfl) ?_
    refine lv_iconst hx hb d_M_translate_151 ki_4 ?_
    refine lv_icmp_eq (tgt := 160) hx hb d_M_translate_152 (by decide) (fun _ => ?_) (fun c9 => absurd (by decide : (nI 4) = 4) c9)
    refine lv_aload_n hx hb d_M_translate_160 rfl (lv_at hl 5 rfl) ?_
    refine lv_iload hx hb d_M_translate_161 (lv_at hl 2 rfl) ?_
    refine lv_iload hx hb d_M_translate_163 (lv_at hl 1 rfl) ?_
    refine ccV SF M (c_product l D h cs ln nx la O Dd Aa Bb bt fr k0 k1 k2 k3 k4 ([]) (r7 (Aa j)) (r7 (Bb j)) hH (by (try simp only [prodP, pB_len, quoP, amtP, qB_len, rootP, rB_len, onesP, oB_len, finP, cmpP, List.length_append, List.length_cons, List.length_nil]); (try split); all_goals (try simp only [List.length_cons, List.length_nil]); all_goals omega)) g_M_85 hd_M_product ⟨Nat.le_of_ble_eq_true rfl, Nat.le_of_ble_eq_true rfl⟩ (ci := 0) rfl rfl hl.1 rfl (Nat.le_of_ble_eq_true rfl) d_M_translate_165 ⟨Nat.zero_le _, Nat.zero_le _⟩ (fun μ H locs hH M => ?_)
    have hH : Holds ([] ++ prodP (r7 (Aa j)) (r7 (Bb j))) (μ 0) (μ 1) (μ 2) (μ 3) (μ 4) := hH
    have M : WW D (tysM cs) A s (mW h cs ln nx la (nI ([] ++ prodP (r7 (Aa j)) (r7 (Bb j))).length) O Dd Aa Bb bt fr (μ 0) (μ 1) (μ 2) (μ 3) (μ 4)) H locs := M
    refine lv_aload_n hx hb d_M_translate_168 rfl (lv_at hl 5 rfl) ?_
    refine lv_iconst hx hb d_M_translate_169 ki_0 ?_
    refine lv_bipush hx hb d_M_translate_170 kb_10 ?_
    refine lv_bipush hx hb d_M_translate_172 kb_10 ?_
    refine lv_iload_n hx hb d_M_translate_174 rfl (lv_at hl 4 rfl) ?_
    refine lv_iconst hx hb d_M_translate_175 ki_4 ?_
    refine lv_icmp_ne (tgt := 183) hx hb d_M_translate_176 (by decide) (fun c9 => absurd (by decide : (nI 4) = 4) c9) (fun _ => ?_)
    refine lv_iconst hx hb d_M_translate_179 ki_0 ?_
    refine lv_goto (tgt := 185) hx hb d_M_translate_180 (by decide) ?_
    refine lv_iconst hx hb d_M_translate_185 ki_0 ?_
    refine kw_step SF ⟨Nat.le_of_ble_eq_true rfl, Nat.le_of_ble_eq_true rfl⟩ M hH (by (try simp only [prodP, pB_len, quoP, amtP, qB_len, rootP, rB_len, onesP, oB_len, finP, cmpP, List.length_append, List.length_cons, List.length_nil]); (try split); all_goals (try simp only [List.length_cons, List.length_nil]); all_goals omega) (0, 10, 10, 0, 0) ⟨rfl, rfl, rfl, rfl, rfl⟩ hl.1 (Nat.le_of_ble_eq_true rfl) d_M_translate_186 (fun μ H locs hH M => ?_)
    refine lv_aload_n hx hb d_M_translate_189 rfl (lv_at hl 5 rfl) ?_
    refine lv_bipush hx hb d_M_translate_190 kb_6 ?_
    refine lv_iload_n hx hb d_M_translate_192 rfl (lv_at hl 3 rfl) ?_
    refine lv_bipush hx hb d_M_translate_193 kb_10 ?_
    refine lv_iconst hx hb d_M_translate_195 ki_0 ?_
    refine lv_iconst hx hb d_M_translate_196 ki_0 ?_
    refine kw_step SF ⟨Nat.le_of_ble_eq_true rfl, Nat.le_of_ble_eq_true rfl⟩ M hH (by (try simp only [prodP, pB_len, quoP, amtP, qB_len, rootP, rB_len, onesP, oB_len, finP, cmpP, List.length_append, List.length_cons, List.length_nil]); (try split); all_goals (try simp only [List.length_cons, List.length_nil]); all_goals omega) (6, d, 10, 0, 0) ⟨rfl, rfl, rfl, rfl, rfl⟩ hl.1 (Nat.le_of_ble_eq_true rfl) d_M_translate_197 (fun μ H locs hH M => ?_)
    refine lv_goto (tgt := 394) hx hb d_M_translate_200 (by decide) ?_
    have hL : [] ++ prodP (r7 (Aa j)) (r7 (Bb j)) ++ [(0, 10, 10, 0, 0)] ++ [(6, d, 10, 0, 0)] = progOf 4 d (r7 (Aa j)) (r7 (Bb j)) (r15 (Bb j)) (Aa j) := by
      simp [progOf]
    rw [hL] at hH M
    exact retV SF hlk hr μ hH M d_M_translate_394
  · refine lv_iload_n hx hb d_M_translate_52 rfl (lv_at hl 4 rfl) ?_
    refine lv_if_ne (tgt := 86) hx hb d_M_translate_53 (by decide) (fun _ => ?_) (fun c9 => absurd c9 (by decide : ¬ (nI 5) = 0))
    refine lv_iload_n hx hb d_M_translate_86 rfl (lv_at hl 4 rfl) ?_
    refine lv_iconst hx hb d_M_translate_87 ki_1 ?_
    refine lv_icmp_ne (tgt := 105) hx hb d_M_translate_88 (by decide) (fun _ => ?_) (fun c9 => absurd c9 (by decide : ¬ (nI 5) = 1))
    refine lv_iload_n hx hb d_M_translate_105 rfl (lv_at hl 4 rfl) ?_
    refine lv_iconst hx hb d_M_translate_106 ki_2 ?_
    refine lv_icmp_eq (tgt := 115) hx hb d_M_translate_107 (by decide) (fun c9 => absurd c9 (by decide : ¬ (nI 5) = 2)) (fun _ => ?_)
    refine lv_iload_n hx hb d_M_translate_110 rfl (lv_at hl 4 rfl) ?_
    refine lv_iconst hx hb d_M_translate_111 ki_3 ?_
    refine lv_icmp_ne (tgt := 150) hx hb d_M_translate_112 (by decide) (fun _ => ?_) (fun c9 => absurd c9 (by decide : ¬ (nI 5) = 3))
    refine lv_iload_n hx hb d_M_translate_150 rfl (lv_at hl 4 rfl) ?_
    refine lv_iconst hx hb d_M_translate_151 ki_4 ?_
    refine lv_icmp_eq (tgt := 160) hx hb d_M_translate_152 (by decide) (fun c9 => absurd c9 (by decide : ¬ (nI 5) = 4)) (fun _ => ?_)
    refine lv_iload_n hx hb d_M_translate_155 rfl (lv_at hl 4 rfl) ?_
    refine lv_iconst hx hb d_M_translate_156 ki_5 ?_
    refine lv_icmp_ne (tgt := 203) hx hb d_M_translate_157 (by decide) (fun c9 => absurd (by decide : (nI 5) = 5) c9) (fun _ => ?_)
    refine lv_aload_n hx hb d_M_translate_160 rfl (lv_at hl 5 rfl) ?_
    refine lv_iload hx hb d_M_translate_161 (lv_at hl 2 rfl) ?_
    refine lv_iload hx hb d_M_translate_163 (lv_at hl 1 rfl) ?_
    refine ccV SF M (c_product l D h cs ln nx la O Dd Aa Bb bt fr k0 k1 k2 k3 k4 ([]) (r7 (Aa j)) (r7 (Bb j)) hH (by (try simp only [prodP, pB_len, quoP, amtP, qB_len, rootP, rB_len, onesP, oB_len, finP, cmpP, List.length_append, List.length_cons, List.length_nil]); (try split); all_goals (try simp only [List.length_cons, List.length_nil]); all_goals omega)) g_M_85 hd_M_product ⟨Nat.le_of_ble_eq_true rfl, Nat.le_of_ble_eq_true rfl⟩ (ci := 0) rfl rfl hl.1 rfl (Nat.le_of_ble_eq_true rfl) d_M_translate_165 ⟨Nat.zero_le _, Nat.zero_le _⟩ (fun μ H locs hH M => ?_)
    have hH : Holds ([] ++ prodP (r7 (Aa j)) (r7 (Bb j))) (μ 0) (μ 1) (μ 2) (μ 3) (μ 4) := hH
    have M : WW D (tysM cs) A s (mW h cs ln nx la (nI ([] ++ prodP (r7 (Aa j)) (r7 (Bb j))).length) O Dd Aa Bb bt fr (μ 0) (μ 1) (μ 2) (μ 3) (μ 4)) H locs := M
    refine lv_aload_n hx hb d_M_translate_168 rfl (lv_at hl 5 rfl) ?_
    refine lv_iconst hx hb d_M_translate_169 ki_0 ?_
    refine lv_bipush hx hb d_M_translate_170 kb_10 ?_
    refine lv_bipush hx hb d_M_translate_172 kb_10 ?_
    refine lv_iload_n hx hb d_M_translate_174 rfl (lv_at hl 4 rfl) ?_
    refine lv_iconst hx hb d_M_translate_175 ki_4 ?_
    refine lv_icmp_ne (tgt := 183) hx hb d_M_translate_176 (by decide) (fun _ => ?_) (fun c9 => absurd c9 (by decide : ¬ (nI 5) = 4))
    refine lv_bipush hx hb d_M_translate_183 kb_m16 ?_
    refine lv_iconst hx hb d_M_translate_185 ki_0 ?_
    refine kw_step SF ⟨Nat.le_of_ble_eq_true rfl, Nat.le_of_ble_eq_true rfl⟩ M hH (by (try simp only [prodP, pB_len, quoP, amtP, qB_len, rootP, rB_len, onesP, oB_len, finP, cmpP, List.length_append, List.length_cons, List.length_nil]); (try split); all_goals (try simp only [List.length_cons, List.length_nil]); all_goals omega) (0, 10, 10, -16, 0) ⟨rfl, rfl, rfl, rfl, rfl⟩ hl.1 (Nat.le_of_ble_eq_true rfl) d_M_translate_186 (fun μ H locs hH M => ?_)
    refine lv_aload_n hx hb d_M_translate_189 rfl (lv_at hl 5 rfl) ?_
    refine lv_bipush hx hb d_M_translate_190 kb_6 ?_
    refine lv_iload_n hx hb d_M_translate_192 rfl (lv_at hl 3 rfl) ?_
    refine lv_bipush hx hb d_M_translate_193 kb_10 ?_
    refine lv_iconst hx hb d_M_translate_195 ki_0 ?_
    refine lv_iconst hx hb d_M_translate_196 ki_0 ?_
    refine kw_step SF ⟨Nat.le_of_ble_eq_true rfl, Nat.le_of_ble_eq_true rfl⟩ M hH (by (try simp only [prodP, pB_len, quoP, amtP, qB_len, rootP, rB_len, onesP, oB_len, finP, cmpP, List.length_append, List.length_cons, List.length_nil]); (try split); all_goals (try simp only [List.length_cons, List.length_nil]); all_goals omega) (6, d, 10, 0, 0) ⟨rfl, rfl, rfl, rfl, rfl⟩ hl.1 (Nat.le_of_ble_eq_true rfl) d_M_translate_197 (fun μ H locs hH M => ?_)
    refine lv_goto (tgt := 394) hx hb d_M_translate_200 (by decide) ?_
    have hL : [] ++ prodP (r7 (Aa j)) (r7 (Bb j)) ++ [(0, 10, 10, -16, 0)] ++ [(6, d, 10, 0, 0)] = progOf 5 d (r7 (Aa j)) (r7 (Bb j)) (r15 (Bb j)) (Aa j) := by
      simp [progOf]
    rw [hL] at hH M
    exact retV SF hlk hr μ hH M d_M_translate_394
  · refine lv_iload_n hx hb d_M_translate_52 rfl (lv_at hl 4 rfl) ?_
    refine lv_if_ne (tgt := 86) hx hb d_M_translate_53 (by decide) (fun _ => ?_) (fun c9 => absurd c9 (by decide : ¬ (nI 6) = 0))
    refine lv_iload_n hx hb d_M_translate_86 rfl (lv_at hl 4 rfl) ?_
    refine lv_iconst hx hb d_M_translate_87 ki_1 ?_
    refine lv_icmp_ne (tgt := 105) hx hb d_M_translate_88 (by decide) (fun _ => ?_) (fun c9 => absurd c9 (by decide : ¬ (nI 6) = 1))
    refine lv_iload_n hx hb d_M_translate_105 rfl (lv_at hl 4 rfl) ?_
    refine lv_iconst hx hb d_M_translate_106 ki_2 ?_
    refine lv_icmp_eq (tgt := 115) hx hb d_M_translate_107 (by decide) (fun c9 => absurd c9 (by decide : ¬ (nI 6) = 2)) (fun _ => ?_)
    refine lv_iload_n hx hb d_M_translate_110 rfl (lv_at hl 4 rfl) ?_
    refine lv_iconst hx hb d_M_translate_111 ki_3 ?_
    refine lv_icmp_ne (tgt := 150) hx hb d_M_translate_112 (by decide) (fun _ => ?_) (fun c9 => absurd c9 (by decide : ¬ (nI 6) = 3))
    refine lv_iload_n hx hb d_M_translate_150 rfl (lv_at hl 4 rfl) ?_
    refine lv_iconst hx hb d_M_translate_151 ki_4 ?_
    refine lv_icmp_eq (tgt := 160) hx hb d_M_translate_152 (by decide) (fun c9 => absurd c9 (by decide : ¬ (nI 6) = 4)) (fun _ => ?_)
    refine lv_iload_n hx hb d_M_translate_155 rfl (lv_at hl 4 rfl) ?_
    refine lv_iconst hx hb d_M_translate_156 ki_5 ?_
    refine lv_icmp_ne (tgt := 203) hx hb d_M_translate_157 (by decide) (fun _ => ?_) (fun c9 => absurd c9 (by decide : ¬ (nI 6) = 5))
    refine lv_iload_n hx hb d_M_translate_203 rfl (lv_at hl 4 rfl) ?_
    refine lv_bipush hx hb d_M_translate_204 kb_6 ?_
    refine lv_icmp_eq (tgt := 215) hx hb d_M_translate_206 (by decide) (fun _ => ?_) (fun c9 => absurd (by decide : (nI 6) = 6) c9)
    refine lv_aload_n hx hb d_M_translate_215 rfl (lv_at hl 5 rfl) ?_
    refine lv_iload hx hb d_M_translate_216 (lv_at hl 2 rfl) ?_
    refine lv_iload hx hb d_M_translate_218 (lv_at hl 1 rfl) ?_
    refine ccV SF M (c_quotient l D h cs ln nx la O Dd Aa Bb bt fr k0 k1 k2 k3 k4 ([]) (r7 (Aa j)) (r7 (Bb j)) hH (by (try simp only [prodP, pB_len, quoP, amtP, qB_len, rootP, rB_len, onesP, oB_len, finP, cmpP, List.length_append, List.length_cons, List.length_nil]); (try split); all_goals (try simp only [List.length_cons, List.length_nil]); all_goals omega)) g_M_88 hd_M_quotient ⟨Nat.le_of_ble_eq_true rfl, Nat.le_of_ble_eq_true rfl⟩ (ci := 0) rfl rfl hl.1 rfl (Nat.le_of_ble_eq_true rfl) d_M_translate_220 ⟨Nat.zero_le _, Nat.zero_le _⟩ (fun μ H locs hH M => ?_)
    have hH : Holds ([] ++ quoP (r7 (Aa j)) (r7 (Bb j))) (μ 0) (μ 1) (μ 2) (μ 3) (μ 4) := hH
    have M : WW D (tysM cs) A s (mW h cs ln nx la (nI ([] ++ quoP (r7 (Aa j)) (r7 (Bb j))).length) O Dd Aa Bb bt fr (μ 0) (μ 1) (μ 2) (μ 3) (μ 4)) H locs := M
    refine lv_aload_n hx hb d_M_translate_223 rfl (lv_at hl 5 rfl) ?_
    refine lv_iload_n hx hb d_M_translate_224 rfl (lv_at hl 4 rfl) ?_
    refine lv_iload_n hx hb d_M_translate_225 rfl (lv_at hl 3 rfl) ?_
    refine lv_iload hx hb d_M_translate_226 (lv_at hl 2 rfl) ?_
    refine lv_iload hx hb d_M_translate_228 (lv_at hl 1 rfl) ?_
    refine ccV SF M (c_finishQuotient l D h cs ln nx la O Dd Aa Bb bt fr (μ 0) (μ 1) (μ 2) (μ 3) (μ 4) ([] ++ quoP (r7 (Aa j)) (r7 (Bb j))) 6 d (r7 (Aa j)) (r7 (Bb j)) hH (by (try simp only [prodP, pB_len, quoP, amtP, qB_len, rootP, rB_len, onesP, oB_len, finP, cmpP, List.length_append, List.length_cons, List.length_nil]); (try split); all_goals (try simp only [List.length_cons, List.length_nil]); all_goals omega) (by decide)) g_M_91 hd_M_finishQuotient ⟨Nat.le_of_ble_eq_true rfl, Nat.le_of_ble_eq_true rfl⟩ (ci := 0) rfl rfl hl.1 rfl (Nat.le_of_ble_eq_true rfl) d_M_translate_230 ⟨Nat.zero_le _, Nat.zero_le _⟩ (fun μ H locs hH M => ?_)
    have hH : Holds ([] ++ quoP (r7 (Aa j)) (r7 (Bb j)) ++ finP 6 d (r7 (Aa j)) (r7 (Bb j))) (μ 0) (μ 1) (μ 2) (μ 3) (μ 4) := hH
    have M : WW D (tysM cs) A s (mW h cs ln nx la (nI ([] ++ quoP (r7 (Aa j)) (r7 (Bb j)) ++ finP 6 d (r7 (Aa j)) (r7 (Bb j))).length) O Dd Aa Bb bt fr (μ 0) (μ 1) (μ 2) (μ 3) (μ 4)) H locs := M
    refine lv_goto (tgt := 394) hx hb d_M_translate_233 (by decide) ?_
    have hL : [] ++ quoP (r7 (Aa j)) (r7 (Bb j)) ++ finP 6 d (r7 (Aa j)) (r7 (Bb j)) = progOf 6 d (r7 (Aa j)) (r7 (Bb j)) (r15 (Bb j)) (Aa j) := by
      simp [progOf]
    rw [hL] at hH M
    exact retV SF hlk hr μ hH M d_M_translate_394
  · refine lv_iload_n hx hb d_M_translate_52 rfl (lv_at hl 4 rfl) ?_
    refine lv_if_ne (tgt := 86) hx hb d_M_translate_53 (by decide) (fun _ => ?_) (fun c9 => absurd c9 (by decide : ¬ (nI 7) = 0))
    refine lv_iload_n hx hb d_M_translate_86 rfl (lv_at hl 4 rfl) ?_
    refine lv_iconst hx hb d_M_translate_87 ki_1 ?_
    refine lv_icmp_ne (tgt := 105) hx hb d_M_translate_88 (by decide) (fun _ => ?_) (fun c9 => absurd c9 (by decide : ¬ (nI 7) = 1))
    refine lv_iload_n hx hb d_M_translate_105 rfl (lv_at hl 4 rfl) ?_
    refine lv_iconst hx hb d_M_translate_106 ki_2 ?_
    refine lv_icmp_eq (tgt := 115) hx hb d_M_translate_107 (by decide) (fun c9 => absurd c9 (by decide : ¬ (nI 7) = 2)) (fun _ => ?_)
    refine lv_iload_n hx hb d_M_translate_110 rfl (lv_at hl 4 rfl) ?_
    refine lv_iconst hx hb d_M_translate_111 ki_3 ?_
    refine lv_icmp_ne (tgt := 150) hx hb d_M_translate_112 (by decide) (fun _ => ?_) (fun c9 => absurd c9 (by decide : ¬ (nI 7) = 3))
    refine lv_iload_n hx hb d_M_translate_150 rfl (lv_at hl 4 rfl) ?_
    refine lv_iconst hx hb d_M_translate_151 ki_4 ?_
    refine lv_icmp_eq (tgt := 160) hx hb d_M_translate_152 (by decide) (fun c9 => absurd c9 (by decide : ¬ (nI 7) = 4)) (fun _ => ?_)
    refine lv_iload_n hx hb d_M_translate_155 rfl (lv_at hl 4 rfl) ?_
    refine lv_iconst hx hb d_M_translate_156 ki_5 ?_
    refine lv_icmp_ne (tgt := 203) hx hb d_M_translate_157 (by decide) (fun _ => ?_) (fun c9 => absurd c9 (by decide : ¬ (nI 7) = 5))
    refine lv_iload_n hx hb d_M_translate_203 rfl (lv_at hl 4 rfl) ?_
    refine lv_bipush hx hb d_M_translate_204 kb_6 ?_
    refine lv_icmp_eq (tgt := 215) hx hb d_M_translate_206 (by decide) (fun c9 => absurd c9 (by decide : ¬ (nI 7) = 6)) (fun _ => ?_)
    refine lv_iload_n hx hb d_M_translate_209 rfl (lv_at hl 4 rfl) ?_
    refine lv_bipush hx hb d_M_translate_210 kb_7 ?_
    refine lv_icmp_ne (tgt := 236) hx hb d_M_translate_212 (by decide) (fun c9 => absurd (by decide : (nI 7) = 7) c9) (fun _ => ?_)
    refine lv_aload_n hx hb d_M_translate_215 rfl (lv_at hl 5 rfl) ?_
    refine lv_iload hx hb d_M_translate_216 (lv_at hl 2 rfl) ?_
    refine lv_iload hx hb d_M_translate_218 (lv_at hl 1 rfl) ?_
    refine ccV SF M (c_quotient l D h cs ln nx la O Dd Aa Bb bt fr k0 k1 k2 k3 k4 ([]) (r7 (Aa j)) (r7 (Bb j)) hH (by (try simp only [prodP, pB_len, quoP, amtP, qB_len, rootP, rB_len, onesP, oB_len, finP, cmpP, List.length_append, List.length_cons, List.length_nil]); (try split); all_goals (try simp only [List.length_cons, List.length_nil]); all_goals omega)) g_M_88 hd_M_quotient ⟨Nat.le_of_ble_eq_true rfl, Nat.le_of_ble_eq_true rfl⟩ (ci := 0) rfl rfl hl.1 rfl (Nat.le_of_ble_eq_true rfl) d_M_translate_220 ⟨Nat.zero_le _, Nat.zero_le _⟩ (fun μ H locs hH M => ?_)
    have hH : Holds ([] ++ quoP (r7 (Aa j)) (r7 (Bb j))) (μ 0) (μ 1) (μ 2) (μ 3) (μ 4) := hH
    have M : WW D (tysM cs) A s (mW h cs ln nx la (nI ([] ++ quoP (r7 (Aa j)) (r7 (Bb j))).length) O Dd Aa Bb bt fr (μ 0) (μ 1) (μ 2) (μ 3) (μ 4)) H locs := M
    refine lv_aload_n hx hb d_M_translate_223 rfl (lv_at hl 5 rfl) ?_
    refine lv_iload_n hx hb d_M_translate_224 rfl (lv_at hl 4 rfl) ?_
    refine lv_iload_n hx hb d_M_translate_225 rfl (lv_at hl 3 rfl) ?_
    refine lv_iload hx hb d_M_translate_226 (lv_at hl 2 rfl) ?_
    refine lv_iload hx hb d_M_translate_228 (lv_at hl 1 rfl) ?_
    refine ccV SF M (c_finishQuotient l D h cs ln nx la O Dd Aa Bb bt fr (μ 0) (μ 1) (μ 2) (μ 3) (μ 4) ([] ++ quoP (r7 (Aa j)) (r7 (Bb j))) 7 d (r7 (Aa j)) (r7 (Bb j)) hH (by (try simp only [prodP, pB_len, quoP, amtP, qB_len, rootP, rB_len, onesP, oB_len, finP, cmpP, List.length_append, List.length_cons, List.length_nil]); (try split); all_goals (try simp only [List.length_cons, List.length_nil]); all_goals omega) (by decide)) g_M_91 hd_M_finishQuotient ⟨Nat.le_of_ble_eq_true rfl, Nat.le_of_ble_eq_true rfl⟩ (ci := 0) rfl rfl hl.1 rfl (Nat.le_of_ble_eq_true rfl) d_M_translate_230 ⟨Nat.zero_le _, Nat.zero_le _⟩ (fun μ H locs hH M => ?_)
    have hH : Holds ([] ++ quoP (r7 (Aa j)) (r7 (Bb j)) ++ finP 7 d (r7 (Aa j)) (r7 (Bb j))) (μ 0) (μ 1) (μ 2) (μ 3) (μ 4) := hH
    have M : WW D (tysM cs) A s (mW h cs ln nx la (nI ([] ++ quoP (r7 (Aa j)) (r7 (Bb j)) ++ finP 7 d (r7 (Aa j)) (r7 (Bb j))).length) O Dd Aa Bb bt fr (μ 0) (μ 1) (μ 2) (μ 3) (μ 4)) H locs := M
    refine lv_goto (tgt := 394) hx hb d_M_translate_233 (by decide) ?_
    have hL : [] ++ quoP (r7 (Aa j)) (r7 (Bb j)) ++ finP 7 d (r7 (Aa j)) (r7 (Bb j)) = progOf 7 d (r7 (Aa j)) (r7 (Bb j)) (r15 (Bb j)) (Aa j) := by
      simp [progOf]
    rw [hL] at hH M
    exact retV SF hlk hr μ hH M d_M_translate_394
  · refine lv_iload_n hx hb d_M_translate_52 rfl (lv_at hl 4 rfl) ?_
    refine lv_if_ne (tgt := 86) hx hb d_M_translate_53 (by decide) (fun _ => ?_) (fun c9 => absurd c9 (by decide : ¬ (nI 8) = 0))
    refine lv_iload_n hx hb d_M_translate_86 rfl (lv_at hl 4 rfl) ?_
    refine lv_iconst hx hb d_M_translate_87 ki_1 ?_
    refine lv_icmp_ne (tgt := 105) hx hb d_M_translate_88 (by decide) (fun _ => ?_) (fun c9 => absurd c9 (by decide : ¬ (nI 8) = 1))
    refine lv_iload_n hx hb d_M_translate_105 rfl (lv_at hl 4 rfl) ?_
    refine lv_iconst hx hb d_M_translate_106 ki_2 ?_
    refine lv_icmp_eq (tgt := 115) hx hb d_M_translate_107 (by decide) (fun c9 => absurd c9 (by decide : ¬ (nI 8) = 2)) (fun _ => ?_)
    refine lv_iload_n hx hb d_M_translate_110 rfl (lv_at hl 4 rfl) ?_
    refine lv_iconst hx hb d_M_translate_111 ki_3 ?_
    refine lv_icmp_ne (tgt := 150) hx hb d_M_translate_112 (by decide) (fun _ => ?_) (fun c9 => absurd c9 (by decide : ¬ (nI 8) = 3))
    refine lv_iload_n hx hb d_M_translate_150 rfl (lv_at hl 4 rfl) ?_
    refine lv_iconst hx hb d_M_translate_151 ki_4 ?_
    refine lv_icmp_eq (tgt := 160) hx hb d_M_translate_152 (by decide) (fun c9 => absurd c9 (by decide : ¬ (nI 8) = 4)) (fun _ => ?_)
    refine lv_iload_n hx hb d_M_translate_155 rfl (lv_at hl 4 rfl) ?_
    refine lv_iconst hx hb d_M_translate_156 ki_5 ?_
    refine lv_icmp_ne (tgt := 203) hx hb d_M_translate_157 (by decide) (fun _ => ?_) (fun c9 => absurd c9 (by decide : ¬ (nI 8) = 5))
    refine lv_iload_n hx hb d_M_translate_203 rfl (lv_at hl 4 rfl) ?_
    refine lv_bipush hx hb d_M_translate_204 kb_6 ?_
    refine lv_icmp_eq (tgt := 215) hx hb d_M_translate_206 (by decide) (fun c9 => absurd c9 (by decide : ¬ (nI 8) = 6)) (fun _ => ?_)
    refine lv_iload_n hx hb d_M_translate_209 rfl (lv_at hl 4 rfl) ?_
    refine lv_bipush hx hb d_M_translate_210 kb_7 ?_
    refine lv_icmp_ne (tgt := 236) hx hb d_M_translate_212 (by decide) (fun _ => ?_) (fun c9 => absurd c9 (by decide : ¬ (nI 8) = 7))
    refine lv_iload_n hx hb d_M_translate_236 rfl (lv_at hl 4 rfl) ?_
    refine lv_bipush hx hb d_M_translate_237 kb_10 ?_
    refine lv_icmp_gt (tgt := 288) hx hb d_M_translate_239 (by decide) (fun c9 => absurd c9 (by decide : ¬ 10 < (nI 8))) (fun _ => ?_)
    refine lv_aload_n hx hb d_M_translate_242 rfl (lv_at hl 5 rfl) ?_
    refine lv_iload_n hx hb d_M_translate_243 rfl (lv_at hl 4 rfl) ?_
    refine lv_bipush hx hb d_M_translate_244 kb_8 ?_
    refine lv_icmp_ne (tgt := 253) hx hb d_M_translate_246 (by decide) (fun c9 => absurd (by decide : (nI 8) = 8) c9) (fun _ => ?_)
    refine lv_iconst hx hb d_M_translate_249 ki_3 ?_
    refine lv_goto (tgt := 264) hx hb d_M_translate_250 (by decide) ?_
    refine lv_bipush hx hb d_M_translate_264 kb_8 ?_
    refine lv_iload hx hb d_M_translate_266 (lv_at hl 2 rfl) ?_
    refine lv_iload hx hb d_M_translate_268 (lv_at hl 1 rfl) ?_
    refine lv_iconst hx hb d_M_translate_270 ki_0 ?_
    refine kw_step SF ⟨Nat.le_of_ble_eq_true rfl, Nat.le_of_ble_eq_true rfl⟩ M hH (by (try simp only [prodP, pB_len, quoP, amtP, qB_len, rootP, rB_len, onesP, oB_len, finP, cmpP, List.length_append, List.length_cons, List.length_nil]); (try split); all_goals (try simp only [List.length_cons, List.length_nil]); all_goals omega) (3, 8, (r7 (Aa j)), nI (r7 (Bb j)), 0) ⟨rfl, rfl, rfl, rfl, rfl⟩ hl.1 (Nat.le_of_ble_eq_true rfl) d_M_translate_271 (fun μ H locs hH M => ?_)
    refine lv_aload_n hx hb d_M_translate_274 rfl (lv_at hl 5 rfl) ?_
    refine lv_bipush hx hb d_M_translate_275 kb_6 ?_
    refine lv_iload_n hx hb d_M_translate_277 rfl (lv_at hl 3 rfl) ?_
    refine lv_bipush hx hb d_M_translate_278 kb_8 ?_
    refine lv_iconst hx hb d_M_translate_280 ki_0 ?_
    refine lv_iconst hx hb d_M_translate_281 ki_0 ?_
    refine kw_step SF ⟨Nat.le_of_ble_eq_true rfl, Nat.le_of_ble_eq_true rfl⟩ M hH (by (try simp only [prodP, pB_len, quoP, amtP, qB_len, rootP, rB_len, onesP, oB_len, finP, cmpP, List.length_append, List.length_cons, List.length_nil]); (try split); all_goals (try simp only [List.length_cons, List.length_nil]); all_goals omega) (6, d, 8, 0, 0) ⟨rfl, rfl, rfl, rfl, rfl⟩ hl.1 (Nat.le_of_ble_eq_true rfl) d_M_translate_282 (fun μ H locs hH M => ?_)
    refine lv_goto (tgt := 394) hx hb d_M_translate_285 (by decide) ?_
    have hL : [] ++ [(3, 8, (r7 (Aa j)), nI (r7 (Bb j)), 0)] ++ [(6, d, 8, 0, 0)] = progOf 8 d (r7 (Aa j)) (r7 (Bb j)) (r15 (Bb j)) (Aa j) := by
      rfl
    rw [hL] at hH M
    exact retV SF hlk hr μ hH M d_M_translate_394
  · refine lv_iload_n hx hb d_M_translate_52 rfl (lv_at hl 4 rfl) ?_
    refine lv_if_ne (tgt := 86) hx hb d_M_translate_53 (by decide) (fun _ => ?_) (fun c9 => absurd c9 (by decide : ¬ (nI 9) = 0))
    refine lv_iload_n hx hb d_M_translate_86 rfl (lv_at hl 4 rfl) ?_
    refine lv_iconst hx hb d_M_translate_87 ki_1 ?_
    refine lv_icmp_ne (tgt := 105) hx hb d_M_translate_88 (by decide) (fun _ => ?_) (fun c9 => absurd c9 (by decide : ¬ (nI 9) = 1))
    refine lv_iload_n hx hb d_M_translate_105 rfl (lv_at hl 4 rfl) ?_
    refine lv_iconst hx hb d_M_translate_106 ki_2 ?_
    refine lv_icmp_eq (tgt := 115) hx hb d_M_translate_107 (by decide) (fun c9 => absurd c9 (by decide : ¬ (nI 9) = 2)) (fun _ => ?_)
    refine lv_iload_n hx hb d_M_translate_110 rfl (lv_at hl 4 rfl) ?_
    refine lv_iconst hx hb d_M_translate_111 ki_3 ?_
    refine lv_icmp_ne (tgt := 150) hx hb d_M_translate_112 (by decide) (fun _ => ?_) (fun c9 => absurd c9 (by decide : ¬ (nI 9) = 3))
    refine lv_iload_n hx hb d_M_translate_150 rfl (lv_at hl 4 rfl) ?_
    refine lv_iconst hx hb d_M_translate_151 ki_4 ?_
    refine lv_icmp_eq (tgt := 160) hx hb d_M_translate_152 (by decide) (fun c9 => absurd c9 (by decide : ¬ (nI 9) = 4)) (fun _ => ?_)
    refine lv_iload_n hx hb d_M_translate_155 rfl (lv_at hl 4 rfl) ?_
    refine lv_iconst hx hb d_M_translate_156 ki_5 ?_
    refine lv_icmp_ne (tgt := 203) hx hb d_M_translate_157 (by decide) (fun _ => ?_) (fun c9 => absurd c9 (by decide : ¬ (nI 9) = 5))
    refine lv_iload_n hx hb d_M_translate_203 rfl (lv_at hl 4 rfl) ?_
    refine lv_bipush hx hb d_M_translate_204 kb_6 ?_
    refine lv_icmp_eq (tgt := 215) hx hb d_M_translate_206 (by decide) (fun c9 => absurd c9 (by decide : ¬ (nI 9) = 6)) (fun _ => ?_)
    refine lv_iload_n hx hb d_M_translate_209 rfl (lv_at hl 4 rfl) ?_
    refine lv_bipush hx hb d_M_translate_210 kb_7 ?_
    refine lv_icmp_ne (tgt := 236) hx hb d_M_translate_212 (by decide) (fun _ => ?_) (fun c9 => absurd c9 (by decide : ¬ (nI 9) = 7))
    refine lv_iload_n hx hb d_M_translate_236 rfl (lv_at hl 4 rfl) ?_
    refine lv_bipush hx hb d_M_translate_237 kb_10 ?_
    refine lv_icmp_gt (tgt := 288) hx hb d_M_translate_239 (by decide) (fun c9 => absurd c9 (by decide : ¬ 10 < (nI 9))) (fun _ => ?_)
    refine lv_aload_n hx hb d_M_translate_242 rfl (lv_at hl 5 rfl) ?_
    refine lv_iload_n hx hb d_M_translate_243 rfl (lv_at hl 4 rfl) ?_
    refine lv_bipush hx hb d_M_translate_244 kb_8 ?_
    refine lv_icmp_ne (tgt := 253) hx hb d_M_translate_246 (by decide) (fun _ => ?_) (fun c9 => absurd c9 (by decide : ¬ (nI 9) = 8))
    refine lv_iload_n hx hb d_M_translate_253 rfl (lv_at hl 4 rfl) ?_
    refine lv_bipush hx hb d_M_translate_254 kb_9 ?_
    refine lv_icmp_ne (tgt := 263) hx hb d_M_translate_256 (by decide) (fun c9 => absurd (by decide : (nI 9) = 9) c9) (fun _ => ?_)
    refine lv_iconst hx hb d_M_translate_259 ki_4 ?_
    refine lv_goto (tgt := 264) hx hb d_M_translate_260 (by decide) ?_
    refine lv_bipush hx hb d_M_translate_264 kb_8 ?_
    refine lv_iload hx hb d_M_translate_266 (lv_at hl 2 rfl) ?_
    refine lv_iload hx hb d_M_translate_268 (lv_at hl 1 rfl) ?_
    refine lv_iconst hx hb d_M_translate_270 ki_0 ?_
    refine kw_step SF ⟨Nat.le_of_ble_eq_true rfl, Nat.le_of_ble_eq_true rfl⟩ M hH (by (try simp only [prodP, pB_len, quoP, amtP, qB_len, rootP, rB_len, onesP, oB_len, finP, cmpP, List.length_append, List.length_cons, List.length_nil]); (try split); all_goals (try simp only [List.length_cons, List.length_nil]); all_goals omega) (4, 8, (r7 (Aa j)), nI (r7 (Bb j)), 0) ⟨rfl, rfl, rfl, rfl, rfl⟩ hl.1 (Nat.le_of_ble_eq_true rfl) d_M_translate_271 (fun μ H locs hH M => ?_)
    refine lv_aload_n hx hb d_M_translate_274 rfl (lv_at hl 5 rfl) ?_
    refine lv_bipush hx hb d_M_translate_275 kb_6 ?_
    refine lv_iload_n hx hb d_M_translate_277 rfl (lv_at hl 3 rfl) ?_
    refine lv_bipush hx hb d_M_translate_278 kb_8 ?_
    refine lv_iconst hx hb d_M_translate_280 ki_0 ?_
    refine lv_iconst hx hb d_M_translate_281 ki_0 ?_
    refine kw_step SF ⟨Nat.le_of_ble_eq_true rfl, Nat.le_of_ble_eq_true rfl⟩ M hH (by (try simp only [prodP, pB_len, quoP, amtP, qB_len, rootP, rB_len, onesP, oB_len, finP, cmpP, List.length_append, List.length_cons, List.length_nil]); (try split); all_goals (try simp only [List.length_cons, List.length_nil]); all_goals omega) (6, d, 8, 0, 0) ⟨rfl, rfl, rfl, rfl, rfl⟩ hl.1 (Nat.le_of_ble_eq_true rfl) d_M_translate_282 (fun μ H locs hH M => ?_)
    refine lv_goto (tgt := 394) hx hb d_M_translate_285 (by decide) ?_
    have hL : [] ++ [(4, 8, (r7 (Aa j)), nI (r7 (Bb j)), 0)] ++ [(6, d, 8, 0, 0)] = progOf 9 d (r7 (Aa j)) (r7 (Bb j)) (r15 (Bb j)) (Aa j) := by
      rfl
    rw [hL] at hH M
    exact retV SF hlk hr μ hH M d_M_translate_394
  · refine lv_iload_n hx hb d_M_translate_52 rfl (lv_at hl 4 rfl) ?_
    refine lv_if_ne (tgt := 86) hx hb d_M_translate_53 (by decide) (fun _ => ?_) (fun c9 => absurd c9 (by decide : ¬ (nI 10) = 0))
    refine lv_iload_n hx hb d_M_translate_86 rfl (lv_at hl 4 rfl) ?_
    refine lv_iconst hx hb d_M_translate_87 ki_1 ?_
    refine lv_icmp_ne (tgt := 105) hx hb d_M_translate_88 (by decide) (fun _ => ?_) (fun c9 => absurd c9 (by decide : ¬ (nI 10) = 1))
    refine lv_iload_n hx hb d_M_translate_105 rfl (lv_at hl 4 rfl) ?_
    refine lv_iconst hx hb d_M_translate_106 ki_2 ?_
    refine lv_icmp_eq (tgt := 115) hx hb d_M_translate_107 (by decide) (fun c9 => absurd c9 (by decide : ¬ (nI 10) = 2)) (fun _ => ?_)
    refine lv_iload_n hx hb d_M_translate_110 rfl (lv_at hl 4 rfl) ?_
    refine lv_iconst hx hb d_M_translate_111 ki_3 ?_
    refine lv_icmp_ne (tgt := 150) hx hb d_M_translate_112 (by decide) (fun _ => ?_) (fun c9 => absurd c9 (by decide : ¬ (nI 10) = 3))
    refine lv_iload_n hx hb d_M_translate_150 rfl (lv_at hl 4 rfl) ?_
    refine lv_iconst hx hb d_M_translate_151 ki_4 ?_
    refine lv_icmp_eq (tgt := 160) hx hb d_M_translate_152 (by decide) (fun c9 => absurd c9 (by decide : ¬ (nI 10) = 4)) (fun _ => ?_)
    refine lv_iload_n hx hb d_M_translate_155 rfl (lv_at hl 4 rfl) ?_
    refine lv_iconst hx hb d_M_translate_156 ki_5 ?_
    refine lv_icmp_ne (tgt := 203) hx hb d_M_translate_157 (by decide) (fun _ => ?_) (fun c9 => absurd c9 (by decide : ¬ (nI 10) = 5))
    refine lv_iload_n hx hb d_M_translate_203 rfl (lv_at hl 4 rfl) ?_
    refine lv_bipush hx hb d_M_translate_204 kb_6 ?_
    refine lv_icmp_eq (tgt := 215) hx hb d_M_translate_206 (by decide) (fun c9 => absurd c9 (by decide : ¬ (nI 10) = 6)) (fun _ => ?_)
    refine lv_iload_n hx hb d_M_translate_209 rfl (lv_at hl 4 rfl) ?_
    refine lv_bipush hx hb d_M_translate_210 kb_7 ?_
    refine lv_icmp_ne (tgt := 236) hx hb d_M_translate_212 (by decide) (fun _ => ?_) (fun c9 => absurd c9 (by decide : ¬ (nI 10) = 7))
    refine lv_iload_n hx hb d_M_translate_236 rfl (lv_at hl 4 rfl) ?_
    refine lv_bipush hx hb d_M_translate_237 kb_10 ?_
    refine lv_icmp_gt (tgt := 288) hx hb d_M_translate_239 (by decide) (fun c9 => absurd c9 (by decide : ¬ 10 < (nI 10))) (fun _ => ?_)
    refine lv_aload_n hx hb d_M_translate_242 rfl (lv_at hl 5 rfl) ?_
    refine lv_iload_n hx hb d_M_translate_243 rfl (lv_at hl 4 rfl) ?_
    refine lv_bipush hx hb d_M_translate_244 kb_8 ?_
    refine lv_icmp_ne (tgt := 253) hx hb d_M_translate_246 (by decide) (fun _ => ?_) (fun c9 => absurd c9 (by decide : ¬ (nI 10) = 8))
    refine lv_iload_n hx hb d_M_translate_253 rfl (lv_at hl 4 rfl) ?_
    refine lv_bipush hx hb d_M_translate_254 kb_9 ?_
    refine lv_icmp_ne (tgt := 263) hx hb d_M_translate_256 (by decide) (fun _ => ?_) (fun c9 => absurd c9 (by decide : ¬ (nI 10) = 9))
    refine lv_iconst hx hb d_M_translate_263 ki_5 ?_
    refine lv_bipush hx hb d_M_translate_264 kb_8 ?_
    refine lv_iload hx hb d_M_translate_266 (lv_at hl 2 rfl) ?_
    refine lv_iload hx hb d_M_translate_268 (lv_at hl 1 rfl) ?_
    refine lv_iconst hx hb d_M_translate_270 ki_0 ?_
    refine kw_step SF ⟨Nat.le_of_ble_eq_true rfl, Nat.le_of_ble_eq_true rfl⟩ M hH (by (try simp only [prodP, pB_len, quoP, amtP, qB_len, rootP, rB_len, onesP, oB_len, finP, cmpP, List.length_append, List.length_cons, List.length_nil]); (try split); all_goals (try simp only [List.length_cons, List.length_nil]); all_goals omega) (5, 8, (r7 (Aa j)), nI (r7 (Bb j)), 0) ⟨rfl, rfl, rfl, rfl, rfl⟩ hl.1 (Nat.le_of_ble_eq_true rfl) d_M_translate_271 (fun μ H locs hH M => ?_)
    refine lv_aload_n hx hb d_M_translate_274 rfl (lv_at hl 5 rfl) ?_
    refine lv_bipush hx hb d_M_translate_275 kb_6 ?_
    refine lv_iload_n hx hb d_M_translate_277 rfl (lv_at hl 3 rfl) ?_
    refine lv_bipush hx hb d_M_translate_278 kb_8 ?_
    refine lv_iconst hx hb d_M_translate_280 ki_0 ?_
    refine lv_iconst hx hb d_M_translate_281 ki_0 ?_
    refine kw_step SF ⟨Nat.le_of_ble_eq_true rfl, Nat.le_of_ble_eq_true rfl⟩ M hH (by (try simp only [prodP, pB_len, quoP, amtP, qB_len, rootP, rB_len, onesP, oB_len, finP, cmpP, List.length_append, List.length_cons, List.length_nil]); (try split); all_goals (try simp only [List.length_cons, List.length_nil]); all_goals omega) (6, d, 8, 0, 0) ⟨rfl, rfl, rfl, rfl, rfl⟩ hl.1 (Nat.le_of_ble_eq_true rfl) d_M_translate_282 (fun μ H locs hH M => ?_)
    refine lv_goto (tgt := 394) hx hb d_M_translate_285 (by decide) ?_
    have hL : [] ++ [(5, 8, (r7 (Aa j)), nI (r7 (Bb j)), 0)] ++ [(6, d, 8, 0, 0)] = progOf 10 d (r7 (Aa j)) (r7 (Bb j)) (r15 (Bb j)) (Aa j) := by
      rfl
    rw [hL] at hH M
    exact retV SF hlk hr μ hH M d_M_translate_394
  · refine lv_iload_n hx hb d_M_translate_52 rfl (lv_at hl 4 rfl) ?_
    refine lv_if_ne (tgt := 86) hx hb d_M_translate_53 (by decide) (fun _ => ?_) (fun c9 => absurd c9 (by decide : ¬ (nI 11) = 0))
    refine lv_iload_n hx hb d_M_translate_86 rfl (lv_at hl 4 rfl) ?_
    refine lv_iconst hx hb d_M_translate_87 ki_1 ?_
    refine lv_icmp_ne (tgt := 105) hx hb d_M_translate_88 (by decide) (fun _ => ?_) (fun c9 => absurd c9 (by decide : ¬ (nI 11) = 1))
    refine lv_iload_n hx hb d_M_translate_105 rfl (lv_at hl 4 rfl) ?_
    refine lv_iconst hx hb d_M_translate_106 ki_2 ?_
    refine lv_icmp_eq (tgt := 115) hx hb d_M_translate_107 (by decide) (fun c9 => absurd c9 (by decide : ¬ (nI 11) = 2)) (fun _ => ?_)
    refine lv_iload_n hx hb d_M_translate_110 rfl (lv_at hl 4 rfl) ?_
    refine lv_iconst hx hb d_M_translate_111 ki_3 ?_
    refine lv_icmp_ne (tgt := 150) hx hb d_M_translate_112 (by decide) (fun _ => ?_) (fun c9 => absurd c9 (by decide : ¬ (nI 11) = 3))
    refine lv_iload_n hx hb d_M_translate_150 rfl (lv_at hl 4 rfl) ?_
    refine lv_iconst hx hb d_M_translate_151 ki_4 ?_
    refine lv_icmp_eq (tgt := 160) hx hb d_M_translate_152 (by decide) (fun c9 => absurd c9 (by decide : ¬ (nI 11) = 4)) (fun _ => ?_)
    refine lv_iload_n hx hb d_M_translate_155 rfl (lv_at hl 4 rfl) ?_
    refine lv_iconst hx hb d_M_translate_156 ki_5 ?_
    refine lv_icmp_ne (tgt := 203) hx hb d_M_translate_157 (by decide) (fun _ => ?_) (fun c9 => absurd c9 (by decide : ¬ (nI 11) = 5))
    refine lv_iload_n hx hb d_M_translate_203 rfl (lv_at hl 4 rfl) ?_
    refine lv_bipush hx hb d_M_translate_204 kb_6 ?_
    refine lv_icmp_eq (tgt := 215) hx hb d_M_translate_206 (by decide) (fun c9 => absurd c9 (by decide : ¬ (nI 11) = 6)) (fun _ => ?_)
    refine lv_iload_n hx hb d_M_translate_209 rfl (lv_at hl 4 rfl) ?_
    refine lv_bipush hx hb d_M_translate_210 kb_7 ?_
    refine lv_icmp_ne (tgt := 236) hx hb d_M_translate_212 (by decide) (fun _ => ?_) (fun c9 => absurd c9 (by decide : ¬ (nI 11) = 7))
    refine lv_iload_n hx hb d_M_translate_236 rfl (lv_at hl 4 rfl) ?_
    refine lv_bipush hx hb d_M_translate_237 kb_10 ?_
    refine lv_icmp_gt (tgt := 288) hx hb d_M_translate_239 (by decide) (fun _ => ?_) (fun c9 => absurd (by decide : 10 < (nI 11)) c9)
    refine lv_iload_n hx hb d_M_translate_288 rfl (lv_at hl 4 rfl) ?_
    refine lv_bipush hx hb d_M_translate_289 kb_12 ?_
    refine lv_icmp_gt (tgt := 332) hx hb d_M_translate_291 (by decide) (fun c9 => absurd c9 (by decide : ¬ 12 < (nI 11))) (fun _ => ?_)
    refine lv_aload_n hx hb d_M_translate_294 rfl (lv_at hl 5 rfl) ?_
    refine lv_iconst hx hb d_M_translate_295 ki_0 ?_
    refine lv_bipush hx hb d_M_translate_296 kb_8 ?_
    refine lv_iload hx hb d_M_translate_298 (lv_at hl 2 rfl) ?_
    refine lv_iload_n hx hb d_M_translate_300 rfl (lv_at hl 4 rfl) ?_
    refine lv_bipush hx hb d_M_translate_301 kb_11 ?_
    refine lv_icmp_ne (tgt := 311) hx hb d_M_translate_303 (by decide) (fun c9 => absurd (by decide : (nI 11) = 11) c9) (fun _ => ?_)
    refine lv_iload hx hb d_M_translate_306 (lv_at hl 0 rfl) ?_
    refine lv_goto (tgt := 314) hx hb d_M_translate_308 (by decide) ?_
    refine lv_iconst hx hb d_M_translate_314 ki_0 ?_
    refine kw_step SF ⟨Nat.le_of_ble_eq_true rfl, Nat.le_of_ble_eq_true rfl⟩ M hH (by (try simp only [prodP, pB_len, quoP, amtP, qB_len, rootP, rB_len, onesP, oB_len, finP, cmpP, List.length_append, List.length_cons, List.length_nil]); (try split); all_goals (try simp only [List.length_cons, List.length_nil]); all_goals omega) (0, 8, (r7 (Aa j)), nI (r15 (Bb j)), 0) ⟨rfl, rfl, rfl, rfl, rfl⟩ hl.1 (Nat.le_of_ble_eq_true rfl) d_M_translate_315 (fun μ H locs hH M => ?_)
    refine lv_aload_n hx hb d_M_translate_318 rfl (lv_at hl 5 rfl) ?_
    refine lv_bipush hx hb d_M_translate_319 kb_6 ?_
    refine lv_iload_n hx hb d_M_translate_321 rfl (lv_at hl 3 rfl) ?_
    refine lv_bipush hx hb d_M_translate_322 kb_8 ?_
    refine lv_iconst hx hb d_M_translate_324 ki_0 ?_
    refine lv_iconst hx hb d_M_translate_325 ki_0 ?_
    refine kw_step SF ⟨Nat.le_of_ble_eq_true rfl, Nat.le_of_ble_eq_true rfl⟩ M hH (by (try simp only [prodP, pB_len, quoP, amtP, qB_len, rootP, rB_len, onesP, oB_len, finP, cmpP, List.length_append, List.length_cons, List.length_nil]); (try split); all_goals (try simp only [List.length_cons, List.length_nil]); all_goals omega) (6, d, 8, 0, 0) ⟨rfl, rfl, rfl, rfl, rfl⟩ hl.1 (Nat.le_of_ble_eq_true rfl) d_M_translate_326 (fun μ H locs hH M => ?_)
    refine lv_goto (tgt := 394) hx hb d_M_translate_329 (by decide) ?_
    have hL : [] ++ [(0, 8, (r7 (Aa j)), nI (r15 (Bb j)), 0)] ++ [(6, d, 8, 0, 0)] = progOf 11 d (r7 (Aa j)) (r7 (Bb j)) (r15 (Bb j)) (Aa j) := by
      rfl
    rw [hL] at hH M
    exact retV SF hlk hr μ hH M d_M_translate_394
  · refine lv_iload_n hx hb d_M_translate_52 rfl (lv_at hl 4 rfl) ?_
    refine lv_if_ne (tgt := 86) hx hb d_M_translate_53 (by decide) (fun _ => ?_) (fun c9 => absurd c9 (by decide : ¬ (nI 12) = 0))
    refine lv_iload_n hx hb d_M_translate_86 rfl (lv_at hl 4 rfl) ?_
    refine lv_iconst hx hb d_M_translate_87 ki_1 ?_
    refine lv_icmp_ne (tgt := 105) hx hb d_M_translate_88 (by decide) (fun _ => ?_) (fun c9 => absurd c9 (by decide : ¬ (nI 12) = 1))
    refine lv_iload_n hx hb d_M_translate_105 rfl (lv_at hl 4 rfl) ?_
    refine lv_iconst hx hb d_M_translate_106 ki_2 ?_
    refine lv_icmp_eq (tgt := 115) hx hb d_M_translate_107 (by decide) (fun c9 => absurd c9 (by decide : ¬ (nI 12) = 2)) (fun _ => ?_)
    refine lv_iload_n hx hb d_M_translate_110 rfl (lv_at hl 4 rfl) ?_
    refine lv_iconst hx hb d_M_translate_111 ki_3 ?_
    refine lv_icmp_ne (tgt := 150) hx hb d_M_translate_112 (by decide) (fun _ => ?_) (fun c9 => absurd c9 (by decide : ¬ (nI 12) = 3))
    refine lv_iload_n hx hb d_M_translate_150 rfl (lv_at hl 4 rfl) ?_
    refine lv_iconst hx hb d_M_translate_151 ki_4 ?_
    refine lv_icmp_eq (tgt := 160) hx hb d_M_translate_152 (by decide) (fun c9 => absurd c9 (by decide : ¬ (nI 12) = 4)) (fun _ => ?_)
    refine lv_iload_n hx hb d_M_translate_155 rfl (lv_at hl 4 rfl) ?_
    refine lv_iconst hx hb d_M_translate_156 ki_5 ?_
    refine lv_icmp_ne (tgt := 203) hx hb d_M_translate_157 (by decide) (fun _ => ?_) (fun c9 => absurd c9 (by decide : ¬ (nI 12) = 5))
    refine lv_iload_n hx hb d_M_translate_203 rfl (lv_at hl 4 rfl) ?_
    refine lv_bipush hx hb d_M_translate_204 kb_6 ?_
    refine lv_icmp_eq (tgt := 215) hx hb d_M_translate_206 (by decide) (fun c9 => absurd c9 (by decide : ¬ (nI 12) = 6)) (fun _ => ?_)
    refine lv_iload_n hx hb d_M_translate_209 rfl (lv_at hl 4 rfl) ?_
    refine lv_bipush hx hb d_M_translate_210 kb_7 ?_
    refine lv_icmp_ne (tgt := 236) hx hb d_M_translate_212 (by decide) (fun _ => ?_) (fun c9 => absurd c9 (by decide : ¬ (nI 12) = 7))
    refine lv_iload_n hx hb d_M_translate_236 rfl (lv_at hl 4 rfl) ?_
    refine lv_bipush hx hb d_M_translate_237 kb_10 ?_
    refine lv_icmp_gt (tgt := 288) hx hb d_M_translate_239 (by decide) (fun _ => ?_) (fun c9 => absurd (by decide : 10 < (nI 12)) c9)
    refine lv_iload_n hx hb d_M_translate_288 rfl (lv_at hl 4 rfl) ?_
    refine lv_bipush hx hb d_M_translate_289 kb_12 ?_
    refine lv_icmp_gt (tgt := 332) hx hb d_M_translate_291 (by decide) (fun c9 => absurd c9 (by decide : ¬ 12 < (nI 12))) (fun _ => ?_)
    refine lv_aload_n hx hb d_M_translate_294 rfl (lv_at hl 5 rfl) ?_
    refine lv_iconst hx hb d_M_translate_295 ki_0 ?_
    refine lv_bipush hx hb d_M_translate_296 kb_8 ?_
    refine lv_iload hx hb d_M_translate_298 (lv_at hl 2 rfl) ?_
    refine lv_iload_n hx hb d_M_translate_300 rfl (lv_at hl 4 rfl) ?_
    refine lv_bipush hx hb d_M_translate_301 kb_11 ?_
    refine lv_icmp_ne (tgt := 311) hx hb d_M_translate_303 (by decide) (fun _ => ?_) (fun c9 => absurd c9 (by decide : ¬ (nI 12) = 11))
    refine lv_iload hx hb d_M_translate_311 (lv_at hl 0 rfl) ?_
    refine lv_ineg hx hb d_M_translate_313 ?_
    refine lv_iconst hx hb d_M_translate_314 ki_0 ?_
    refine kw_step SF ⟨Nat.le_of_ble_eq_true rfl, Nat.le_of_ble_eq_true rfl⟩ M hH (by (try simp only [prodP, pB_len, quoP, amtP, qB_len, rootP, rB_len, onesP, oB_len, finP, cmpP, List.length_append, List.length_cons, List.length_nil]); (try split); all_goals (try simp only [List.length_cons, List.length_nil]); all_goals omega) (0, 8, (r7 (Aa j)), -nI (r15 (Bb j)), 0) ⟨rfl, rfl, rfl, rfl, rfl⟩ hl.1 (Nat.le_of_ble_eq_true rfl) d_M_translate_315 (fun μ H locs hH M => ?_)
    refine lv_aload_n hx hb d_M_translate_318 rfl (lv_at hl 5 rfl) ?_
    refine lv_bipush hx hb d_M_translate_319 kb_6 ?_
    refine lv_iload_n hx hb d_M_translate_321 rfl (lv_at hl 3 rfl) ?_
    refine lv_bipush hx hb d_M_translate_322 kb_8 ?_
    refine lv_iconst hx hb d_M_translate_324 ki_0 ?_
    refine lv_iconst hx hb d_M_translate_325 ki_0 ?_
    refine kw_step SF ⟨Nat.le_of_ble_eq_true rfl, Nat.le_of_ble_eq_true rfl⟩ M hH (by (try simp only [prodP, pB_len, quoP, amtP, qB_len, rootP, rB_len, onesP, oB_len, finP, cmpP, List.length_append, List.length_cons, List.length_nil]); (try split); all_goals (try simp only [List.length_cons, List.length_nil]); all_goals omega) (6, d, 8, 0, 0) ⟨rfl, rfl, rfl, rfl, rfl⟩ hl.1 (Nat.le_of_ble_eq_true rfl) d_M_translate_326 (fun μ H locs hH M => ?_)
    refine lv_goto (tgt := 394) hx hb d_M_translate_329 (by decide) ?_
    have hL : [] ++ [(0, 8, (r7 (Aa j)), -nI (r15 (Bb j)), 0)] ++ [(6, d, 8, 0, 0)] = progOf 12 d (r7 (Aa j)) (r7 (Bb j)) (r15 (Bb j)) (Aa j) := by
      rfl
    rw [hL] at hH M
    exact retV SF hlk hr μ hH M d_M_translate_394
  · refine lv_iload_n hx hb d_M_translate_52 rfl (lv_at hl 4 rfl) ?_
    refine lv_if_ne (tgt := 86) hx hb d_M_translate_53 (by decide) (fun _ => ?_) (fun c9 => absurd c9 (by decide : ¬ (nI 13) = 0))
    refine lv_iload_n hx hb d_M_translate_86 rfl (lv_at hl 4 rfl) ?_
    refine lv_iconst hx hb d_M_translate_87 ki_1 ?_
    refine lv_icmp_ne (tgt := 105) hx hb d_M_translate_88 (by decide) (fun _ => ?_) (fun c9 => absurd c9 (by decide : ¬ (nI 13) = 1))
    refine lv_iload_n hx hb d_M_translate_105 rfl (lv_at hl 4 rfl) ?_
    refine lv_iconst hx hb d_M_translate_106 ki_2 ?_
    refine lv_icmp_eq (tgt := 115) hx hb d_M_translate_107 (by decide) (fun c9 => absurd c9 (by decide : ¬ (nI 13) = 2)) (fun _ => ?_)
    refine lv_iload_n hx hb d_M_translate_110 rfl (lv_at hl 4 rfl) ?_
    refine lv_iconst hx hb d_M_translate_111 ki_3 ?_
    refine lv_icmp_ne (tgt := 150) hx hb d_M_translate_112 (by decide) (fun _ => ?_) (fun c9 => absurd c9 (by decide : ¬ (nI 13) = 3))
    refine lv_iload_n hx hb d_M_translate_150 rfl (lv_at hl 4 rfl) ?_
    refine lv_iconst hx hb d_M_translate_151 ki_4 ?_
    refine lv_icmp_eq (tgt := 160) hx hb d_M_translate_152 (by decide) (fun c9 => absurd c9 (by decide : ¬ (nI 13) = 4)) (fun _ => ?_)
    refine lv_iload_n hx hb d_M_translate_155 rfl (lv_at hl 4 rfl) ?_
    refine lv_iconst hx hb d_M_translate_156 ki_5 ?_
    refine lv_icmp_ne (tgt := 203) hx hb d_M_translate_157 (by decide) (fun _ => ?_) (fun c9 => absurd c9 (by decide : ¬ (nI 13) = 5))
    refine lv_iload_n hx hb d_M_translate_203 rfl (lv_at hl 4 rfl) ?_
    refine lv_bipush hx hb d_M_translate_204 kb_6 ?_
    refine lv_icmp_eq (tgt := 215) hx hb d_M_translate_206 (by decide) (fun c9 => absurd c9 (by decide : ¬ (nI 13) = 6)) (fun _ => ?_)
    refine lv_iload_n hx hb d_M_translate_209 rfl (lv_at hl 4 rfl) ?_
    refine lv_bipush hx hb d_M_translate_210 kb_7 ?_
    refine lv_icmp_ne (tgt := 236) hx hb d_M_translate_212 (by decide) (fun _ => ?_) (fun c9 => absurd c9 (by decide : ¬ (nI 13) = 7))
    refine lv_iload_n hx hb d_M_translate_236 rfl (lv_at hl 4 rfl) ?_
    refine lv_bipush hx hb d_M_translate_237 kb_10 ?_
    refine lv_icmp_gt (tgt := 288) hx hb d_M_translate_239 (by decide) (fun _ => ?_) (fun c9 => absurd (by decide : 10 < (nI 13)) c9)
    refine lv_iload_n hx hb d_M_translate_288 rfl (lv_at hl 4 rfl) ?_
    refine lv_bipush hx hb d_M_translate_289 kb_12 ?_
    refine lv_icmp_gt (tgt := 332) hx hb d_M_translate_291 (by decide) (fun _ => ?_) (fun c9 => absurd (by decide : 12 < (nI 13)) c9)
    refine lv_iload_n hx hb d_M_translate_332 rfl (lv_at hl 4 rfl) ?_
    refine lv_bipush hx hb d_M_translate_333 kb_14 ?_
    refine lv_icmp_gt (tgt := 351) hx hb d_M_translate_335 (by decide) (fun c9 => absurd c9 (by decide : ¬ 14 < (nI 13))) (fun _ => ?_)
    refine lv_aload_n hx hb d_M_translate_338 rfl (lv_at hl 5 rfl) ?_
    refine lv_iload_n hx hb d_M_translate_339 rfl (lv_at hl 4 rfl) ?_
    refine lv_iload_n hx hb d_M_translate_340 rfl (lv_at hl 3 rfl) ?_
    refine lv_iload hx hb d_M_translate_341 (lv_at hl 2 rfl) ?_
    refine lv_iload hx hb d_M_translate_343 (lv_at hl 1 rfl) ?_
    refine ccV SF M (c_comparison l D h cs ln nx la O Dd Aa Bb bt fr k0 k1 k2 k3 k4 ([]) 13 d (r7 (Aa j)) (r7 (Bb j)) hH (by (try simp only [prodP, pB_len, quoP, amtP, qB_len, rootP, rB_len, onesP, oB_len, finP, cmpP, List.length_append, List.length_cons, List.length_nil]); (try split); all_goals (try simp only [List.length_cons, List.length_nil]); all_goals omega) (by decide)) g_M_95 hd_M_comparison ⟨Nat.le_of_ble_eq_true rfl, Nat.le_of_ble_eq_true rfl⟩ (ci := 0) rfl rfl hl.1 rfl (Nat.le_of_ble_eq_true rfl) d_M_translate_345 ⟨Nat.zero_le _, Nat.zero_le _⟩ (fun μ H locs hH M => ?_)
    have hH : Holds ([] ++ cmpP 13 d (r7 (Aa j)) (r7 (Bb j))) (μ 0) (μ 1) (μ 2) (μ 3) (μ 4) := hH
    have M : WW D (tysM cs) A s (mW h cs ln nx la (nI ([] ++ cmpP 13 d (r7 (Aa j)) (r7 (Bb j))).length) O Dd Aa Bb bt fr (μ 0) (μ 1) (μ 2) (μ 3) (μ 4)) H locs := M
    refine lv_goto (tgt := 394) hx hb d_M_translate_348 (by decide) ?_
    have hL : [] ++ cmpP 13 d (r7 (Aa j)) (r7 (Bb j)) = progOf 13 d (r7 (Aa j)) (r7 (Bb j)) (r15 (Bb j)) (Aa j) := by
      simp [progOf]
    rw [hL] at hH M
    exact retV SF hlk hr μ hH M d_M_translate_394
  · refine lv_iload_n hx hb d_M_translate_52 rfl (lv_at hl 4 rfl) ?_
    refine lv_if_ne (tgt := 86) hx hb d_M_translate_53 (by decide) (fun _ => ?_) (fun c9 => absurd c9 (by decide : ¬ (nI 14) = 0))
    refine lv_iload_n hx hb d_M_translate_86 rfl (lv_at hl 4 rfl) ?_
    refine lv_iconst hx hb d_M_translate_87 ki_1 ?_
    refine lv_icmp_ne (tgt := 105) hx hb d_M_translate_88 (by decide) (fun _ => ?_) (fun c9 => absurd c9 (by decide : ¬ (nI 14) = 1))
    refine lv_iload_n hx hb d_M_translate_105 rfl (lv_at hl 4 rfl) ?_
    refine lv_iconst hx hb d_M_translate_106 ki_2 ?_
    refine lv_icmp_eq (tgt := 115) hx hb d_M_translate_107 (by decide) (fun c9 => absurd c9 (by decide : ¬ (nI 14) = 2)) (fun _ => ?_)
    refine lv_iload_n hx hb d_M_translate_110 rfl (lv_at hl 4 rfl) ?_
    refine lv_iconst hx hb d_M_translate_111 ki_3 ?_
    refine lv_icmp_ne (tgt := 150) hx hb d_M_translate_112 (by decide) (fun _ => ?_) (fun c9 => absurd c9 (by decide : ¬ (nI 14) = 3))
    refine lv_iload_n hx hb d_M_translate_150 rfl (lv_at hl 4 rfl) ?_
    refine lv_iconst hx hb d_M_translate_151 ki_4 ?_
    refine lv_icmp_eq (tgt := 160) hx hb d_M_translate_152 (by decide) (fun c9 => absurd c9 (by decide : ¬ (nI 14) = 4)) (fun _ => ?_)
    refine lv_iload_n hx hb d_M_translate_155 rfl (lv_at hl 4 rfl) ?_
    refine lv_iconst hx hb d_M_translate_156 ki_5 ?_
    refine lv_icmp_ne (tgt := 203) hx hb d_M_translate_157 (by decide) (fun _ => ?_) (fun c9 => absurd c9 (by decide : ¬ (nI 14) = 5))
    refine lv_iload_n hx hb d_M_translate_203 rfl (lv_at hl 4 rfl) ?_
    refine lv_bipush hx hb d_M_translate_204 kb_6 ?_
    refine lv_icmp_eq (tgt := 215) hx hb d_M_translate_206 (by decide) (fun c9 => absurd c9 (by decide : ¬ (nI 14) = 6)) (fun _ => ?_)
    refine lv_iload_n hx hb d_M_translate_209 rfl (lv_at hl 4 rfl) ?_
    refine lv_bipush hx hb d_M_translate_210 kb_7 ?_
    refine lv_icmp_ne (tgt := 236) hx hb d_M_translate_212 (by decide) (fun _ => ?_) (fun c9 => absurd c9 (by decide : ¬ (nI 14) = 7))
    refine lv_iload_n hx hb d_M_translate_236 rfl (lv_at hl 4 rfl) ?_
    refine lv_bipush hx hb d_M_translate_237 kb_10 ?_
    refine lv_icmp_gt (tgt := 288) hx hb d_M_translate_239 (by decide) (fun _ => ?_) (fun c9 => absurd (by decide : 10 < (nI 14)) c9)
    refine lv_iload_n hx hb d_M_translate_288 rfl (lv_at hl 4 rfl) ?_
    refine lv_bipush hx hb d_M_translate_289 kb_12 ?_
    refine lv_icmp_gt (tgt := 332) hx hb d_M_translate_291 (by decide) (fun _ => ?_) (fun c9 => absurd (by decide : 12 < (nI 14)) c9)
    refine lv_iload_n hx hb d_M_translate_332 rfl (lv_at hl 4 rfl) ?_
    refine lv_bipush hx hb d_M_translate_333 kb_14 ?_
    refine lv_icmp_gt (tgt := 351) hx hb d_M_translate_335 (by decide) (fun c9 => absurd c9 (by decide : ¬ 14 < (nI 14))) (fun _ => ?_)
    refine lv_aload_n hx hb d_M_translate_338 rfl (lv_at hl 5 rfl) ?_
    refine lv_iload_n hx hb d_M_translate_339 rfl (lv_at hl 4 rfl) ?_
    refine lv_iload_n hx hb d_M_translate_340 rfl (lv_at hl 3 rfl) ?_
    refine lv_iload hx hb d_M_translate_341 (lv_at hl 2 rfl) ?_
    refine lv_iload hx hb d_M_translate_343 (lv_at hl 1 rfl) ?_
    refine ccV SF M (c_comparison l D h cs ln nx la O Dd Aa Bb bt fr k0 k1 k2 k3 k4 ([]) 14 d (r7 (Aa j)) (r7 (Bb j)) hH (by (try simp only [prodP, pB_len, quoP, amtP, qB_len, rootP, rB_len, onesP, oB_len, finP, cmpP, List.length_append, List.length_cons, List.length_nil]); (try split); all_goals (try simp only [List.length_cons, List.length_nil]); all_goals omega) (by decide)) g_M_95 hd_M_comparison ⟨Nat.le_of_ble_eq_true rfl, Nat.le_of_ble_eq_true rfl⟩ (ci := 0) rfl rfl hl.1 rfl (Nat.le_of_ble_eq_true rfl) d_M_translate_345 ⟨Nat.zero_le _, Nat.zero_le _⟩ (fun μ H locs hH M => ?_)
    have hH : Holds ([] ++ cmpP 14 d (r7 (Aa j)) (r7 (Bb j))) (μ 0) (μ 1) (μ 2) (μ 3) (μ 4) := hH
    have M : WW D (tysM cs) A s (mW h cs ln nx la (nI ([] ++ cmpP 14 d (r7 (Aa j)) (r7 (Bb j))).length) O Dd Aa Bb bt fr (μ 0) (μ 1) (μ 2) (μ 3) (μ 4)) H locs := M
    refine lv_goto (tgt := 394) hx hb d_M_translate_348 (by decide) ?_
    have hL : [] ++ cmpP 14 d (r7 (Aa j)) (r7 (Bb j)) = progOf 14 d (r7 (Aa j)) (r7 (Bb j)) (r15 (Bb j)) (Aa j) := by
      simp [progOf]
    rw [hL] at hH M
    exact retV SF hlk hr μ hH M d_M_translate_394
  · refine lv_iload_n hx hb d_M_translate_52 rfl (lv_at hl 4 rfl) ?_
    refine lv_if_ne (tgt := 86) hx hb d_M_translate_53 (by decide) (fun _ => ?_) (fun c9 => absurd c9 (by decide : ¬ (nI 15) = 0))
    refine lv_iload_n hx hb d_M_translate_86 rfl (lv_at hl 4 rfl) ?_
    refine lv_iconst hx hb d_M_translate_87 ki_1 ?_
    refine lv_icmp_ne (tgt := 105) hx hb d_M_translate_88 (by decide) (fun _ => ?_) (fun c9 => absurd c9 (by decide : ¬ (nI 15) = 1))
    refine lv_iload_n hx hb d_M_translate_105 rfl (lv_at hl 4 rfl) ?_
    refine lv_iconst hx hb d_M_translate_106 ki_2 ?_
    refine lv_icmp_eq (tgt := 115) hx hb d_M_translate_107 (by decide) (fun c9 => absurd c9 (by decide : ¬ (nI 15) = 2)) (fun _ => ?_)
    refine lv_iload_n hx hb d_M_translate_110 rfl (lv_at hl 4 rfl) ?_
    refine lv_iconst hx hb d_M_translate_111 ki_3 ?_
    refine lv_icmp_ne (tgt := 150) hx hb d_M_translate_112 (by decide) (fun _ => ?_) (fun c9 => absurd c9 (by decide : ¬ (nI 15) = 3))
    refine lv_iload_n hx hb d_M_translate_150 rfl (lv_at hl 4 rfl) ?_
    refine lv_iconst hx hb d_M_translate_151 ki_4 ?_
    refine lv_icmp_eq (tgt := 160) hx hb d_M_translate_152 (by decide) (fun c9 => absurd c9 (by decide : ¬ (nI 15) = 4)) (fun _ => ?_)
    refine lv_iload_n hx hb d_M_translate_155 rfl (lv_at hl 4 rfl) ?_
    refine lv_iconst hx hb d_M_translate_156 ki_5 ?_
    refine lv_icmp_ne (tgt := 203) hx hb d_M_translate_157 (by decide) (fun _ => ?_) (fun c9 => absurd c9 (by decide : ¬ (nI 15) = 5))
    refine lv_iload_n hx hb d_M_translate_203 rfl (lv_at hl 4 rfl) ?_
    refine lv_bipush hx hb d_M_translate_204 kb_6 ?_
    refine lv_icmp_eq (tgt := 215) hx hb d_M_translate_206 (by decide) (fun c9 => absurd c9 (by decide : ¬ (nI 15) = 6)) (fun _ => ?_)
    refine lv_iload_n hx hb d_M_translate_209 rfl (lv_at hl 4 rfl) ?_
    refine lv_bipush hx hb d_M_translate_210 kb_7 ?_
    refine lv_icmp_ne (tgt := 236) hx hb d_M_translate_212 (by decide) (fun _ => ?_) (fun c9 => absurd c9 (by decide : ¬ (nI 15) = 7))
    refine lv_iload_n hx hb d_M_translate_236 rfl (lv_at hl 4 rfl) ?_
    refine lv_bipush hx hb d_M_translate_237 kb_10 ?_
    refine lv_icmp_gt (tgt := 288) hx hb d_M_translate_239 (by decide) (fun _ => ?_) (fun c9 => absurd (by decide : 10 < (nI 15)) c9)
    refine lv_iload_n hx hb d_M_translate_288 rfl (lv_at hl 4 rfl) ?_
    refine lv_bipush hx hb d_M_translate_289 kb_12 ?_
    refine lv_icmp_gt (tgt := 332) hx hb d_M_translate_291 (by decide) (fun _ => ?_) (fun c9 => absurd (by decide : 12 < (nI 15)) c9)
    refine lv_iload_n hx hb d_M_translate_332 rfl (lv_at hl 4 rfl) ?_
    refine lv_bipush hx hb d_M_translate_333 kb_14 ?_
    refine lv_icmp_gt (tgt := 351) hx hb d_M_translate_335 (by decide) (fun _ => ?_) (fun c9 => absurd (by decide : 14 < (nI 15)) c9)
    refine lv_iload_n hx hb d_M_translate_351 rfl (lv_at hl 4 rfl) ?_
    refine lv_bipush hx hb d_M_translate_352 kb_15 ?_
    refine lv_icmp_ne (tgt := 377) hx hb d_M_translate_354 (by decide) (fun c9 => absurd (by decide : (nI 15) = 15) c9) (fun _ => ?_)
    refine lv_aload_n hx hb d_M_translate_357 rfl (lv_at hl 5 rfl) ?_
    refine lv_iload hx hb d_M_translate_358 (lv_at hl 2 rfl) ?_
    refine ccV SF M (c_root l D h cs ln nx la O Dd Aa Bb bt fr k0 k1 k2 k3 k4 ([]) (r7 (Aa j)) hH (by (try simp only [prodP, pB_len, quoP, amtP, qB_len, rootP, rB_len, onesP, oB_len, finP, cmpP, List.length_append, List.length_cons, List.length_nil]); (try split); all_goals (try simp only [List.length_cons, List.length_nil]); all_goals omega)) g_M_98 hd_M_root ⟨Nat.le_of_ble_eq_true rfl, Nat.le_of_ble_eq_true rfl⟩ (ci := 0) rfl rfl hl.1 rfl (Nat.le_of_ble_eq_true rfl) d_M_translate_360 ⟨Nat.zero_le _, Nat.zero_le _⟩ (fun μ H locs hH M => ?_)
    have hH : Holds ([] ++ rootP (r7 (Aa j))) (μ 0) (μ 1) (μ 2) (μ 3) (μ 4) := hH
    have M : WW D (tysM cs) A s (mW h cs ln nx la (nI ([] ++ rootP (r7 (Aa j))).length) O Dd Aa Bb bt fr (μ 0) (μ 1) (μ 2) (μ 3) (μ 4)) H locs := M
    refine lv_aload_n hx hb d_M_translate_363 rfl (lv_at hl 5 rfl) ?_
    refine lv_bipush hx hb d_M_translate_364 kb_6 ?_
    refine lv_iload_n hx hb d_M_translate_366 rfl (lv_at hl 3 rfl) ?_
    refine lv_bipush hx hb d_M_translate_367 kb_10 ?_
    refine lv_iconst hx hb d_M_translate_369 ki_0 ?_
    refine lv_iconst hx hb d_M_translate_370 ki_0 ?_
    refine kw_step SF ⟨Nat.le_of_ble_eq_true rfl, Nat.le_of_ble_eq_true rfl⟩ M hH (by (try simp only [prodP, pB_len, quoP, amtP, qB_len, rootP, rB_len, onesP, oB_len, finP, cmpP, List.length_append, List.length_cons, List.length_nil]); (try split); all_goals (try simp only [List.length_cons, List.length_nil]); all_goals omega) (6, d, 10, 0, 0) ⟨rfl, rfl, rfl, rfl, rfl⟩ hl.1 (Nat.le_of_ble_eq_true rfl) d_M_translate_371 (fun μ H locs hH M => ?_)
    refine lv_goto (tgt := 394) hx hb d_M_translate_374 (by decide) ?_
    have hL : [] ++ rootP (r7 (Aa j)) ++ [(6, d, 10, 0, 0)] = progOf 15 d (r7 (Aa j)) (r7 (Bb j)) (r15 (Bb j)) (Aa j) := by
      simp [progOf]
    rw [hL] at hH M
    exact retV SF hlk hr μ hH M d_M_translate_394
  · refine lv_iload_n hx hb d_M_translate_52 rfl (lv_at hl 4 rfl) ?_
    refine lv_if_ne (tgt := 86) hx hb d_M_translate_53 (by decide) (fun _ => ?_) (fun c9 => absurd c9 (by decide : ¬ (nI 16) = 0))
    refine lv_iload_n hx hb d_M_translate_86 rfl (lv_at hl 4 rfl) ?_
    refine lv_iconst hx hb d_M_translate_87 ki_1 ?_
    refine lv_icmp_ne (tgt := 105) hx hb d_M_translate_88 (by decide) (fun _ => ?_) (fun c9 => absurd c9 (by decide : ¬ (nI 16) = 1))
    refine lv_iload_n hx hb d_M_translate_105 rfl (lv_at hl 4 rfl) ?_
    refine lv_iconst hx hb d_M_translate_106 ki_2 ?_
    refine lv_icmp_eq (tgt := 115) hx hb d_M_translate_107 (by decide) (fun c9 => absurd c9 (by decide : ¬ (nI 16) = 2)) (fun _ => ?_)
    refine lv_iload_n hx hb d_M_translate_110 rfl (lv_at hl 4 rfl) ?_
    refine lv_iconst hx hb d_M_translate_111 ki_3 ?_
    refine lv_icmp_ne (tgt := 150) hx hb d_M_translate_112 (by decide) (fun _ => ?_) (fun c9 => absurd c9 (by decide : ¬ (nI 16) = 3))
    refine lv_iload_n hx hb d_M_translate_150 rfl (lv_at hl 4 rfl) ?_
    refine lv_iconst hx hb d_M_translate_151 ki_4 ?_
    refine lv_icmp_eq (tgt := 160) hx hb d_M_translate_152 (by decide) (fun c9 => absurd c9 (by decide : ¬ (nI 16) = 4)) (fun _ => ?_)
    refine lv_iload_n hx hb d_M_translate_155 rfl (lv_at hl 4 rfl) ?_
    refine lv_iconst hx hb d_M_translate_156 ki_5 ?_
    refine lv_icmp_ne (tgt := 203) hx hb d_M_translate_157 (by decide) (fun _ => ?_) (fun c9 => absurd c9 (by decide : ¬ (nI 16) = 5))
    refine lv_iload_n hx hb d_M_translate_203 rfl (lv_at hl 4 rfl) ?_
    refine lv_bipush hx hb d_M_translate_204 kb_6 ?_
    refine lv_icmp_eq (tgt := 215) hx hb d_M_translate_206 (by decide) (fun c9 => absurd c9 (by decide : ¬ (nI 16) = 6)) (fun _ => ?_)
    refine lv_iload_n hx hb d_M_translate_209 rfl (lv_at hl 4 rfl) ?_
    refine lv_bipush hx hb d_M_translate_210 kb_7 ?_
    refine lv_icmp_ne (tgt := 236) hx hb d_M_translate_212 (by decide) (fun _ => ?_) (fun c9 => absurd c9 (by decide : ¬ (nI 16) = 7))
    refine lv_iload_n hx hb d_M_translate_236 rfl (lv_at hl 4 rfl) ?_
    refine lv_bipush hx hb d_M_translate_237 kb_10 ?_
    refine lv_icmp_gt (tgt := 288) hx hb d_M_translate_239 (by decide) (fun _ => ?_) (fun c9 => absurd (by decide : 10 < (nI 16)) c9)
    refine lv_iload_n hx hb d_M_translate_288 rfl (lv_at hl 4 rfl) ?_
    refine lv_bipush hx hb d_M_translate_289 kb_12 ?_
    refine lv_icmp_gt (tgt := 332) hx hb d_M_translate_291 (by decide) (fun _ => ?_) (fun c9 => absurd (by decide : 12 < (nI 16)) c9)
    refine lv_iload_n hx hb d_M_translate_332 rfl (lv_at hl 4 rfl) ?_
    refine lv_bipush hx hb d_M_translate_333 kb_14 ?_
    refine lv_icmp_gt (tgt := 351) hx hb d_M_translate_335 (by decide) (fun _ => ?_) (fun c9 => absurd (by decide : 14 < (nI 16)) c9)
    refine lv_iload_n hx hb d_M_translate_351 rfl (lv_at hl 4 rfl) ?_
    refine lv_bipush hx hb d_M_translate_352 kb_15 ?_
    refine lv_icmp_ne (tgt := 377) hx hb d_M_translate_354 (by decide) (fun _ => ?_) (fun c9 => absurd c9 (by decide : ¬ (nI 16) = 15))
    refine lv_aload_n hx hb d_M_translate_377 rfl (lv_at hl 5 rfl) ?_
    refine lv_iload hx hb d_M_translate_378 (lv_at hl 2 rfl) ?_
    refine ccV SF M (c_countOnes l D h cs ln nx la O Dd Aa Bb bt fr k0 k1 k2 k3 k4 ([]) (r7 (Aa j)) hH (by (try simp only [prodP, pB_len, quoP, amtP, qB_len, rootP, rB_len, onesP, oB_len, finP, cmpP, List.length_append, List.length_cons, List.length_nil]); (try split); all_goals (try simp only [List.length_cons, List.length_nil]); all_goals omega)) g_M_101 hd_M_countOnes ⟨Nat.le_of_ble_eq_true rfl, Nat.le_of_ble_eq_true rfl⟩ (ci := 0) rfl rfl hl.1 rfl (Nat.le_of_ble_eq_true rfl) d_M_translate_380 ⟨Nat.zero_le _, Nat.zero_le _⟩ (fun μ H locs hH M => ?_)
    have hH : Holds ([] ++ onesP (r7 (Aa j))) (μ 0) (μ 1) (μ 2) (μ 3) (μ 4) := hH
    have M : WW D (tysM cs) A s (mW h cs ln nx la (nI ([] ++ onesP (r7 (Aa j))).length) O Dd Aa Bb bt fr (μ 0) (μ 1) (μ 2) (μ 3) (μ 4)) H locs := M
    refine lv_aload_n hx hb d_M_translate_383 rfl (lv_at hl 5 rfl) ?_
    refine lv_bipush hx hb d_M_translate_384 kb_6 ?_
    refine lv_iload_n hx hb d_M_translate_386 rfl (lv_at hl 3 rfl) ?_
    refine lv_bipush hx hb d_M_translate_387 kb_8 ?_
    refine lv_iconst hx hb d_M_translate_389 ki_0 ?_
    refine lv_iconst hx hb d_M_translate_390 ki_0 ?_
    refine kw_step SF ⟨Nat.le_of_ble_eq_true rfl, Nat.le_of_ble_eq_true rfl⟩ M hH (by (try simp only [prodP, pB_len, quoP, amtP, qB_len, rootP, rB_len, onesP, oB_len, finP, cmpP, List.length_append, List.length_cons, List.length_nil]); (try split); all_goals (try simp only [List.length_cons, List.length_nil]); all_goals omega) (6, d, 8, 0, 0) ⟨rfl, rfl, rfl, rfl, rfl⟩ hl.1 (Nat.le_of_ble_eq_true rfl) d_M_translate_391 (fun μ H locs hH M => ?_)
    have hL : [] ++ onesP (r7 (Aa j)) ++ [(6, d, 8, 0, 0)] = progOf 16 d (r7 (Aa j)) (r7 (Bb j)) (r15 (Bb j)) (Aa j) := by
      simp [progOf]
    rw [hL] at hH M
    exact retV SF hlk hr μ hH M d_M_translate_394
end
section
/-! what the model computes -/
def wrapF (r : Int32) : Int32 := if r &&& 65535 ≤ 32767 then r &&& 65535 else (r &&& 65535) - 65536
def plainF (x : Int32) : Int32 := if 0 ≤ x then x else x + 65536
def downF (x d : Int32) : Int32 := if 0 < d then (if x / d * d ≤ x then x / d else x / d - 1) else 0
def quoF (x y : Int32) : Int32 := if y = 0 then 0 else x / y
def rtN : Nat → Nat → Nat → Nat
  | 0, r, _ => r
  | n + 1, r, k => if (r + 1) * (r + 1) ≤ k then rtN n (r + 1) k else r
def rootN (k : Nat) : Nat := rtN 256 0 k
def onesN : Nat → Nat → Nat
  | 0, _ => 0
  | n + 1, k => k % 2 + onesN n (k / 2)
def twoF (o : Nat) (x y : Int32) : Int32 :=
  if o = 2 then x + y else if o = 3 then x - y else if o = 4 then x * y else if o = 5 then downF (x * y) 65536 else if o = 6 then quoF x y else if o = 7 then x - y * quoF x y
  else if o = 8 then x &&& y else if o = 9 then x ||| y else if o = 10 then x ^^^ y else if o = 13 then (if y ≤ x then 0 else 1) else (if x = y then 1 else 0)
/-- the result of a line: o the operation, x and y its variables, a its first operand, b the places of a shift -/
def resF (o : Nat) (x y a : Int32) (b : Nat) : Int32 :=
  if o = 0 then a else if o = 1 then x else if o = 11 then x * nI (2 ^ b) else if o = 12 then downF x (nI (2 ^ b)) else if o = 15 then nI (rootN (plainF x).toNatClampNeg) else if o = 16 then nI (onesN 16 (plainF x).toNatClampNeg) else twoF o x y
/-- the next line -/
def lnN (o : Nat) (x b : Int32) (j : Nat) : Nat := if o = 17 then (if x = 0 then j + 1 + r7 b else j + 1) else if o = 18 then (if x = 0 then j + 1 else j - r31 b) else j + 1
/-- the variables behind a line -/
def lnV (o d : Nat) (V : Nat → Int32) (x y a b : Int32) : Nat → Int32 := if o = 17 ∨ o = 18 then V else upd V d (wrapF (resF o x y a (r15 b)))
def stF (O Dd Aa Bb : Nat → Int32) (q : Nat × (Nat → Int32)) : Nat × (Nat → Int32) :=
  (lnN (O q.1).toNatClampNeg (q.2 (r7 (Aa q.1))) (Bb q.1) q.1, lnV (O q.1).toNatClampNeg (Dd q.1).toNatClampNeg q.2 (q.2 (r7 (Aa q.1))) (q.2 (r7 (Bb q.1))) (Aa q.1) (Bb q.1))
def rnF (O Dd Aa Bb : Nat → Int32) (n : Nat) : Nat → Nat × (Nat → Int32) → Nat × (Nat × (Nat → Int32))
  | 0, q => (0, q)
  | k + 1, q => if q.1 < n then ((rnF O Dd Aa Bb n k (stF O Dd Aa Bb q)).1 + 1, (rnF O Dd Aa Bb n k (stF O Dd Aa Bb q)).2) else (0, q)
def limN (b : Int32) : Nat := if 0 ≤ b then (if b ≤ 60 then b.toNatClampNeg else 60) else 0
def rngV (V : Nat → Int32) : Prop := ∀ v, v < 8 → -32768 ≤ (V v).toInt ∧ (V v).toInt ≤ 32767
/-- the program's lines below n are such as emit writes -/
def okP (O Dd : Nat → Int32) (n : Nat) : Prop := ∀ j, j < n → (∃ o, o ≤ 18 ∧ O j = nI o) ∧ ∃ d, d < 8 ∧ Dd j = nI d
def totF (V : Nat → Int32) : Nat → Int32
  | 0 => 0
  | n + 1 => totF V n + plainF (V n)
theorem and_lo (r : Int32) : r &&& 65535 = nI (r.toBitVec.toNat % 65536) := pk_and r 16 rfl
theorem wrapF_rng (r : Int32) : -32768 ≤ (wrapF r).toInt ∧ (wrapF r).toInt ≤ 32767 := by
  unfold wrapF
  rw [and_lo]
  have h : r.toBitVec.toNat % 65536 < 65536 := Nat.mod_lt _ (by decide)
  generalize r.toBitVec.toNat % 65536 = k at h
  by_cases c : nI k ≤ 32767
  · rw [if_pos c, nI_toInt (by omega)]
    have c2 := (nI_leI (a := k) (b := 32767) (by omega) (by decide)).mp c
    omega
  · rw [if_neg c, show (65536 : Int32) = nI 65536 from rfl, pk_sub_toInt (by omega) (by decide)]
    have c2 : ¬ k ≤ 32767 := fun q => c ((nI_leI (a := k) (b := 32767) (by omega) (by decide)).mpr q)
    omega
theorem plainF_nat {x : Int32} (h1 : -32768 ≤ x.toInt) (h2 : x.toInt ≤ 32767) : ∃ k : Nat, k < 65536 ∧ plainF x = nI k ∧ x.toBitVec.toNat % 65536 = k := by
  have e : x.toInt = x.toBitVec.toInt := rfl
  have et := BitVec.toInt_eq_toNat_cond x.toBitVec
  have hl := x.toBitVec.isLt
  by_cases c : 0 ≤ x
  · have c2 : 0 ≤ x.toInt := Int32.le_iff_toInt_le.mp c
    refine ⟨x.toBitVec.toNat % 65536, Nat.mod_lt _ (by decide), ?_, rfl⟩
    unfold plainF
    rw [if_pos c]
    apply Int32.toInt_inj.mp
    rw [nI_toInt (by omega)]
    split at et <;> omega
  · have c2 : ¬ 0 ≤ x.toInt := fun q => c (Int32.le_iff_toInt_le.mpr q)
    refine ⟨x.toBitVec.toNat % 65536, Nat.mod_lt _ (by decide), ?_, rfl⟩
    unfold plainF
    rw [if_neg c]
    apply Int32.toInt_inj.mp
    rw [nI_toInt (by omega), Int32.toInt_add, show (65536 : Int32).toInt = 65536 from rfl, Int.bmod_eq_of_le (by omega) (by omega)]
    split at et <;> omega
theorem rngV_upd {V : Nat → Int32} (h : rngV V) (d : Nat) (r : Int32) : rngV (upd V d (wrapF r)) := by
  intro v hv
  by_cases c : v = d
  · subst c
    rw [pk_us]
    exact wrapF_rng r
  · rw [pk_un c]
    exact h v hv
end
section
set_option maxHeartbeats 4000000 in
set_option maxRecDepth 100000 in
theorem c_T_wrapped (l : Launch) (r : Int32)  : CtS l y_T_wrapped b_T_wrapped 2 (rmm 0 0) [.int r] (fun z => z = wrapF r) := by
  refine CtS.of R_T (by decide) rfl (Nat.le_of_ble_eq_true rfl) ?_
  intro p e s m args below meth c A ls SF hlk hr M hl
  have hx := SF.1
  have hb := SF.2.1
  have hl : lv_has ls 2 [(0, .int r)] := hl
  refine lv_iload_n hx hb d_T_wrapped_0 rfl (lv_at hl 0 rfl) ?_
  refine lv_ldc hx hb SF.2.2.2.1 (SF.2.2.2.2 _ kc_T_32) d_T_wrapped_1 ?_
  refine lv_iand hx hb d_T_wrapped_3 ?_
  refine lv_istore_n (lv' := [(1, .int (r &&& 65535)), (0, .int r)]) hx hb d_T_wrapped_4 rfl hl (by decide) rfl (fun ls hl => ?_)
  refine lv_iload_n hx hb d_T_wrapped_5 rfl (lv_at hl 0 rfl) ?_
  refine lv_sipush hx hb d_T_wrapped_6 ks_32767 ?_
  refine lv_icmp_le (tgt := 19) hx hb d_T_wrapped_9 (by decide) (fun c9 => ?_) (fun c9 => ?_)
  · refine lv_iload_n hx hb d_T_wrapped_19 rfl (lv_at hl 0 rfl) ?_
    exact retS SF hlk hr (by unfold wrapF; rw [if_pos c9]) M d_T_wrapped_20
  · refine lv_iload_n hx hb d_T_wrapped_12 rfl (lv_at hl 0 rfl) ?_
    refine lv_ldc hx hb SF.2.2.2.1 (SF.2.2.2.2 _ kc_T_33) d_T_wrapped_13 ?_
    refine lv_isub hx hb d_T_wrapped_15 ?_
    refine lv_goto (tgt := 20) hx hb d_T_wrapped_16 (by decide) ?_
    exact retS SF hlk hr (by unfold wrapF; rw [if_neg c9]) M d_T_wrapped_20
set_option maxHeartbeats 4000000 in
set_option maxRecDepth 100000 in
theorem c_T_plain (l : Launch) (x : Int32)  : CtS l y_T_plain b_T_plain 1 (rmm 0 0) [.int x] (fun z => z = plainF x) := by
  refine CtS.of R_T (by decide) rfl (Nat.le_of_ble_eq_true rfl) ?_
  intro p e s m args below meth c A ls SF hlk hr M hl
  have hx := SF.1
  have hb := SF.2.1
  have hl : lv_has ls 1 [(0, .int x)] := hl
  refine lv_iload_n hx hb d_T_plain_0 rfl (lv_at hl 0 rfl) ?_
  refine lv_if_ge (tgt := 11) hx hb d_T_plain_1 (by decide) (fun c9 => ?_) (fun c9 => ?_)
  · refine lv_iload_n hx hb d_T_plain_11 rfl (lv_at hl 0 rfl) ?_
    exact retS SF hlk hr (by unfold plainF; rw [if_pos c9]) M d_T_plain_12
  · refine lv_iload_n hx hb d_T_plain_4 rfl (lv_at hl 0 rfl) ?_
    refine lv_ldc hx hb SF.2.2.2.1 (SF.2.2.2.2 _ kc_T_33) d_T_plain_5 ?_
    refine lv_iadd hx hb d_T_plain_7 ?_
    refine lv_goto (tgt := 12) hx hb d_T_plain_8 (by decide) ?_
    exact retS SF hlk hr (by unfold plainF; rw [if_neg c9]) M d_T_plain_12
set_option maxHeartbeats 4000000 in
set_option maxRecDepth 100000 in
theorem c_T_down (l : Launch) (x d : Int32)  : CtS l y_T_down b_T_down 3 (rmm 0 0) [.int x, .int d] (fun z => z = downF x d) := by
  refine CtS.of R_T (by decide) rfl (Nat.le_of_ble_eq_true rfl) ?_
  intro p e s m args below meth c A ls SF hlk hr M hl
  have hx := SF.1
  have hb := SF.2.1
  have hl : lv_has ls 3 [(0, .int x), (1, .int d)] := hl
  refine lv_iload_n hx hb d_T_down_0 rfl (lv_at hl 1 rfl) ?_
  refine lv_if_gt (tgt := 6) hx hb d_T_down_1 (by decide) (fun c9 => ?_) (fun c9 => ?_)
  · have hd0 : ¬ d = 0 := fun q9 => by subst q9; exact absurd c9 (by decide)
    refine lv_iload_n hx hb d_T_down_6 rfl (lv_at hl 0 rfl) ?_
    refine lv_iload_n hx hb d_T_down_7 rfl (lv_at hl 1 rfl) ?_
    refine lv_idiv hx hb d_T_down_8 hd0 ?_
    refine lv_istore_n (lv' := [(2, .int (x / d)), (0, .int x), (1, .int d)]) hx hb d_T_down_9 rfl hl (by decide) rfl (fun ls hl => ?_)
    refine lv_iload_n hx hb d_T_down_10 rfl (lv_at hl 0 rfl) ?_
    refine lv_iload_n hx hb d_T_down_11 rfl (lv_at hl 2 rfl) ?_
    refine lv_imul hx hb d_T_down_12 ?_
    refine lv_iload_n hx hb d_T_down_13 rfl (lv_at hl 1 rfl) ?_
    refine lv_icmp_le (tgt := 23) hx hb d_T_down_14 (by decide) (fun c8 => ?_) (fun c8 => ?_)
    · refine lv_iload_n hx hb d_T_down_23 rfl (lv_at hl 0 rfl) ?_
      exact retS SF hlk hr (by unfold downF; rw [if_pos c9, if_pos c8]) M d_T_down_24
    · refine lv_iload_n hx hb d_T_down_17 rfl (lv_at hl 0 rfl) ?_
      refine lv_iconst hx hb d_T_down_18 ki_1 ?_
      refine lv_isub hx hb d_T_down_19 ?_
      refine lv_goto (tgt := 24) hx hb d_T_down_20 (by decide) ?_
      exact retS SF hlk hr (by unfold downF; rw [if_pos c9, if_neg c8]) M d_T_down_24
  · refine lv_iconst hx hb d_T_down_4 ki_0 ?_
    exact retS SF hlk hr (by unfold downF; rw [if_neg c9]) M d_T_down_5
set_option maxHeartbeats 4000000 in
set_option maxRecDepth 100000 in
theorem c_T_quotient (l : Launch) (x y : Int32)  : CtS l y_T_quotient b_T_quotient 2 (rmm 0 0) [.int x, .int y] (fun z => z = quoF x y) := by
  refine CtS.of R_T (by decide) rfl (Nat.le_of_ble_eq_true rfl) ?_
  intro p e s m args below meth c A ls SF hlk hr M hl
  have hx := SF.1
  have hb := SF.2.1
  have hl : lv_has ls 2 [(0, .int x), (1, .int y)] := hl
  refine lv_iload_n hx hb d_T_quotient_0 rfl (lv_at hl 1 rfl) ?_
  refine lv_if_ne (tgt := 8) hx hb d_T_quotient_1 (by decide) (fun c9 => ?_) (fun c9 => ?_)
  · refine lv_iload_n hx hb d_T_quotient_8 rfl (lv_at hl 0 rfl) ?_
    refine lv_iload_n hx hb d_T_quotient_9 rfl (lv_at hl 1 rfl) ?_
    refine lv_idiv hx hb d_T_quotient_10 c9 ?_
    exact retS SF hlk hr (by unfold quoF; rw [if_neg c9]) M d_T_quotient_11
  · refine lv_iconst hx hb d_T_quotient_4 ki_0 ?_
    refine lv_goto (tgt := 11) hx hb d_T_quotient_5 (by decide) ?_
    exact retS SF hlk hr (by unfold quoF; rw [if_pos c9]) M d_T_quotient_11
section ModelLoops
variable {p : Program} {l : Launch} {e : Env} {R : Room} {s : State} {m : MethodId} {args : Array Value} {below : List Frame} {meth : Method} {c : Code} {cells slots : Nat} {Q : State → Prop}
variable {D : va_G} {A : Nat → Prop} {h : Nat → Nat} {cs : Nat → ClassId}
set_option maxHeartbeats 4000000 in
set_option maxRecDepth 100000 in
theorem lp_power (SF : CallFix p m c b_T_power 3 s args mt_tbl R_T) {k : Nat} (hk : k < 16) {H : Heap} {locs : List Loc} (kx : ∀ (ls : Array Slot), lv_has ls 3 [(0, .int (nI k)), (1, .int (nI (2 ^ k))), (2, .int (nI k))] → W p l e R s m args below meth c H locs cells slots Q (F0 m 25 ls [])) : ∀ (n i : Nat), i + n = k → ∀ (ls : Array Slot), lv_has ls 3 [(0, .int (nI k)), (1, .int (nI (2 ^ i))), (2, .int (nI i))] → W p l e R s m args below meth c H locs cells slots Q (F0 m 4 ls []) := by
  have hx := SF.1
  have hb := SF.2.1
  intro n
  induction n with
  | zero =>
    intro i hi ls hl
    obtain rfl : i = k := by omega
    refine lv_iload_n hx hb d_T_power_4 rfl (lv_at hl 2 rfl) ?_
    refine lv_iload_n hx hb d_T_power_5 rfl (lv_at hl 0 rfl) ?_
    refine lv_icmp_ge (tgt := 25) hx hb d_T_power_6 (by decide) (fun _ => ?_) (fun c9 => absurd (nI_le (Nat.le_refl i) (by omega) : nI i ≤ nI i) c9)
    exact kx ls hl
  | succ n ih =>
    intro i hi ls hl
    refine lv_iload_n hx hb d_T_power_4 rfl (lv_at hl 2 rfl) ?_
    refine lv_iload_n hx hb d_T_power_5 rfl (lv_at hl 0 rfl) ?_
    refine lv_icmp_ge (tgt := 25) hx hb d_T_power_6 (by decide) (fun c9 => absurd c9 (nI_ge (by omega) (by omega) : ¬ nI k ≤ nI i)) (fun _ => ?_)
    refine lv_iload_n hx hb d_T_power_9 rfl (lv_at hl 2 rfl) ?_
    refine lv_bipush hx hb d_T_power_10 kb_15 ?_
    refine lv_icmp_ge (tgt := 25) hx hb d_T_power_12 (by decide) (fun c9 => absurd c9 (nI_ge (by omega) (by decide) : ¬ nI 15 ≤ nI i)) (fun _ => ?_)
    refine lv_iload_n hx hb d_T_power_15 rfl (lv_at hl 1 rfl) ?_
    refine lv_iconst hx hb d_T_power_16 ki_2 ?_
    refine lv_imul hx hb d_T_power_17 ?_
    rw [show nI (2 ^ i) * 2 = nI (2 ^ (i + 1)) by rw [show (2 : Int32) = nI 2 from rfl, pk_mul, Nat.pow_succ]]
    refine lv_istore_n (lv' := [(1, .int (nI (2 ^ (i + 1)))), (0, .int (nI k)), (2, .int (nI i))]) hx hb d_T_power_18 rfl hl (by decide) rfl (fun ls hl => ?_)
    refine lv_iinc (v := nI (i + 1)) (lv' := [(2, .int (nI (i + 1))), (1, .int (nI (2 ^ (i + 1)))), (0, .int (nI k))]) hx hb d_T_power_19 hl (k := 2) rfl (nI_1 _) (by decide) rfl (fun ls hl => ?_)
    refine lv_goto (tgt := 4) hx hb d_T_power_22 (by decide) ?_
    exact ih (i + 1) (by omega) ls (lv_sub hl [2, 1, 0] rfl)
set_option maxHeartbeats 4000000 in
set_option maxRecDepth 100000 in
theorem lp_Troot (SF : CallFix p m c b_T_root 2 s args mt_tbl R_T) {k rr : Nat} (hk : k < 65536) {H : Heap} {locs : List Loc} (kx : ∀ (ls : Array Slot), lv_has ls 2 [(0, .int (nI k)), (1, .int (nI rr))] → W p l e R s m args below meth c H locs cells slots Q (F0 m 26 ls [])) : ∀ (n r : Nat), r + n = 256 → rtN n r k = rr → ∀ (ls : Array Slot), lv_has ls 2 [(0, .int (nI k)), (1, .int (nI r))] → W p l e R s m args below meth c H locs cells slots Q (F0 m 2 ls []) := by
  have hx := SF.1
  have hb := SF.2.1
  intro n
  induction n with
  | zero =>
    intro r hi hrr ls hl
    obtain rfl : r = 256 := by omega
    rw [rtN] at hrr
    subst hrr
    refine lv_iload_n hx hb d_T_root_2 rfl (lv_at hl 1 rfl) ?_
    refine lv_sipush hx hb d_T_root_3 ks_256 ?_
    refine lv_icmp_ge (tgt := 26) hx hb d_T_root_6 (by decide) (fun _ => ?_) (fun c9 => absurd (nI_le (Nat.le_refl 256) (by decide) : nI 256 ≤ nI 256) c9)
    exact kx ls hl
  | succ n ih =>
    intro r hi hrr ls hl
    have hsq : (r + 1) * (r + 1) ≤ 256 * 256 := Nat.mul_le_mul (by omega) (by omega)
    refine lv_iload_n hx hb d_T_root_2 rfl (lv_at hl 1 rfl) ?_
    refine lv_sipush hx hb d_T_root_3 ks_256 ?_
    refine lv_icmp_ge (tgt := 26) hx hb d_T_root_6 (by decide) (fun c9 => absurd c9 (nI_ge (by omega) (by decide) : ¬ nI 256 ≤ nI r)) (fun _ => ?_)
    refine lv_iload_n hx hb d_T_root_9 rfl (lv_at hl 1 rfl) ?_
    refine lv_iconst hx hb d_T_root_10 ki_1 ?_
    refine lv_iadd hx hb d_T_root_11 ?_
    refine lv_iload_n hx hb d_T_root_12 rfl (lv_at hl 1 rfl) ?_
    refine lv_iconst hx hb d_T_root_13 ki_1 ?_
    refine lv_iadd hx hb d_T_root_14 ?_
    refine lv_imul hx hb d_T_root_15 ?_
    refine lv_iload_n hx hb d_T_root_16 rfl (lv_at hl 0 rfl) ?_
    rw [show (nI r + 1) * (nI r + 1) = nI ((r + 1) * (r + 1)) by rw [nI_1, pk_mul]]
    refine lv_icmp_gt (tgt := 26) hx hb d_T_root_17 (by decide) (fun c9 => ?_) (fun c9 => ?_)
    · have q9 : ¬ (r + 1) * (r + 1) ≤ k := Nat.not_le.mpr ((nI_ltI (by omega) (by omega)).mp c9)
      rw [rtN, if_neg q9] at hrr
      subst hrr
      exact kx ls hl
    · have q9 : (r + 1) * (r + 1) ≤ k := Nat.not_lt.mp (fun q8 => c9 ((nI_ltI (by omega) (by omega)).mpr q8))
      rw [rtN, if_pos q9] at hrr
      refine lv_iinc (v := nI (r + 1)) (lv' := [(1, .int (nI (r + 1))), (0, .int (nI k))]) hx hb d_T_root_20 hl (k := 1) rfl (nI_1 _) (by decide) rfl (fun ls hl => ?_)
      refine lv_goto (tgt := 2) hx hb d_T_root_23 (by decide) ?_
      exact ih (r + 1) (by omega) hrr ls (lv_sub hl [1, 0] rfl)
set_option maxHeartbeats 4000000 in
set_option maxRecDepth 100000 in
theorem lp_Tones (SF : CallFix p m c b_T_ones 4 s args mt_tbl R_T) {x0 : Int32} {rr : Nat} {H : Heap} {locs : List Loc} (kx : ∀ (ls : Array Slot) (q : Nat), lv_has ls 4 [(0, .int x0), (1, .int (nI rr)), (2, .int (nI q)), (3, .int (nI 16))] → W p l e R s m args below meth c H locs cells slots Q (F0 m 28 ls [])) : ∀ (n i cn q : Nat), i + n = 16 → q < 65536 → cn + onesN n q = rr → ∀ (ls : Array Slot), lv_has ls 4 [(0, .int x0), (1, .int (nI cn)), (2, .int (nI q)), (3, .int (nI i))] → W p l e R s m args below meth c H locs cells slots Q (F0 m 6 ls []) := by
  have hx := SF.1
  have hb := SF.2.1
  intro n
  induction n with
  | zero =>
    intro i cn q hi hq hrr ls hl
    obtain rfl : i = 16 := by omega
    rw [onesN, Nat.add_zero] at hrr
    subst hrr
    refine lv_iload_n hx hb d_T_ones_6 rfl (lv_at hl 3 rfl) ?_
    refine lv_bipush hx hb d_T_ones_7 kb_16 ?_
    refine lv_icmp_ge (tgt := 28) hx hb d_T_ones_9 (by decide) (fun _ => ?_) (fun c9 => absurd (nI_le (Nat.le_refl 16) (by decide) : nI 16 ≤ nI 16) c9)
    exact kx ls q hl
  | succ n ih =>
    intro i cn q hi hq hrr ls hl
    refine lv_iload_n hx hb d_T_ones_6 rfl (lv_at hl 3 rfl) ?_
    refine lv_bipush hx hb d_T_ones_7 kb_16 ?_
    refine lv_icmp_ge (tgt := 28) hx hb d_T_ones_9 (by decide) (fun c9 => absurd c9 (nI_ge (by omega) (by decide) : ¬ nI 16 ≤ nI i)) (fun _ => ?_)
    refine lv_iload_n hx hb d_T_ones_12 rfl (lv_at hl 1 rfl) ?_
    refine lv_iload_n hx hb d_T_ones_13 rfl (lv_at hl 2 rfl) ?_
    refine lv_iconst hx hb d_T_ones_14 ki_2 ?_
    refine lv_irem hx hb d_T_ones_15 (by decide) ?_
    rw [show nI q - nI q / 2 * 2 = nI (q % 2) from pk_rem (d := 2) (by omega) (by decide) (by decide)]
    refine lv_iadd hx hb d_T_ones_16 ?_
    rw [nI_add]
    refine lv_istore_n (lv' := [(1, .int (nI (cn + q % 2))), (0, .int x0), (2, .int (nI q)), (3, .int (nI i))]) hx hb d_T_ones_17 rfl hl (by decide) rfl (fun ls hl => ?_)
    refine lv_iload_n hx hb d_T_ones_18 rfl (lv_at hl 2 rfl) ?_
    refine lv_iconst hx hb d_T_ones_19 ki_2 ?_
    refine lv_idiv hx hb d_T_ones_20 (by decide) ?_
    rw [show nI q / 2 = nI (q / 2) from pk_div (d := 2) (by omega) (by decide) (by decide)]
    refine lv_istore_n (lv' := [(2, .int (nI (q / 2))), (1, .int (nI (cn + q % 2))), (0, .int x0), (3, .int (nI i))]) hx hb d_T_ones_21 rfl hl (by decide) rfl (fun ls hl => ?_)
    refine lv_iinc (v := nI (i + 1)) (lv' := [(3, .int (nI (i + 1))), (2, .int (nI (q / 2))), (1, .int (nI (cn + q % 2))), (0, .int x0)]) hx hb d_T_ones_22 hl (k := 3) rfl (nI_1 _) (by decide) rfl (fun ls hl => ?_)
    refine lv_goto (tgt := 6) hx hb d_T_ones_25 (by decide) ?_
    exact ih (i + 1) (cn + q % 2) (q / 2) (by omega) (by omega) (by rw [← hrr, onesN, Nat.add_assoc]) ls (lv_sub hl [3, 2, 1, 0] rfl)
end ModelLoops
set_option maxHeartbeats 4000000 in
set_option maxRecDepth 100000 in
theorem c_T_power (l : Launch) (k : Nat) (hk : k < 16) : CtS l y_T_power b_T_power 3 (rmm 0 0) [.int (nI k)] (fun z => z = nI (2 ^ k)) := by
  refine CtS.of R_T (by decide) rfl (Nat.le_of_ble_eq_true rfl) ?_
  intro p e s m args below meth c A ls SF hlk hr M hl
  have hx := SF.1
  have hb := SF.2.1
  have hl : lv_has ls 3 [(0, .int (nI k))] := hl
  refine lv_iconst hx hb d_T_power_0 ki_1 ?_
  refine lv_istore_n (lv' := [(1, .int 1), (0, .int (nI k))]) hx hb d_T_power_1 rfl hl (by decide) rfl (fun ls hl => ?_)
  refine lv_iconst hx hb d_T_power_2 ki_0 ?_
  refine lv_istore_n (lv' := [(2, .int 0), (1, .int 1), (0, .int (nI k))]) hx hb d_T_power_3 rfl hl (by decide) rfl (fun ls hl => ?_)
  refine lp_power (k := k) SF hk (fun ls hl => ?_) k 0 (by omega) ls (lv_sub hl [2, 1, 0] rfl)
  refine lv_iload_n hx hb d_T_power_25 rfl (lv_at hl 1 rfl) ?_
  exact retS SF hlk hr (rfl) M d_T_power_26
set_option maxHeartbeats 4000000 in
set_option maxRecDepth 100000 in
theorem c_T_root (l : Launch) (k : Nat) (hk : k < 65536) : CtS l y_T_root b_T_root 2 (rmm 0 0) [.int (nI k)] (fun z => z = nI (rootN k)) := by
  refine CtS.of R_T (by decide) rfl (Nat.le_of_ble_eq_true rfl) ?_
  intro p e s m args below meth c A ls SF hlk hr M hl
  have hx := SF.1
  have hb := SF.2.1
  have hl : lv_has ls 2 [(0, .int (nI k))] := hl
  refine lv_iconst hx hb d_T_root_0 ki_0 ?_
  refine lv_istore_n (lv' := [(1, .int 0), (0, .int (nI k))]) hx hb d_T_root_1 rfl hl (by decide) rfl (fun ls hl => ?_)
  refine lp_Troot (k := k) (rr := rootN k) SF hk (fun ls hl => ?_) 256 0 rfl rfl ls (lv_sub hl [1, 0] rfl)
  refine lv_iload_n hx hb d_T_root_26 rfl (lv_at hl 1 rfl) ?_
  exact retS SF hlk hr (rfl) M d_T_root_27
set_option maxHeartbeats 4000000 in
set_option maxRecDepth 100000 in
theorem c_T_ones (l : Launch) (k : Nat) (hk : k < 65536) : CtS l y_T_ones b_T_ones 4 (rmm 0 0) [.int (nI k)] (fun z => z = nI (onesN 16 k)) := by
  refine CtS.of R_T (by decide) rfl (Nat.le_of_ble_eq_true rfl) ?_
  intro p e s m args below meth c A ls SF hlk hr M hl
  have hx := SF.1
  have hb := SF.2.1
  have hl : lv_has ls 4 [(0, .int (nI k))] := hl
  refine lv_iconst hx hb d_T_ones_0 ki_0 ?_
  refine lv_istore_n (lv' := [(1, .int 0), (0, .int (nI k))]) hx hb d_T_ones_1 rfl hl (by decide) rfl (fun ls hl => ?_)
  refine lv_iload_n hx hb d_T_ones_2 rfl (lv_at hl 1 rfl) ?_
  refine lv_istore_n (lv' := [(2, .int (nI k)), (1, .int 0), (0, .int (nI k))]) hx hb d_T_ones_3 rfl hl (by decide) rfl (fun ls hl => ?_)
  refine lv_iconst hx hb d_T_ones_4 ki_0 ?_
  refine lv_istore_n (lv' := [(3, .int 0), (2, .int (nI k)), (1, .int 0), (0, .int (nI k))]) hx hb d_T_ones_5 rfl hl (by decide) rfl (fun ls hl => ?_)
  refine lp_Tones (rr := onesN 16 k) SF (fun ls q hl => ?_) 16 0 0 k rfl hk (by omega) ls (lv_sub hl [3, 2, 1, 0] rfl)
  refine lv_iload_n hx hb d_T_ones_28 rfl (lv_at hl 1 rfl) ?_
  exact retS SF hlk hr (rfl) M d_T_ones_29
set_option maxHeartbeats 4000000 in
set_option maxRecDepth 100000 in
theorem c_T_two (l : Launch) (o : Nat) (x y : Int32) (ho : o ≤ 16) : CtS l y_T_two b_T_two 3 (rmm 1 22) [.int (nI o), .int x, .int y] (fun z => z = twoF o x y) := by
  refine CtS.of R_T (by decide) rfl (Nat.le_of_ble_eq_true rfl) ?_
  intro p e s m args below meth c A ls SF hlk hr M hl
  have hx := SF.1
  have hb := SF.2.1
  have hl : lv_has ls 3 [(0, .int (nI o)), (1, .int x), (2, .int y)] := hl
  have key : o = 0 ∨ o = 1 ∨ o = 2 ∨ o = 3 ∨ o = 4 ∨ o = 5 ∨ o = 6 ∨ o = 7 ∨ o = 8 ∨ o = 9 ∨ o = 10 ∨ o = 11 ∨ o = 12 ∨ o = 13 ∨ o = 14 ∨ o = 15 ∨ o = 16 := by omega
  rcases key with rfl | rfl | rfl | rfl | rfl | rfl | rfl | rfl | rfl | rfl | rfl | rfl | rfl | rfl | rfl | rfl | rfl
  · refine lv_iload_n hx hb d_T_two_0 rfl (lv_at hl 0 rfl) ?_
    refine lv_iconst hx hb d_T_two_1 ki_2 ?_
    refine lv_icmp_ne (tgt := 9) hx hb d_T_two_2 (by decide) (fun _ => ?_) (fun c9 => absurd c9 (by decide : ¬ (nI 0) = 2))
    refine lv_iload_n hx hb d_T_two_9 rfl (lv_at hl 0 rfl) ?_
    refine lv_iconst hx hb d_T_two_10 ki_3 ?_
    refine lv_icmp_ne (tgt := 18) hx hb d_T_two_11 (by decide) (fun _ => ?_) (fun c9 => absurd c9 (by decide : ¬ (nI 0) = 3))
    refine lv_iload_n hx hb d_T_two_18 rfl (lv_at hl 0 rfl) ?_
    refine lv_iconst hx hb d_T_two_19 ki_4 ?_
    refine lv_icmp_ne (tgt := 27) hx hb d_T_two_20 (by decide) (fun _ => ?_) (fun c9 => absurd c9 (by decide : ¬ (nI 0) = 4))
    refine lv_iload_n hx hb d_T_two_27 rfl (lv_at hl 0 rfl) ?_
    refine lv_iconst hx hb d_T_two_28 ki_5 ?_
    refine lv_icmp_ne (tgt := 41) hx hb d_T_two_29 (by decide) (fun _ => ?_) (fun c9 => absurd c9 (by decide : ¬ (nI 0) = 5))
    refine lv_iload_n hx hb d_T_two_41 rfl (lv_at hl 0 rfl) ?_
    refine lv_bipush hx hb d_T_two_42 kb_6 ?_
    refine lv_icmp_ne (tgt := 53) hx hb d_T_two_44 (by decide) (fun _ => ?_) (fun c9 => absurd c9 (by decide : ¬ (nI 0) = 6))
    refine lv_iload_n hx hb d_T_two_53 rfl (lv_at hl 0 rfl) ?_
    refine lv_bipush hx hb d_T_two_54 kb_7 ?_
    refine lv_icmp_ne (tgt := 69) hx hb d_T_two_56 (by decide) (fun _ => ?_) (fun c9 => absurd c9 (by decide : ¬ (nI 0) = 7))
    refine lv_iload_n hx hb d_T_two_69 rfl (lv_at hl 0 rfl) ?_
    refine lv_bipush hx hb d_T_two_70 kb_8 ?_
    refine lv_icmp_ne (tgt := 79) hx hb d_T_two_72 (by decide) (fun _ => ?_) (fun c9 => absurd c9 (by decide : ¬ (nI 0) = 8))
    refine lv_iload_n hx hb d_T_two_79 rfl (lv_at hl 0 rfl) ?_
    refine lv_bipush hx hb d_T_two_80 kb_9 ?_
    refine lv_icmp_ne (tgt := 89) hx hb d_T_two_82 (by decide) (fun _ => ?_) (fun c9 => absurd c9 (by decide : ¬ (nI 0) = 9))
    refine lv_iload_n hx hb d_T_two_89 rfl (lv_at hl 0 rfl) ?_
    refine lv_bipush hx hb d_T_two_90 kb_10 ?_
    refine lv_icmp_ne (tgt := 99) hx hb d_T_two_92 (by decide) (fun _ => ?_) (fun c9 => absurd c9 (by decide : ¬ (nI 0) = 10))
    refine lv_iload_n hx hb d_T_two_99 rfl (lv_at hl 0 rfl) ?_
    refine lv_bipush hx hb d_T_two_100 kb_13 ?_
    refine lv_icmp_ne (tgt := 116) hx hb d_T_two_102 (by decide) (fun _ => ?_) (fun c9 => absurd c9 (by decide : ¬ (nI 0) = 13))
    refine lv_iload_n hx hb d_T_two_116 rfl (lv_at hl 1 rfl) ?_
    refine lv_iload_n hx hb d_T_two_117 rfl (lv_at hl 2 rfl) ?_
    refine lv_icmp_ne (tgt := 125) hx hb d_T_two_118 (by decide) (fun c9 => ?_) (fun c9 => ?_)
    · refine lv_iconst hx hb d_T_two_125 ki_0 ?_
      exact retS SF hlk hr (by unfold twoF; simp [c9]) M d_T_two_126
    · refine lv_iconst hx hb d_T_two_121 ki_1 ?_
      refine lv_goto (tgt := 126) hx hb d_T_two_122 (by decide) ?_
      exact retS SF hlk hr (by unfold twoF; simp [c9]) M d_T_two_126
  · refine lv_iload_n hx hb d_T_two_0 rfl (lv_at hl 0 rfl) ?_
    refine lv_iconst hx hb d_T_two_1 ki_2 ?_
    refine lv_icmp_ne (tgt := 9) hx hb d_T_two_2 (by decide) (fun _ => ?_) (fun c9 => absurd c9 (by decide : ¬ (nI 1) = 2))
    refine lv_iload_n hx hb d_T_two_9 rfl (lv_at hl 0 rfl) ?_
    refine lv_iconst hx hb d_T_two_10 ki_3 ?_
    refine lv_icmp_ne (tgt := 18) hx hb d_T_two_11 (by decide) (fun _ => ?_) (fun c9 => absurd c9 (by decide : ¬ (nI 1) = 3))
    refine lv_iload_n hx hb d_T_two_18 rfl (lv_at hl 0 rfl) ?_
    refine lv_iconst hx hb d_T_two_19 ki_4 ?_
    refine lv_icmp_ne (tgt := 27) hx hb d_T_two_20 (by decide) (fun _ => ?_) (fun c9 => absurd c9 (by decide : ¬ (nI 1) = 4))
    refine lv_iload_n hx hb d_T_two_27 rfl (lv_at hl 0 rfl) ?_
    refine lv_iconst hx hb d_T_two_28 ki_5 ?_
    refine lv_icmp_ne (tgt := 41) hx hb d_T_two_29 (by decide) (fun _ => ?_) (fun c9 => absurd c9 (by decide : ¬ (nI 1) = 5))
    refine lv_iload_n hx hb d_T_two_41 rfl (lv_at hl 0 rfl) ?_
    refine lv_bipush hx hb d_T_two_42 kb_6 ?_
    refine lv_icmp_ne (tgt := 53) hx hb d_T_two_44 (by decide) (fun _ => ?_) (fun c9 => absurd c9 (by decide : ¬ (nI 1) = 6))
    refine lv_iload_n hx hb d_T_two_53 rfl (lv_at hl 0 rfl) ?_
    refine lv_bipush hx hb d_T_two_54 kb_7 ?_
    refine lv_icmp_ne (tgt := 69) hx hb d_T_two_56 (by decide) (fun _ => ?_) (fun c9 => absurd c9 (by decide : ¬ (nI 1) = 7))
    refine lv_iload_n hx hb d_T_two_69 rfl (lv_at hl 0 rfl) ?_
    refine lv_bipush hx hb d_T_two_70 kb_8 ?_
    refine lv_icmp_ne (tgt := 79) hx hb d_T_two_72 (by decide) (fun _ => ?_) (fun c9 => absurd c9 (by decide : ¬ (nI 1) = 8))
    refine lv_iload_n hx hb d_T_two_79 rfl (lv_at hl 0 rfl) ?_
    refine lv_bipush hx hb d_T_two_80 kb_9 ?_
    refine lv_icmp_ne (tgt := 89) hx hb d_T_two_82 (by decide) (fun _ => ?_) (fun c9 => absurd c9 (by decide : ¬ (nI 1) = 9))
    refine lv_iload_n hx hb d_T_two_89 rfl (lv_at hl 0 rfl) ?_
    refine lv_bipush hx hb d_T_two_90 kb_10 ?_
    refine lv_icmp_ne (tgt := 99) hx hb d_T_two_92 (by decide) (fun _ => ?_) (fun c9 => absurd c9 (by decide : ¬ (nI 1) = 10))
    refine lv_iload_n hx hb d_T_two_99 rfl (lv_at hl 0 rfl) ?_
    refine lv_bipush hx hb d_T_two_100 kb_13 ?_
    refine lv_icmp_ne (tgt := 116) hx hb d_T_two_102 (by decide) (fun _ => ?_) (fun c9 => absurd c9 (by decide : ¬ (nI 1) = 13))
    refine lv_iload_n hx hb d_T_two_116 rfl (lv_at hl 1 rfl) ?_
    refine lv_iload_n hx hb d_T_two_117 rfl (lv_at hl 2 rfl) ?_
    refine lv_icmp_ne (tgt := 125) hx hb d_T_two_118 (by decide) (fun c9 => ?_) (fun c9 => ?_)
    · refine lv_iconst hx hb d_T_two_125 ki_0 ?_
      exact retS SF hlk hr (by unfold twoF; simp [c9]) M d_T_two_126
    · refine lv_iconst hx hb d_T_two_121 ki_1 ?_
      refine lv_goto (tgt := 126) hx hb d_T_two_122 (by decide) ?_
      exact retS SF hlk hr (by unfold twoF; simp [c9]) M d_T_two_126
  · refine lv_iload_n hx hb d_T_two_0 rfl (lv_at hl 0 rfl) ?_
    refine lv_iconst hx hb d_T_two_1 ki_2 ?_
    refine lv_icmp_ne (tgt := 9) hx hb d_T_two_2 (by decide) (fun c9 => absurd (by decide : (nI 2) = 2) c9) (fun _ => ?_)
    refine lv_iload_n hx hb d_T_two_5 rfl (lv_at hl 1 rfl) ?_
    refine lv_iload_n hx hb d_T_two_6 rfl (lv_at hl 2 rfl) ?_
    refine lv_iadd hx hb d_T_two_7 ?_
    exact retS SF hlk hr (rfl) M d_T_two_8
  · refine lv_iload_n hx hb d_T_two_0 rfl (lv_at hl 0 rfl) ?_
    refine lv_iconst hx hb d_T_two_1 ki_2 ?_
    refine lv_icmp_ne (tgt := 9) hx hb d_T_two_2 (by decide) (fun _ => ?_) (fun c9 => absurd c9 (by decide : ¬ (nI 3) = 2))
    refine lv_iload_n hx hb d_T_two_9 rfl (lv_at hl 0 rfl) ?_
    refine lv_iconst hx hb d_T_two_10 ki_3 ?_
    refine lv_icmp_ne (tgt := 18) hx hb d_T_two_11 (by decide) (fun c9 => absurd (by decide : (nI 3) = 3) c9) (fun _ => ?_)
    refine lv_iload_n hx hb d_T_two_14 rfl (lv_at hl 1 rfl) ?_
    refine lv_iload_n hx hb d_T_two_15 rfl (lv_at hl 2 rfl) ?_
    refine lv_isub hx hb d_T_two_16 ?_
    exact retS SF hlk hr (rfl) M d_T_two_17
  · refine lv_iload_n hx hb d_T_two_0 rfl (lv_at hl 0 rfl) ?_
    refine lv_iconst hx hb d_T_two_1 ki_2 ?_
    refine lv_icmp_ne (tgt := 9) hx hb d_T_two_2 (by decide) (fun _ => ?_) (fun c9 => absurd c9 (by decide : ¬ (nI 4) = 2))
    refine lv_iload_n hx hb d_T_two_9 rfl (lv_at hl 0 rfl) ?_
    refine lv_iconst hx hb d_T_two_10 ki_3 ?_
    refine lv_icmp_ne (tgt := 18) hx hb d_T_two_11 (by decide) (fun _ => ?_) (fun c9 => absurd c9 (by decide : ¬ (nI 4) = 3))
    refine lv_iload_n hx hb d_T_two_18 rfl (lv_at hl 0 rfl) ?_
    refine lv_iconst hx hb d_T_two_19 ki_4 ?_
    refine lv_icmp_ne (tgt := 27) hx hb d_T_two_20 (by decide) (fun c9 => absurd (by decide : (nI 4) = 4) c9) (fun _ => ?_)
    refine lv_iload_n hx hb d_T_two_23 rfl (lv_at hl 1 rfl) ?_
    refine lv_iload_n hx hb d_T_two_24 rfl (lv_at hl 2 rfl) ?_
    refine lv_imul hx hb d_T_two_25 ?_
    exact retS SF hlk hr (rfl) M d_T_two_26
  · refine lv_iload_n hx hb d_T_two_0 rfl (lv_at hl 0 rfl) ?_
    refine lv_iconst hx hb d_T_two_1 ki_2 ?_
    refine lv_icmp_ne (tgt := 9) hx hb d_T_two_2 (by decide) (fun _ => ?_) (fun c9 => absurd c9 (by decide : ¬ (nI 5) = 2))
    refine lv_iload_n hx hb d_T_two_9 rfl (lv_at hl 0 rfl) ?_
    refine lv_iconst hx hb d_T_two_10 ki_3 ?_
    refine lv_icmp_ne (tgt := 18) hx hb d_T_two_11 (by decide) (fun _ => ?_) (fun c9 => absurd c9 (by decide : ¬ (nI 5) = 3))
    refine lv_iload_n hx hb d_T_two_18 rfl (lv_at hl 0 rfl) ?_
    refine lv_iconst hx hb d_T_two_19 ki_4 ?_
    refine lv_icmp_ne (tgt := 27) hx hb d_T_two_20 (by decide) (fun _ => ?_) (fun c9 => absurd c9 (by decide : ¬ (nI 5) = 4))
    refine lv_iload_n hx hb d_T_two_27 rfl (lv_at hl 0 rfl) ?_
    refine lv_iconst hx hb d_T_two_28 ki_5 ?_
    refine lv_icmp_ne (tgt := 41) hx hb d_T_two_29 (by decide) (fun c9 => absurd (by decide : (nI 5) = 5) c9) (fun _ => ?_)
    refine lv_iload_n hx hb d_T_two_32 rfl (lv_at hl 1 rfl) ?_
    refine lv_iload_n hx hb d_T_two_33 rfl (lv_at hl 2 rfl) ?_
    refine lv_imul hx hb d_T_two_34 ?_
    refine lv_ldc hx hb SF.2.2.2.1 (SF.2.2.2.2 _ kc_T_33) d_T_two_35 ?_
    refine ccSS SF M (c_T_down l (x * y) 65536) g_T_38 hd_T_down ⟨Nat.le_of_ble_eq_true rfl, Nat.le_of_ble_eq_true rfl⟩ hl.1 rfl (Nat.le_of_ble_eq_true rfl) d_T_two_37 ⟨Nat.zero_le _, Nat.zero_le _⟩ (fun r H locs hu M => ?_)
    subst hu
    exact retS SF hlk hr (rfl) M d_T_two_40
  · refine lv_iload_n hx hb d_T_two_0 rfl (lv_at hl 0 rfl) ?_
    refine lv_iconst hx hb d_T_two_1 ki_2 ?_
    refine lv_icmp_ne (tgt := 9) hx hb d_T_two_2 (by decide) (fun _ => ?_) (fun c9 => absurd c9 (by decide : ¬ (nI 6) = 2))
    refine lv_iload_n hx hb d_T_two_9 rfl (lv_at hl 0 rfl) ?_
    refine lv_iconst hx hb d_T_two_10 ki_3 ?_
    refine lv_icmp_ne (tgt := 18) hx hb d_T_two_11 (by decide) (fun _ => ?_) (fun c9 => absurd c9 (by decide : ¬ (nI 6) = 3))
    refine lv_iload_n hx hb d_T_two_18 rfl (lv_at hl 0 rfl) ?_
    refine lv_iconst hx hb d_T_two_19 ki_4 ?_
    refine lv_icmp_ne (tgt := 27) hx hb d_T_two_20 (by decide) (fun _ => ?_) (fun c9 => absurd c9 (by decide : ¬ (nI 6) = 4))
    refine lv_iload_n hx hb d_T_two_27 rfl (lv_at hl 0 rfl) ?_
    refine lv_iconst hx hb d_T_two_28 ki_5 ?_
    refine lv_icmp_ne (tgt := 41) hx hb d_T_two_29 (by decide) (fun _ => ?_) (fun c9 => absurd c9 (by decide : ¬ (nI 6) = 5))
    refine lv_iload_n hx hb d_T_two_41 rfl (lv_at hl 0 rfl) ?_
    refine lv_bipush hx hb d_T_two_42 kb_6 ?_
    refine lv_icmp_ne (tgt := 53) hx hb d_T_two_44 (by decide) (fun c9 => absurd (by decide : (nI 6) = 6) c9) (fun _ => ?_)
    refine lv_iload_n hx hb d_T_two_47 rfl (lv_at hl 1 rfl) ?_
    refine lv_iload_n hx hb d_T_two_48 rfl (lv_at hl 2 rfl) ?_
    refine ccSS SF M (c_T_quotient l x y) g_T_42 hd_T_quotient ⟨Nat.le_of_ble_eq_true rfl, Nat.le_of_ble_eq_true rfl⟩ hl.1 rfl (Nat.le_of_ble_eq_true rfl) d_T_two_49 ⟨Nat.zero_le _, Nat.zero_le _⟩ (fun r H locs hu M => ?_)
    subst hu
    exact retS SF hlk hr (rfl) M d_T_two_52
  · refine lv_iload_n hx hb d_T_two_0 rfl (lv_at hl 0 rfl) ?_
    refine lv_iconst hx hb d_T_two_1 ki_2 ?_
    refine lv_icmp_ne (tgt := 9) hx hb d_T_two_2 (by decide) (fun _ => ?_) (fun c9 => absurd c9 (by decide : ¬ (nI 7) = 2))
    refine lv_iload_n hx hb d_T_two_9 rfl (lv_at hl 0 rfl) ?_
    refine lv_iconst hx hb d_T_two_10 ki_3 ?_
    refine lv_icmp_ne (tgt := 18) hx hb d_T_two_11 (by decide) (fun _ => ?_) (fun c9 => absurd c9 (by decide : ¬ (nI 7) = 3))
    refine lv_iload_n hx hb d_T_two_18 rfl (lv_at hl 0 rfl) ?_
    refine lv_iconst hx hb d_T_two_19 ki_4 ?_
    refine lv_icmp_ne (tgt := 27) hx hb d_T_two_20 (by decide) (fun _ => ?_) (fun c9 => absurd c9 (by decide : ¬ (nI 7) = 4))
    refine lv_iload_n hx hb d_T_two_27 rfl (lv_at hl 0 rfl) ?_
    refine lv_iconst hx hb d_T_two_28 ki_5 ?_
    refine lv_icmp_ne (tgt := 41) hx hb d_T_two_29 (by decide) (fun _ => ?_) (fun c9 => absurd c9 (by decide : ¬ (nI 7) = 5))
    refine lv_iload_n hx hb d_T_two_41 rfl (lv_at hl 0 rfl) ?_
    refine lv_bipush hx hb d_T_two_42 kb_6 ?_
    refine lv_icmp_ne (tgt := 53) hx hb d_T_two_44 (by decide) (fun _ => ?_) (fun c9 => absurd c9 (by decide : ¬ (nI 7) = 6))
    refine lv_iload_n hx hb d_T_two_53 rfl (lv_at hl 0 rfl) ?_
    refine lv_bipush hx hb d_T_two_54 kb_7 ?_
    refine lv_icmp_ne (tgt := 69) hx hb d_T_two_56 (by decide) (fun c9 => absurd (by decide : (nI 7) = 7) c9) (fun _ => ?_)
    refine lv_iload_n hx hb d_T_two_59 rfl (lv_at hl 1 rfl) ?_
    refine lv_iload_n hx hb d_T_two_60 rfl (lv_at hl 2 rfl) ?_
    refine lv_iload_n hx hb d_T_two_61 rfl (lv_at hl 1 rfl) ?_
    refine lv_iload_n hx hb d_T_two_62 rfl (lv_at hl 2 rfl) ?_
    refine ccSS SF M (c_T_quotient l x y) g_T_42 hd_T_quotient ⟨Nat.le_of_ble_eq_true rfl, Nat.le_of_ble_eq_true rfl⟩ hl.1 rfl (Nat.le_of_ble_eq_true rfl) d_T_two_63 ⟨Nat.zero_le _, Nat.zero_le _⟩ (fun r H locs hu M => ?_)
    subst hu
    refine lv_imul hx hb d_T_two_66 ?_
    refine lv_isub hx hb d_T_two_67 ?_
    exact retS SF hlk hr (rfl) M d_T_two_68
  · refine lv_iload_n hx hb d_T_two_0 rfl (lv_at hl 0 rfl) ?_
    refine lv_iconst hx hb d_T_two_1 ki_2 ?_
    refine lv_icmp_ne (tgt := 9) hx hb d_T_two_2 (by decide) (fun _ => ?_) (fun c9 => absurd c9 (by decide : ¬ (nI 8) = 2))
    refine lv_iload_n hx hb d_T_two_9 rfl (lv_at hl 0 rfl) ?_
    refine lv_iconst hx hb d_T_two_10 ki_3 ?_
    refine lv_icmp_ne (tgt := 18) hx hb d_T_two_11 (by decide) (fun _ => ?_) (fun c9 => absurd c9 (by decide : ¬ (nI 8) = 3))
    refine lv_iload_n hx hb d_T_two_18 rfl (lv_at hl 0 rfl) ?_
    refine lv_iconst hx hb d_T_two_19 ki_4 ?_
    refine lv_icmp_ne (tgt := 27) hx hb d_T_two_20 (by decide) (fun _ => ?_) (fun c9 => absurd c9 (by decide : ¬ (nI 8) = 4))
    refine lv_iload_n hx hb d_T_two_27 rfl (lv_at hl 0 rfl) ?_
    refine lv_iconst hx hb d_T_two_28 ki_5 ?_
    refine lv_icmp_ne (tgt := 41) hx hb d_T_two_29 (by decide) (fun _ => ?_) (fun c9 => absurd c9 (by decide : ¬ (nI 8) = 5))
    refine lv_iload_n hx hb d_T_two_41 rfl (lv_at hl 0 rfl) ?_
    refine lv_bipush hx hb d_T_two_42 kb_6 ?_
    refine lv_icmp_ne (tgt := 53) hx hb d_T_two_44 (by decide) (fun _ => ?_) (fun c9 => absurd c9 (by decide : ¬ (nI 8) = 6))
    refine lv_iload_n hx hb d_T_two_53 rfl (lv_at hl 0 rfl) ?_
    refine lv_bipush hx hb d_T_two_54 kb_7 ?_
    refine lv_icmp_ne (tgt := 69) hx hb d_T_two_56 (by decide) (fun _ => ?_) (fun c9 => absurd c9 (by decide : ¬ (nI 8) = 7))
    refine lv_iload_n hx hb d_T_two_69 rfl (lv_at hl 0 rfl) ?_
    refine lv_bipush hx hb d_T_two_70 kb_8 ?_
    refine lv_icmp_ne (tgt := 79) hx hb d_T_two_72 (by decide) (fun c9 => absurd (by decide : (nI 8) = 8) c9) (fun _ => ?_)
    refine lv_iload_n hx hb d_T_two_75 rfl (lv_at hl 1 rfl) ?_
    refine lv_iload_n hx hb d_T_two_76 rfl (lv_at hl 2 rfl) ?_
    refine lv_iand hx hb d_T_two_77 ?_
    exact retS SF hlk hr (rfl) M d_T_two_78
  · refine lv_iload_n hx hb d_T_two_0 rfl (lv_at hl 0 rfl) ?_
    refine lv_iconst hx hb d_T_two_1 ki_2 ?_
    refine lv_icmp_ne (tgt := 9) hx hb d_T_two_2 (by decide) (fun _ => ?_) (fun c9 => absurd c9 (by decide : ¬ (nI 9) = 2))
    refine lv_iload_n hx hb d_T_two_9 rfl (lv_at hl 0 rfl) ?_
    refine lv_iconst hx hb d_T_two_10 ki_3 ?_
    refine lv_icmp_ne (tgt := 18) hx hb d_T_two_11 (by decide) (fun _ => ?_) (fun c9 => absurd c9 (by decide : ¬ (nI 9) = 3))
    refine lv_iload_n hx hb d_T_two_18 rfl (lv_at hl 0 rfl) ?_
    refine lv_iconst hx hb d_T_two_19 ki_4 ?_
    refine lv_icmp_ne (tgt := 27) hx hb d_T_two_20 (by decide) (fun _ => ?_) (fun c9 => absurd c9 (by decide : ¬ (nI 9) = 4))
    refine lv_iload_n hx hb d_T_two_27 rfl (lv_at hl 0 rfl) ?_
    refine lv_iconst hx hb d_T_two_28 ki_5 ?_
    refine lv_icmp_ne (tgt := 41) hx hb d_T_two_29 (by decide) (fun _ => ?_) (fun c9 => absurd c9 (by decide : ¬ (nI 9) = 5))
    refine lv_iload_n hx hb d_T_two_41 rfl (lv_at hl 0 rfl) ?_
    refine lv_bipush hx hb d_T_two_42 kb_6 ?_
    refine lv_icmp_ne (tgt := 53) hx hb d_T_two_44 (by decide) (fun _ => ?_) (fun c9 => absurd c9 (by decide : ¬ (nI 9) = 6))
    refine lv_iload_n hx hb d_T_two_53 rfl (lv_at hl 0 rfl) ?_
    refine lv_bipush hx hb d_T_two_54 kb_7 ?_
    refine lv_icmp_ne (tgt := 69) hx hb d_T_two_56 (by decide) (fun _ => ?_) (fun c9 => absurd c9 (by decide : ¬ (nI 9) = 7))
    refine lv_iload_n hx hb d_T_two_69 rfl (lv_at hl 0 rfl) ?_
    refine lv_bipush hx hb d_T_two_70 kb_8 ?_
    refine lv_icmp_ne (tgt := 79) hx hb d_T_two_72 (by decide) (fun _ => ?_) (fun c9 => absurd c9 (by decide : ¬ (nI 9) = 8))
    refine lv_iload_n hx hb d_T_two_79 rfl (lv_at hl 0 rfl) ?_
    refine lv_bipush hx hb d_T_two_80 kb_9 ?_
    refine lv_icmp_ne (tgt := 89) hx hb d_T_two_82 (by decide) (fun c9 => absurd (by decide : (nI 9) = 9) c9) (fun _ => ?_)
    refine lv_iload_n hx hb d_T_two_85 rfl (lv_at hl 1 rfl) ?_
    refine lv_iload_n hx hb d_T_two_86 rfl (lv_at hl 2 rfl) ?_
    refine lv_ior hx hb d_T_two_87 ?_
    exact retS SF hlk hr (rfl) M d_T_two_88
  · refine lv_iload_n hx hb d_T_two_0 rfl (lv_at hl 0 rfl) ?_
    refine lv_iconst hx hb d_T_two_1 ki_2 ?_
    refine lv_icmp_ne (tgt := 9) hx hb d_T_two_2 (by decide) (fun _ => ?_) (fun c9 => absurd c9 (by decide : ¬ (nI 10) = 2))
    refine lv_iload_n hx hb d_T_two_9 rfl (lv_at hl 0 rfl) ?_
    refine lv_iconst hx hb d_T_two_10 ki_3 ?_
    refine lv_icmp_ne (tgt := 18) hx hb d_T_two_11 (by decide) (fun _ => ?_) (fun c9 => absurd c9 (by decide : ¬ (nI 10) = 3))
    refine lv_iload_n hx hb d_T_two_18 rfl (lv_at hl 0 rfl) ?_
    refine lv_iconst hx hb d_T_two_19 ki_4 ?_
    refine lv_icmp_ne (tgt := 27) hx hb d_T_two_20 (by decide) (fun _ => ?_) (fun c9 => absurd c9 (by decide : ¬ (nI 10) = 4))
    refine lv_iload_n hx hb d_T_two_27 rfl (lv_at hl 0 rfl) ?_
    refine lv_iconst hx hb d_T_two_28 ki_5 ?_
    refine lv_icmp_ne (tgt := 41) hx hb d_T_two_29 (by decide) (fun _ => ?_) (fun c9 => absurd c9 (by decide : ¬ (nI 10) = 5))
    refine lv_iload_n hx hb d_T_two_41 rfl (lv_at hl 0 rfl) ?_
    refine lv_bipush hx hb d_T_two_42 kb_6 ?_
    refine lv_icmp_ne (tgt := 53) hx hb d_T_two_44 (by decide) (fun _ => ?_) (fun c9 => absurd c9 (by decide : ¬ (nI 10) = 6))
    refine lv_iload_n hx hb d_T_two_53 rfl (lv_at hl 0 rfl) ?_
    refine lv_bipush hx hb d_T_two_54 kb_7 ?_
    refine lv_icmp_ne (tgt := 69) hx hb d_T_two_56 (by decide) (fun _ => ?_) (fun c9 => absurd c9 (by decide : ¬ (nI 10) = 7))
    refine lv_iload_n hx hb d_T_two_69 rfl (lv_at hl 0 rfl) ?_
    refine lv_bipush hx hb d_T_two_70 kb_8 ?_
    refine lv_icmp_ne (tgt := 79) hx hb d_T_two_72 (by decide) (fun _ => ?_) (fun c9 => absurd c9 (by decide : ¬ (nI 10) = 8))
    refine lv_iload_n hx hb d_T_two_79 rfl (lv_at hl 0 rfl) ?_
    refine lv_bipush hx hb d_T_two_80 kb_9 ?_
    refine lv_icmp_ne (tgt := 89) hx hb d_T_two_82 (by decide) (fun _ => ?_) (fun c9 => absurd c9 (by decide : ¬ (nI 10) = 9))
    refine lv_iload_n hx hb d_T_two_89 rfl (lv_at hl 0 rfl) ?_
    refine lv_bipush hx hb d_T_two_90 kb_10 ?_
    refine lv_icmp_ne (tgt := 99) hx hb d_T_two_92 (by decide) (fun c9 => absurd (by decide : (nI 10) = 10) c9) (fun _ => ?_)
    refine lv_iload_n hx hb d_T_two_95 rfl (lv_at hl 1 rfl) ?_
    refine lv_iload_n hx hb d_T_two_96 rfl (lv_at hl 2 rfl) ?_
    refine lv_ixor hx hb d_T_two_97 ?_
    exact retS SF hlk hr (rfl) M d_T_two_98
  · refine lv_iload_n hx hb d_T_two_0 rfl (lv_at hl 0 rfl) ?_
    refine lv_iconst hx hb d_T_two_1 ki_2 ?_
    refine lv_icmp_ne (tgt := 9) hx hb d_T_two_2 (by decide) (fun _ => ?_) (fun c9 => absurd c9 (by decide : ¬ (nI 11) = 2))
    refine lv_iload_n hx hb d_T_two_9 rfl (lv_at hl 0 rfl) ?_
    refine lv_iconst hx hb d_T_two_10 ki_3 ?_
    refine lv_icmp_ne (tgt := 18) hx hb d_T_two_11 (by decide) (fun _ => ?_) (fun c9 => absurd c9 (by decide : ¬ (nI 11) = 3))
    refine lv_iload_n hx hb d_T_two_18 rfl (lv_at hl 0 rfl) ?_
    refine lv_iconst hx hb d_T_two_19 ki_4 ?_
    refine lv_icmp_ne (tgt := 27) hx hb d_T_two_20 (by decide) (fun _ => ?_) (fun c9 => absurd c9 (by decide : ¬ (nI 11) = 4))
    refine lv_iload_n hx hb d_T_two_27 rfl (lv_at hl 0 rfl) ?_
    refine lv_iconst hx hb d_T_two_28 ki_5 ?_
    refine lv_icmp_ne (tgt := 41) hx hb d_T_two_29 (by decide) (fun _ => ?_) (fun c9 => absurd c9 (by decide : ¬ (nI 11) = 5))
    refine lv_iload_n hx hb d_T_two_41 rfl (lv_at hl 0 rfl) ?_
    refine lv_bipush hx hb d_T_two_42 kb_6 ?_
    refine lv_icmp_ne (tgt := 53) hx hb d_T_two_44 (by decide) (fun _ => ?_) (fun c9 => absurd c9 (by decide : ¬ (nI 11) = 6))
    refine lv_iload_n hx hb d_T_two_53 rfl (lv_at hl 0 rfl) ?_
    refine lv_bipush hx hb d_T_two_54 kb_7 ?_
    refine lv_icmp_ne (tgt := 69) hx hb d_T_two_56 (by decide) (fun _ => ?_) (fun c9 => absurd c9 (by decide : ¬ (nI 11) = 7))
    refine lv_iload_n hx hb d_T_two_69 rfl (lv_at hl 0 rfl) ?_
    refine lv_bipush hx hb d_T_two_70 kb_8 ?_
    refine lv_icmp_ne (tgt := 79) hx hb d_T_two_72 (by decide) (fun _ => ?_) (fun c9 => absurd c9 (by decide : ¬ (nI 11) = 8))
    refine lv_iload_n hx hb d_T_two_79 rfl (lv_at hl 0 rfl) ?_
    refine lv_bipush hx hb d_T_two_80 kb_9 ?_
    refine lv_icmp_ne (tgt := 89) hx hb d_T_two_82 (by decide) (fun _ => ?_) (fun c9 => absurd c9 (by decide : ¬ (nI 11) = 9))
    refine lv_iload_n hx hb d_T_two_89 rfl (lv_at hl 0 rfl) ?_
    refine lv_bipush hx hb d_T_two_90 kb_10 ?_
    refine lv_icmp_ne (tgt := 99) hx hb d_T_two_92 (by decide) (fun _ => ?_) (fun c9 => absurd c9 (by decide : ¬ (nI 11) = 10))
    refine lv_iload_n hx hb d_T_two_99 rfl (lv_at hl 0 rfl) ?_
    refine lv_bipush hx hb d_T_two_100 kb_13 ?_
    refine lv_icmp_ne (tgt := 116) hx hb d_T_two_102 (by decide) (fun _ => ?_) (fun c9 => absurd c9 (by decide : ¬ (nI 11) = 13))
    refine lv_iload_n hx hb d_T_two_116 rfl (lv_at hl 1 rfl) ?_
    refine lv_iload_n hx hb d_T_two_117 rfl (lv_at hl 2 rfl) ?_
    refine lv_icmp_ne (tgt := 125) hx hb d_T_two_118 (by decide) (fun c9 => ?_) (fun c9 => ?_)
    · refine lv_iconst hx hb d_T_two_125 ki_0 ?_
      exact retS SF hlk hr (by unfold twoF; simp [c9]) M d_T_two_126
    · refine lv_iconst hx hb d_T_two_121 ki_1 ?_
      refine lv_goto (tgt := 126) hx hb d_T_two_122 (by decide) ?_
      exact retS SF hlk hr (by unfold twoF; simp [c9]) M d_T_two_126
  · refine lv_iload_n hx hb d_T_two_0 rfl (lv_at hl 0 rfl) ?_
    refine lv_iconst hx hb d_T_two_1 ki_2 ?_
    refine lv_icmp_ne (tgt := 9) hx hb d_T_two_2 (by decide) (fun _ => ?_) (fun c9 => absurd c9 (by decide : ¬ (nI 12) = 2))
    refine lv_iload_n hx hb d_T_two_9 rfl (lv_at hl 0 rfl) ?_
    refine lv_iconst hx hb d_T_two_10 ki_3 ?_
    refine lv_icmp_ne (tgt := 18) hx hb d_T_two_11 (by decide) (fun _ => ?_) (fun c9 => absurd c9 (by decide : ¬ (nI 12) = 3))
    refine lv_iload_n hx hb d_T_two_18 rfl (lv_at hl 0 rfl) ?_
    refine lv_iconst hx hb d_T_two_19 ki_4 ?_
    refine lv_icmp_ne (tgt := 27) hx hb d_T_two_20 (by decide) (fun _ => ?_) (fun c9 => absurd c9 (by decide : ¬ (nI 12) = 4))
    refine lv_iload_n hx hb d_T_two_27 rfl (lv_at hl 0 rfl) ?_
    refine lv_iconst hx hb d_T_two_28 ki_5 ?_
    refine lv_icmp_ne (tgt := 41) hx hb d_T_two_29 (by decide) (fun _ => ?_) (fun c9 => absurd c9 (by decide : ¬ (nI 12) = 5))
    refine lv_iload_n hx hb d_T_two_41 rfl (lv_at hl 0 rfl) ?_
    refine lv_bipush hx hb d_T_two_42 kb_6 ?_
    refine lv_icmp_ne (tgt := 53) hx hb d_T_two_44 (by decide) (fun _ => ?_) (fun c9 => absurd c9 (by decide : ¬ (nI 12) = 6))
    refine lv_iload_n hx hb d_T_two_53 rfl (lv_at hl 0 rfl) ?_
    refine lv_bipush hx hb d_T_two_54 kb_7 ?_
    refine lv_icmp_ne (tgt := 69) hx hb d_T_two_56 (by decide) (fun _ => ?_) (fun c9 => absurd c9 (by decide : ¬ (nI 12) = 7))
    refine lv_iload_n hx hb d_T_two_69 rfl (lv_at hl 0 rfl) ?_
    refine lv_bipush hx hb d_T_two_70 kb_8 ?_
    refine lv_icmp_ne (tgt := 79) hx hb d_T_two_72 (by decide) (fun _ => ?_) (fun c9 => absurd c9 (by decide : ¬ (nI 12) = 8))
    refine lv_iload_n hx hb d_T_two_79 rfl (lv_at hl 0 rfl) ?_
    refine lv_bipush hx hb d_T_two_80 kb_9 ?_
    refine lv_icmp_ne (tgt := 89) hx hb d_T_two_82 (by decide) (fun _ => ?_) (fun c9 => absurd c9 (by decide : ¬ (nI 12) = 9))
    refine lv_iload_n hx hb d_T_two_89 rfl (lv_at hl 0 rfl) ?_
    refine lv_bipush hx hb d_T_two_90 kb_10 ?_
    refine lv_icmp_ne (tgt := 99) hx hb d_T_two_92 (by decide) (fun _ => ?_) (fun c9 => absurd c9 (by decide : ¬ (nI 12) = 10))
    refine lv_iload_n hx hb d_T_two_99 rfl (lv_at hl 0 rfl) ?_
    refine lv_bipush hx hb d_T_two_100 kb_13 ?_
    refine lv_icmp_ne (tgt := 116) hx hb d_T_two_102 (by decide) (fun _ => ?_) (fun c9 => absurd c9 (by decide : ¬ (nI 12) = 13))
    refine lv_iload_n hx hb d_T_two_116 rfl (lv_at hl 1 rfl) ?_
    refine lv_iload_n hx hb d_T_two_117 rfl (lv_at hl 2 rfl) ?_
    refine lv_icmp_ne (tgt := 125) hx hb d_T_two_118 (by decide) (fun c9 => ?_) (fun c9 => ?_)
    · refine lv_iconst hx hb d_T_two_125 ki_0 ?_
      exact retS SF hlk hr (by unfold twoF; simp [c9]) M d_T_two_126
    · refine lv_iconst hx hb d_T_two_121 ki_1 ?_
      refine lv_goto (tgt := 126) hx hb d_T_two_122 (by decide) ?_
      exact retS SF hlk hr (by unfold twoF; simp [c9]) M d_T_two_126
  · refine lv_iload_n hx hb d_T_two_0 rfl (lv_at hl 0 rfl) ?_
    refine lv_iconst hx hb d_T_two_1 ki_2 ?_
    refine lv_icmp_ne (tgt := 9) hx hb d_T_two_2 (by decide) (fun _ => ?_) (fun c9 => absurd c9 (by decide : ¬ (nI 13) = 2))
    refine lv_iload_n hx hb d_T_two_9 rfl (lv_at hl 0 rfl) ?_
    refine lv_iconst hx hb d_T_two_10 ki_3 ?_
    refine lv_icmp_ne (tgt := 18) hx hb d_T_two_11 (by decide) (fun _ => ?_) (fun c9 => absurd c9 (by decide : ¬ (nI 13) = 3))
    refine lv_iload_n hx hb d_T_two_18 rfl (lv_at hl 0 rfl) ?_
    refine lv_iconst hx hb d_T_two_19 ki_4 ?_
    refine lv_icmp_ne (tgt := 27) hx hb d_T_two_20 (by decide) (fun _ => ?_) (fun c9 => absurd c9 (by decide : ¬ (nI 13) = 4))
    refine lv_iload_n hx hb d_T_two_27 rfl (lv_at hl 0 rfl) ?_
    refine lv_iconst hx hb d_T_two_28 ki_5 ?_
    refine lv_icmp_ne (tgt := 41) hx hb d_T_two_29 (by decide) (fun _ => ?_) (fun c9 => absurd c9 (by decide : ¬ (nI 13) = 5))
    refine lv_iload_n hx hb d_T_two_41 rfl (lv_at hl 0 rfl) ?_
    refine lv_bipush hx hb d_T_two_42 kb_6 ?_
    refine lv_icmp_ne (tgt := 53) hx hb d_T_two_44 (by decide) (fun _ => ?_) (fun c9 => absurd c9 (by decide : ¬ (nI 13) = 6))
    refine lv_iload_n hx hb d_T_two_53 rfl (lv_at hl 0 rfl) ?_
    refine lv_bipush hx hb d_T_two_54 kb_7 ?_
    refine lv_icmp_ne (tgt := 69) hx hb d_T_two_56 (by decide) (fun _ => ?_) (fun c9 => absurd c9 (by decide : ¬ (nI 13) = 7))
    refine lv_iload_n hx hb d_T_two_69 rfl (lv_at hl 0 rfl) ?_
    refine lv_bipush hx hb d_T_two_70 kb_8 ?_
    refine lv_icmp_ne (tgt := 79) hx hb d_T_two_72 (by decide) (fun _ => ?_) (fun c9 => absurd c9 (by decide : ¬ (nI 13) = 8))
    refine lv_iload_n hx hb d_T_two_79 rfl (lv_at hl 0 rfl) ?_
    refine lv_bipush hx hb d_T_two_80 kb_9 ?_
    refine lv_icmp_ne (tgt := 89) hx hb d_T_two_82 (by decide) (fun _ => ?_) (fun c9 => absurd c9 (by decide : ¬ (nI 13) = 9))
    refine lv_iload_n hx hb d_T_two_89 rfl (lv_at hl 0 rfl) ?_
    refine lv_bipush hx hb d_T_two_90 kb_10 ?_
    refine lv_icmp_ne (tgt := 99) hx hb d_T_two_92 (by decide) (fun _ => ?_) (fun c9 => absurd c9 (by decide : ¬ (nI 13) = 10))
    refine lv_iload_n hx hb d_T_two_99 rfl (lv_at hl 0 rfl) ?_
    refine lv_bipush hx hb d_T_two_100 kb_13 ?_
    refine lv_icmp_ne (tgt := 116) hx hb d_T_two_102 (by decide) (fun c9 => absurd (by decide : (nI 13) = 13) c9) (fun _ => ?_)
    refine lv_iload_n hx hb d_T_two_105 rfl (lv_at hl 1 rfl) ?_
    refine lv_iload_n hx hb d_T_two_106 rfl (lv_at hl 2 rfl) ?_
    refine lv_icmp_ge (tgt := 114) hx hb d_T_two_107 (by decide) (fun c9 => ?_) (fun c9 => ?_)
    · refine lv_iconst hx hb d_T_two_114 ki_0 ?_
      exact retS SF hlk hr (by unfold twoF; simp [c9]) M d_T_two_115
    · refine lv_iconst hx hb d_T_two_110 ki_1 ?_
      refine lv_goto (tgt := 115) hx hb d_T_two_111 (by decide) ?_
      exact retS SF hlk hr (by unfold twoF; simp [c9]) M d_T_two_115
  · refine lv_iload_n hx hb d_T_two_0 rfl (lv_at hl 0 rfl) ?_
    refine lv_iconst hx hb d_T_two_1 ki_2 ?_
    refine lv_icmp_ne (tgt := 9) hx hb d_T_two_2 (by decide) (fun _ => ?_) (fun c9 => absurd c9 (by decide : ¬ (nI 14) = 2))
    refine lv_iload_n hx hb d_T_two_9 rfl (lv_at hl 0 rfl) ?_
    refine lv_iconst hx hb d_T_two_10 ki_3 ?_
    refine lv_icmp_ne (tgt := 18) hx hb d_T_two_11 (by decide) (fun _ => ?_) (fun c9 => absurd c9 (by decide : ¬ (nI 14) = 3))
    refine lv_iload_n hx hb d_T_two_18 rfl (lv_at hl 0 rfl) ?_
    refine lv_iconst hx hb d_T_two_19 ki_4 ?_
    refine lv_icmp_ne (tgt := 27) hx hb d_T_two_20 (by decide) (fun _ => ?_) (fun c9 => absurd c9 (by decide : ¬ (nI 14) = 4))
    refine lv_iload_n hx hb d_T_two_27 rfl (lv_at hl 0 rfl) ?_
    refine lv_iconst hx hb d_T_two_28 ki_5 ?_
    refine lv_icmp_ne (tgt := 41) hx hb d_T_two_29 (by decide) (fun _ => ?_) (fun c9 => absurd c9 (by decide : ¬ (nI 14) = 5))
    refine lv_iload_n hx hb d_T_two_41 rfl (lv_at hl 0 rfl) ?_
    refine lv_bipush hx hb d_T_two_42 kb_6 ?_
    refine lv_icmp_ne (tgt := 53) hx hb d_T_two_44 (by decide) (fun _ => ?_) (fun c9 => absurd c9 (by decide : ¬ (nI 14) = 6))
    refine lv_iload_n hx hb d_T_two_53 rfl (lv_at hl 0 rfl) ?_
    refine lv_bipush hx hb d_T_two_54 kb_7 ?_
    refine lv_icmp_ne (tgt := 69) hx hb d_T_two_56 (by decide) (fun _ => ?_) (fun c9 => absurd c9 (by decide : ¬ (nI 14) = 7))
    refine lv_iload_n hx hb d_T_two_69 rfl (lv_at hl 0 rfl) ?_
    refine lv_bipush hx hb d_T_two_70 kb_8 ?_
    refine lv_icmp_ne (tgt := 79) hx hb d_T_two_72 (by decide) (fun _ => ?_) (fun c9 => absurd c9 (by decide : ¬ (nI 14) = 8))
    refine lv_iload_n hx hb d_T_two_79 rfl (lv_at hl 0 rfl) ?_
    refine lv_bipush hx hb d_T_two_80 kb_9 ?_
    refine lv_icmp_ne (tgt := 89) hx hb d_T_two_82 (by decide) (fun _ => ?_) (fun c9 => absurd c9 (by decide : ¬ (nI 14) = 9))
    refine lv_iload_n hx hb d_T_two_89 rfl (lv_at hl 0 rfl) ?_
    refine lv_bipush hx hb d_T_two_90 kb_10 ?_
    refine lv_icmp_ne (tgt := 99) hx hb d_T_two_92 (by decide) (fun _ => ?_) (fun c9 => absurd c9 (by decide : ¬ (nI 14) = 10))
    refine lv_iload_n hx hb d_T_two_99 rfl (lv_at hl 0 rfl) ?_
    refine lv_bipush hx hb d_T_two_100 kb_13 ?_
    refine lv_icmp_ne (tgt := 116) hx hb d_T_two_102 (by decide) (fun _ => ?_) (fun c9 => absurd c9 (by decide : ¬ (nI 14) = 13))
    refine lv_iload_n hx hb d_T_two_116 rfl (lv_at hl 1 rfl) ?_
    refine lv_iload_n hx hb d_T_two_117 rfl (lv_at hl 2 rfl) ?_
    refine lv_icmp_ne (tgt := 125) hx hb d_T_two_118 (by decide) (fun c9 => ?_) (fun c9 => ?_)
    · refine lv_iconst hx hb d_T_two_125 ki_0 ?_
      exact retS SF hlk hr (by unfold twoF; simp [c9]) M d_T_two_126
    · refine lv_iconst hx hb d_T_two_121 ki_1 ?_
      refine lv_goto (tgt := 126) hx hb d_T_two_122 (by decide) ?_
      exact retS SF hlk hr (by unfold twoF; simp [c9]) M d_T_two_126
  · refine lv_iload_n hx hb d_T_two_0 rfl (lv_at hl 0 rfl) ?_
    refine lv_iconst hx hb d_T_two_1 ki_2 ?_
    refine lv_icmp_ne (tgt := 9) hx hb d_T_two_2 (by decide) (fun _ => ?_) (fun c9 => absurd c9 (by decide : ¬ (nI 15) = 2))
    refine lv_iload_n hx hb d_T_two_9 rfl (lv_at hl 0 rfl) ?_
    refine lv_iconst hx hb d_T_two_10 ki_3 ?_
    refine lv_icmp_ne (tgt := 18) hx hb d_T_two_11 (by decide) (fun _ => ?_) (fun c9 => absurd c9 (by decide : ¬ (nI 15) = 3))
    refine lv_iload_n hx hb d_T_two_18 rfl (lv_at hl 0 rfl) ?_
    refine lv_iconst hx hb d_T_two_19 ki_4 ?_
    refine lv_icmp_ne (tgt := 27) hx hb d_T_two_20 (by decide) (fun _ => ?_) (fun c9 => absurd c9 (by decide : ¬ (nI 15) = 4))
    refine lv_iload_n hx hb d_T_two_27 rfl (lv_at hl 0 rfl) ?_
    refine lv_iconst hx hb d_T_two_28 ki_5 ?_
    refine lv_icmp_ne (tgt := 41) hx hb d_T_two_29 (by decide) (fun _ => ?_) (fun c9 => absurd c9 (by decide : ¬ (nI 15) = 5))
    refine lv_iload_n hx hb d_T_two_41 rfl (lv_at hl 0 rfl) ?_
    refine lv_bipush hx hb d_T_two_42 kb_6 ?_
    refine lv_icmp_ne (tgt := 53) hx hb d_T_two_44 (by decide) (fun _ => ?_) (fun c9 => absurd c9 (by decide : ¬ (nI 15) = 6))
    refine lv_iload_n hx hb d_T_two_53 rfl (lv_at hl 0 rfl) ?_
    refine lv_bipush hx hb d_T_two_54 kb_7 ?_
    refine lv_icmp_ne (tgt := 69) hx hb d_T_two_56 (by decide) (fun _ => ?_) (fun c9 => absurd c9 (by decide : ¬ (nI 15) = 7))
    refine lv_iload_n hx hb d_T_two_69 rfl (lv_at hl 0 rfl) ?_
    refine lv_bipush hx hb d_T_two_70 kb_8 ?_
    refine lv_icmp_ne (tgt := 79) hx hb d_T_two_72 (by decide) (fun _ => ?_) (fun c9 => absurd c9 (by decide : ¬ (nI 15) = 8))
    refine lv_iload_n hx hb d_T_two_79 rfl (lv_at hl 0 rfl) ?_
    refine lv_bipush hx hb d_T_two_80 kb_9 ?_
    refine lv_icmp_ne (tgt := 89) hx hb d_T_two_82 (by decide) (fun _ => ?_) (fun c9 => absurd c9 (by decide : ¬ (nI 15) = 9))
    refine lv_iload_n hx hb d_T_two_89 rfl (lv_at hl 0 rfl) ?_
    refine lv_bipush hx hb d_T_two_90 kb_10 ?_
    refine lv_icmp_ne (tgt := 99) hx hb d_T_two_92 (by decide) (fun _ => ?_) (fun c9 => absurd c9 (by decide : ¬ (nI 15) = 10))
    refine lv_iload_n hx hb d_T_two_99 rfl (lv_at hl 0 rfl) ?_
    refine lv_bipush hx hb d_T_two_100 kb_13 ?_
    refine lv_icmp_ne (tgt := 116) hx hb d_T_two_102 (by decide) (fun _ => ?_) (fun c9 => absurd c9 (by decide : ¬ (nI 15) = 13))
    refine lv_iload_n hx hb d_T_two_116 rfl (lv_at hl 1 rfl) ?_
    refine lv_iload_n hx hb d_T_two_117 rfl (lv_at hl 2 rfl) ?_
    refine lv_icmp_ne (tgt := 125) hx hb d_T_two_118 (by decide) (fun c9 => ?_) (fun c9 => ?_)
    · refine lv_iconst hx hb d_T_two_125 ki_0 ?_
      exact retS SF hlk hr (by unfold twoF; simp [c9]) M d_T_two_126
    · refine lv_iconst hx hb d_T_two_121 ki_1 ?_
      refine lv_goto (tgt := 126) hx hb d_T_two_122 (by decide) ?_
      exact retS SF hlk hr (by unfold twoF; simp [c9]) M d_T_two_126
  · refine lv_iload_n hx hb d_T_two_0 rfl (lv_at hl 0 rfl) ?_
    refine lv_iconst hx hb d_T_two_1 ki_2 ?_
    refine lv_icmp_ne (tgt := 9) hx hb d_T_two_2 (by decide) (fun _ => ?_) (fun c9 => absurd c9 (by decide : ¬ (nI 16) = 2))
    refine lv_iload_n hx hb d_T_two_9 rfl (lv_at hl 0 rfl) ?_
    refine lv_iconst hx hb d_T_two_10 ki_3 ?_
    refine lv_icmp_ne (tgt := 18) hx hb d_T_two_11 (by decide) (fun _ => ?_) (fun c9 => absurd c9 (by decide : ¬ (nI 16) = 3))
    refine lv_iload_n hx hb d_T_two_18 rfl (lv_at hl 0 rfl) ?_
    refine lv_iconst hx hb d_T_two_19 ki_4 ?_
    refine lv_icmp_ne (tgt := 27) hx hb d_T_two_20 (by decide) (fun _ => ?_) (fun c9 => absurd c9 (by decide : ¬ (nI 16) = 4))
    refine lv_iload_n hx hb d_T_two_27 rfl (lv_at hl 0 rfl) ?_
    refine lv_iconst hx hb d_T_two_28 ki_5 ?_
    refine lv_icmp_ne (tgt := 41) hx hb d_T_two_29 (by decide) (fun _ => ?_) (fun c9 => absurd c9 (by decide : ¬ (nI 16) = 5))
    refine lv_iload_n hx hb d_T_two_41 rfl (lv_at hl 0 rfl) ?_
    refine lv_bipush hx hb d_T_two_42 kb_6 ?_
    refine lv_icmp_ne (tgt := 53) hx hb d_T_two_44 (by decide) (fun _ => ?_) (fun c9 => absurd c9 (by decide : ¬ (nI 16) = 6))
    refine lv_iload_n hx hb d_T_two_53 rfl (lv_at hl 0 rfl) ?_
    refine lv_bipush hx hb d_T_two_54 kb_7 ?_
    refine lv_icmp_ne (tgt := 69) hx hb d_T_two_56 (by decide) (fun _ => ?_) (fun c9 => absurd c9 (by decide : ¬ (nI 16) = 7))
    refine lv_iload_n hx hb d_T_two_69 rfl (lv_at hl 0 rfl) ?_
    refine lv_bipush hx hb d_T_two_70 kb_8 ?_
    refine lv_icmp_ne (tgt := 79) hx hb d_T_two_72 (by decide) (fun _ => ?_) (fun c9 => absurd c9 (by decide : ¬ (nI 16) = 8))
    refine lv_iload_n hx hb d_T_two_79 rfl (lv_at hl 0 rfl) ?_
    refine lv_bipush hx hb d_T_two_80 kb_9 ?_
    refine lv_icmp_ne (tgt := 89) hx hb d_T_two_82 (by decide) (fun _ => ?_) (fun c9 => absurd c9 (by decide : ¬ (nI 16) = 9))
    refine lv_iload_n hx hb d_T_two_89 rfl (lv_at hl 0 rfl) ?_
    refine lv_bipush hx hb d_T_two_90 kb_10 ?_
    refine lv_icmp_ne (tgt := 99) hx hb d_T_two_92 (by decide) (fun _ => ?_) (fun c9 => absurd c9 (by decide : ¬ (nI 16) = 10))
    refine lv_iload_n hx hb d_T_two_99 rfl (lv_at hl 0 rfl) ?_
    refine lv_bipush hx hb d_T_two_100 kb_13 ?_
    refine lv_icmp_ne (tgt := 116) hx hb d_T_two_102 (by decide) (fun _ => ?_) (fun c9 => absurd c9 (by decide : ¬ (nI 16) = 13))
    refine lv_iload_n hx hb d_T_two_116 rfl (lv_at hl 1 rfl) ?_
    refine lv_iload_n hx hb d_T_two_117 rfl (lv_at hl 2 rfl) ?_
    refine lv_icmp_ne (tgt := 125) hx hb d_T_two_118 (by decide) (fun c9 => ?_) (fun c9 => ?_)
    · refine lv_iconst hx hb d_T_two_125 ki_0 ?_
      exact retS SF hlk hr (by unfold twoF; simp [c9]) M d_T_two_126
    · refine lv_iconst hx hb d_T_two_121 ki_1 ?_
      refine lv_goto (tgt := 126) hx hb d_T_two_122 (by decide) ?_
      exact retS SF hlk hr (by unfold twoF; simp [c9]) M d_T_two_126
end
section
/-! rows for the model's and the machine's lines -/
theorem lnN_le (o : Nat) (x b : Int32) {j : Nat} (hj : j < 32) : lnN o x b j ≤ 40 := by
  unfold lnN
  have := r7_lt b
  split
  · split <;> omega
  · split
    · split <;> omega
    · omega
theorem lnV_rng {V : Nat → Int32} (h : rngV V) (o d : Nat) (x y a b : Int32) : rngV (lnV o d V x y a b) := by
  unfold lnV
  split
  · exact h
  · exact rngV_upd h d _
theorem stF_of {O Dd Aa Bb : Nat → Int32} {j o d : Nat} {V : Nat → Int32} (ho : o ≤ 18) (hd : d < 8) (eo : O j = nI o) (ed : Dd j = nI d) : stF O Dd Aa Bb (j, V) = (lnN o (V (r7 (Aa j))) (Bb j) j, lnV o d V (V (r7 (Aa j))) (V (r7 (Bb j))) (Aa j) (Bb j)) := by
  unfold stF
  dsimp only
  rw [eo, ed, nI_clamp (by omega), nI_clamp (by omega)]
theorem limN_le (b : Int32) : limN b ≤ 60 := by
  unfold limN
  by_cases c : 0 ≤ b
  · rw [if_pos c]
    by_cases c2 : b ≤ 60
    · rw [if_pos c2]
      have h1 : 0 ≤ b.toInt := Int32.le_iff_toInt_le.mp c
      have h2 : b.toInt ≤ 60 := Int32.le_iff_toInt_le.mp c2
      show b.toInt.toNat ≤ 60
      omega
    · rw [if_neg c2]
      exact Nat.le_refl 60
  · rw [if_neg c]
    exact Nat.zero_le 60
theorem nI_self {b : Int32} (c : 0 ≤ b) : b = nI b.toNatClampNeg := by
  obtain ⟨j, hj, rfl⟩ := nI_of (x := b) (fun q => absurd (Int32.lt_iff_toInt_lt.mp q) (Int.not_lt.mpr (Int32.le_iff_toInt_le.mp c)))
  rw [nI_clamp hj]
theorem limN_a {b : Int32} (c : 0 ≤ b) (c2 : b ≤ 60) : b = nI (limN b) := by
  unfold limN
  rw [if_pos c, if_pos c2]
  exact nI_self c
theorem limN_b {b : Int32} (c : 0 ≤ b) (c2 : ¬ b ≤ 60) : 60 = nI (limN b) := by
  unfold limN
  rw [if_pos c, if_neg c2]
  rfl
theorem limN_c {b : Int32} (c : ¬ 0 ≤ b) : 0 = nI (limN b) := by
  unfold limN
  rw [if_neg c]
  rfl
theorem rnF_0 {O Dd Aa Bb : Nat → Int32} {n : Nat} {q : Nat × (Nat → Int32)} : rnF O Dd Aa Bb n 0 q = (0, q) := rfl
theorem rnF_no {O Dd Aa Bb : Nat → Int32} {n k : Nat} {q : Nat × (Nat → Int32)} (h : ¬ q.1 < n) : rnF O Dd Aa Bb n (k + 1) q = (0, q) := by
  rw [rnF, if_neg h]
theorem rnF_go {O Dd Aa Bb : Nat → Int32} {n k : Nat} {q : Nat × (Nat → Int32)} (h : q.1 < n) : rnF O Dd Aa Bb n (k + 1) q = ((rnF O Dd Aa Bb n k (stF O Dd Aa Bb q)).1 + 1, (rnF O Dd Aa Bb n k (stF O Dd Aa Bb q)).2) := by
  rw [rnF, if_pos h]
def emOK (op : Int32) (n : Nat) : Prop := ¬ op < 0 ∧ ¬ 18 < op ∧ n < 32
theorem okP_push {O Dd : Nat → Int32} {n : Nat} {op dst : Int32} (h : okP O Dd n) (e : emOK op n) : okP (upd O n op) (upd Dd n (dst &&& 7)) (n + 1) := by
  intro j hj
  by_cases c : j = n
  · subst c
    rw [pk_us, pk_us, ix7]
    refine ⟨?_, r7 dst, r7_lt dst, rfl⟩
    obtain ⟨k, hk, rfl⟩ := nI_of2 (x := op) (M := 18) (n := 18) rfl e.1 (Int32.le_iff_toInt_le.mpr (Int.not_lt.mp (fun q => e.2.1 (Int32.lt_iff_toInt_lt.mpr q))))
    exact ⟨k, hk, rfl⟩
  · rw [pk_un c, pk_un c]
    exact h j (by omega)
theorem resF_0 (x y a : Int32) (b : Nat) : a = resF 0 x y a b := by rw [resF, if_pos rfl]
theorem resF_1 (x y a : Int32) (b : Nat) : x = resF 1 x y a b := by rw [resF, if_neg (by decide), if_pos rfl]
theorem resF_11 (x y a : Int32) (b : Nat) : x * nI (2 ^ b) = resF 11 x y a b := by rw [resF, if_neg (by decide), if_neg (by decide), if_pos rfl]
theorem resF_12 (x y a : Int32) (b : Nat) : downF x (nI (2 ^ b)) = resF 12 x y a b := by rw [resF, if_neg (by decide), if_neg (by decide), if_neg (by decide), if_pos rfl]
theorem resF_15 (x y a : Int32) (b : Nat) : nI (rootN (plainF x).toNatClampNeg) = resF 15 x y a b := by rw [resF, if_neg (by decide), if_neg (by decide), if_neg (by decide), if_neg (by decide), if_pos rfl]
theorem resF_16 (x y a : Int32) (b : Nat) : nI (onesN 16 (plainF x).toNatClampNeg) = resF 16 x y a b := by rw [resF, if_neg (by decide), if_neg (by decide), if_neg (by decide), if_neg (by decide), if_neg (by decide), if_pos rfl]
theorem resF_e {o : Nat} (h : o ≠ 0 ∧ o ≠ 1 ∧ o ≠ 11 ∧ o ≠ 12 ∧ o ≠ 15 ∧ o ≠ 16) (x y a : Int32) (b : Nat) : twoF o x y = resF o x y a b := by rw [resF, if_neg h.1, if_neg h.2.1, if_neg h.2.2.1, if_neg h.2.2.2.1, if_neg h.2.2.2.2.1, if_neg h.2.2.2.2.2]
end
section
set_option maxHeartbeats 4000000 in
set_option maxRecDepth 100000 in
/-- result(j) -/
theorem c_T_result (l : Launch) (D : va_G) (h : Nat → Nat) (cs : Nat → ClassId) (ln nx : Int32) (V O Dd Aa Bb : Nat → Int32) (j o : Nat) (hj : j < 32) (eo : O j = nI o) (ho : o ≤ 16) (hV : rngV V) : CtI l y_T_result b_T_result 7 .int (rmm 2 44) D (tysT cs) [.ref (h 0), .int (nI j)] (tW h cs ln nx V O Dd Aa Bb) (fun (z : Int32) (_ : Unit) => z = resF o (V (r7 (Aa j))) (V (r7 (Bb j))) (Aa j) (r15 (Bb j))) (fun _ => tW h cs ln nx V O Dd Aa Bb) := by
  refine CtI.of R_T (by decide) rfl (Nat.le_of_ble_eq_true rfl) ?_
  intro p e s m args below meth c A ls SF hlk hr M hl
  have hx := SF.1
  have hb := SF.2.1
  have hl : lv_has ls 7 [(0, .ref (h 0)), (1, .int (nI j))] := hl
  refine lv_aload_n hx hb d_T_result_0 rfl (lv_at hl 0 rfl) ?_
  refine gT_op SF M d_T_result_1 ?_
  refine lv_iload_n hx hb d_T_result_4 rfl (lv_at hl 1 rfl) ?_
  refine aT_op SF M j rfl hj d_T_result_5 ?_
  rw [eo]
  refine lv_istore_n (lv' := [(2, .int (nI o)), (0, .ref (h 0)), (1, .int (nI j))]) hx hb d_T_result_6 rfl hl (by decide) rfl (fun ls hl => ?_)
  refine lv_aload_n hx hb d_T_result_7 rfl (lv_at hl 1 rfl) ?_
  refine gT_variable SF M d_T_result_8 ?_
  refine lv_aload_n hx hb d_T_result_11 rfl (lv_at hl 1 rfl) ?_
  refine gT_left SF M d_T_result_12 ?_
  refine lv_iload_n hx hb d_T_result_15 rfl (lv_at hl 2 rfl) ?_
  refine aT_left SF M j rfl hj d_T_result_16 ?_
  refine lv_bipush hx hb d_T_result_17 kb_7 ?_
  refine lv_iand hx hb d_T_result_19 ?_
  rw [ix7]
  refine aT_variable SF M (r7 (Aa j)) rfl (r7_lt _) d_T_result_20 ?_
  refine lv_istore_n (lv' := [(3, .int (V (r7 (Aa j)))), (2, .int (nI o)), (0, .ref (h 0)), (1, .int (nI j))]) hx hb d_T_result_21 rfl hl (by decide) rfl (fun ls hl => ?_)
  refine lv_aload_n hx hb d_T_result_22 rfl (lv_at hl 2 rfl) ?_
  refine gT_variable SF M d_T_result_23 ?_
  refine lv_aload_n hx hb d_T_result_26 rfl (lv_at hl 2 rfl) ?_
  refine gT_right SF M d_T_result_27 ?_
  refine lv_iload_n hx hb d_T_result_30 rfl (lv_at hl 3 rfl) ?_
  refine aT_right SF M j rfl hj d_T_result_31 ?_
  refine lv_bipush hx hb d_T_result_32 kb_7 ?_
  refine lv_iand hx hb d_T_result_34 ?_
  rw [ix7]
  refine aT_variable SF M (r7 (Bb j)) rfl (r7_lt _) d_T_result_35 ?_
  refine lv_istore (lv' := [(4, .int (V (r7 (Bb j)))), (3, .int (V (r7 (Aa j)))), (2, .int (nI o)), (0, .ref (h 0)), (1, .int (nI j))]) hx hb d_T_result_36 hl (by decide) rfl (fun ls hl => ?_)
  refine lv_aload_n hx hb d_T_result_38 rfl (lv_at hl 3 rfl) ?_
  refine gT_right SF M d_T_result_39 ?_
  refine lv_iload_n hx hb d_T_result_42 rfl (lv_at hl 4 rfl) ?_
  refine aT_right SF M j rfl hj d_T_result_43 ?_
  refine lv_bipush hx hb d_T_result_44 kb_15 ?_
  refine lv_iand hx hb d_T_result_46 ?_
  rw [ix15]
  refine ccSW SF M (c_T_power l (r15 (Bb j)) (r15_lt _)) g_T_45 hd_T_power ⟨Nat.le_of_ble_eq_true rfl, Nat.le_of_ble_eq_true rfl⟩ hl.1 rfl (Nat.le_of_ble_eq_true rfl) d_T_result_47 ⟨Nat.zero_le _, Nat.zero_le _⟩ (fun r H locs hu M => ?_)
  subst hu
  refine lv_istore (lv' := [(5, .int (nI (2 ^ r15 (Bb j)))), (4, .int (V (r7 (Bb j)))), (3, .int (V (r7 (Aa j)))), (2, .int (nI o)), (0, .ref (h 0)), (1, .int (nI j))]) hx hb d_T_result_50 hl (by decide) rfl (fun ls hl => ?_)
  refine lv_iload_n hx hb d_T_result_52 rfl (lv_at hl 2 rfl) ?_
  refine ccSW SF M (c_T_plain l (V (r7 (Aa j)))) g_T_48 hd_T_plain ⟨Nat.le_of_ble_eq_true rfl, Nat.le_of_ble_eq_true rfl⟩ hl.1 rfl (Nat.le_of_ble_eq_true rfl) d_T_result_53 ⟨Nat.zero_le _, Nat.zero_le _⟩ (fun r H locs hu M => ?_)
  subst hu
  obtain ⟨k, hk, ek, -⟩ := plainF_nat (hV _ (r7_lt (Aa j))).1 (hV _ (r7_lt (Aa j))).2
  refine lv_istore (lv' := [(6, .int (plainF (V (r7 (Aa j))))), (5, .int (nI (2 ^ r15 (Bb j)))), (4, .int (V (r7 (Bb j)))), (3, .int (V (r7 (Aa j)))), (2, .int (nI o)), (0, .ref (h 0)), (1, .int (nI j))]) hx hb d_T_result_56 hl (by decide) rfl (fun ls hl => ?_)
  have key : o = 0 ∨ o = 1 ∨ o = 2 ∨ o = 3 ∨ o = 4 ∨ o = 5 ∨ o = 6 ∨ o = 7 ∨ o = 8 ∨ o = 9 ∨ o = 10 ∨ o = 11 ∨ o = 12 ∨ o = 13 ∨ o = 14 ∨ o = 15 ∨ o = 16 := by omega
  rcases key with rfl | rfl | rfl | rfl | rfl | rfl | rfl | rfl | rfl | rfl | rfl | rfl | rfl | rfl | rfl | rfl | rfl
  · refine lv_iload_n hx hb d_T_result_58 rfl (lv_at hl 4 rfl) ?_
    refine lv_if_ne (tgt := 69) hx hb d_T_result_59 (by decide) (fun c9 => absurd (by decide : (nI 0) = 0) c9) (fun _ => ?_)
    refine lv_aload_n hx hb d_T_result_62 rfl (lv_at hl 5 rfl) ?_
    refine gT_left SF M d_T_result_63 ?_
    refine lv_iload_n hx hb d_T_result_66 rfl (lv_at hl 6 rfl) ?_
    refine aT_left SF M j rfl hj d_T_result_67 ?_
    exact retI SF hlk hr () (resF_0 _ _ _ _) M d_T_result_68
  · refine lv_iload_n hx hb d_T_result_58 rfl (lv_at hl 4 rfl) ?_
    refine lv_if_ne (tgt := 69) hx hb d_T_result_59 (by decide) (fun _ => ?_) (fun c9 => absurd c9 (by decide : ¬ (nI 1) = 0))
    refine lv_iload_n hx hb d_T_result_69 rfl (lv_at hl 4 rfl) ?_
    refine lv_iconst hx hb d_T_result_70 ki_1 ?_
    refine lv_icmp_ne (tgt := 76) hx hb d_T_result_71 (by decide) (fun c9 => absurd (by decide : (nI 1) = 1) c9) (fun _ => ?_)
    refine lv_iload_n hx hb d_T_result_74 rfl (lv_at hl 3 rfl) ?_
    exact retI SF hlk hr () (resF_1 _ _ _ _) M d_T_result_75
  · refine lv_iload_n hx hb d_T_result_58 rfl (lv_at hl 4 rfl) ?_
    refine lv_if_ne (tgt := 69) hx hb d_T_result_59 (by decide) (fun _ => ?_) (fun c9 => absurd c9 (by decide : ¬ (nI 2) = 0))
    refine lv_iload_n hx hb d_T_result_69 rfl (lv_at hl 4 rfl) ?_
    refine lv_iconst hx hb d_T_result_70 ki_1 ?_
    refine lv_icmp_ne (tgt := 76) hx hb d_T_result_71 (by decide) (fun _ => ?_) (fun c9 => absurd c9 (by decide : ¬ (nI 2) = 1))
    refine lv_iload_n hx hb d_T_result_76 rfl (lv_at hl 4 rfl) ?_
    refine lv_bipush hx hb d_T_result_77 kb_11 ?_
    refine lv_icmp_ne (tgt := 87) hx hb d_T_result_79 (by decide) (fun _ => ?_) (fun c9 => absurd c9 (by decide : ¬ (nI 2) = 11))
    refine lv_iload_n hx hb d_T_result_87 rfl (lv_at hl 4 rfl) ?_
    refine lv_bipush hx hb d_T_result_88 kb_12 ?_
    refine lv_icmp_ne (tgt := 100) hx hb d_T_result_90 (by decide) (fun _ => ?_) (fun c9 => absurd c9 (by decide : ¬ (nI 2) = 12))
    refine lv_iload_n hx hb d_T_result_100 rfl (lv_at hl 4 rfl) ?_
    refine lv_bipush hx hb d_T_result_101 kb_15 ?_
    refine lv_icmp_ne (tgt := 112) hx hb d_T_result_103 (by decide) (fun _ => ?_) (fun c9 => absurd c9 (by decide : ¬ (nI 2) = 15))
    refine lv_iload_n hx hb d_T_result_112 rfl (lv_at hl 4 rfl) ?_
    refine lv_bipush hx hb d_T_result_113 kb_16 ?_
    refine lv_icmp_ne (tgt := 124) hx hb d_T_result_115 (by decide) (fun _ => ?_) (fun c9 => absurd c9 (by decide : ¬ (nI 2) = 16))
    refine lv_iload_n hx hb d_T_result_124 rfl (lv_at hl 4 rfl) ?_
    refine lv_iload_n hx hb d_T_result_125 rfl (lv_at hl 3 rfl) ?_
    refine lv_iload hx hb d_T_result_126 (lv_at hl 2 rfl) ?_
    refine ccSW SF M (c_T_two l 2 (V (r7 (Aa j))) (V (r7 (Bb j))) (by decide)) g_T_57 hd_T_two ⟨Nat.le_of_ble_eq_true rfl, Nat.le_of_ble_eq_true rfl⟩ hl.1 rfl (Nat.le_of_ble_eq_true rfl) d_T_result_128 ⟨Nat.zero_le _, Nat.zero_le _⟩ (fun r H locs hu M => ?_)
    exact retI SF hlk hr () (hu.trans (resF_e (by decide) _ _ _ _)) M d_T_result_131
  · refine lv_iload_n hx hb d_T_result_58 rfl (lv_at hl 4 rfl) ?_
    refine lv_if_ne (tgt := 69) hx hb d_T_result_59 (by decide) (fun _ => ?_) (fun c9 => absurd c9 (by decide : ¬ (nI 3) = 0))
    refine lv_iload_n hx hb d_T_result_69 rfl (lv_at hl 4 rfl) ?_
    refine lv_iconst hx hb d_T_result_70 ki_1 ?_
    refine lv_icmp_ne (tgt := 76) hx hb d_T_result_71 (by decide) (fun _ => ?_) (fun c9 => absurd c9 (by decide : ¬ (nI 3) = 1))
    refine lv_iload_n hx hb d_T_result_76 rfl (lv_at hl 4 rfl) ?_
    refine lv_bipush hx hb d_T_result_77 kb_11 ?_
    refine lv_icmp_ne (tgt := 87) hx hb d_T_result_79 (by decide) (fun _ => ?_) (fun c9 => absurd c9 (by decide : ¬ (nI 3) = 11))
    refine lv_iload_n hx hb d_T_result_87 rfl (lv_at hl 4 rfl) ?_
    refine lv_bipush hx hb d_T_result_88 kb_12 ?_
    refine lv_icmp_ne (tgt := 100) hx hb d_T_result_90 (by decide) (fun _ => ?_) (fun c9 => absurd c9 (by decide : ¬ (nI 3) = 12))
    refine lv_iload_n hx hb d_T_result_100 rfl (lv_at hl 4 rfl) ?_
    refine lv_bipush hx hb d_T_result_101 kb_15 ?_
    refine lv_icmp_ne (tgt := 112) hx hb d_T_result_103 (by decide) (fun _ => ?_) (fun c9 => absurd c9 (by decide : ¬ (nI 3) = 15))
    refine lv_iload_n hx hb d_T_result_112 rfl (lv_at hl 4 rfl) ?_
    refine lv_bipush hx hb d_T_result_113 kb_16 ?_
    refine lv_icmp_ne (tgt := 124) hx hb d_T_result_115 (by decide) (fun _ => ?_) (fun c9 => absurd c9 (by decide : ¬ (nI 3) = 16))
    refine lv_iload_n hx hb d_T_result_124 rfl (lv_at hl 4 rfl) ?_
    refine lv_iload_n hx hb d_T_result_125 rfl (lv_at hl 3 rfl) ?_
    refine lv_iload hx hb d_T_result_126 (lv_at hl 2 rfl) ?_
    refine ccSW SF M (c_T_two l 3 (V (r7 (Aa j))) (V (r7 (Bb j))) (by decide)) g_T_57 hd_T_two ⟨Nat.le_of_ble_eq_true rfl, Nat.le_of_ble_eq_true rfl⟩ hl.1 rfl (Nat.le_of_ble_eq_true rfl) d_T_result_128 ⟨Nat.zero_le _, Nat.zero_le _⟩ (fun r H locs hu M => ?_)
    exact retI SF hlk hr () (hu.trans (resF_e (by decide) _ _ _ _)) M d_T_result_131
  · refine lv_iload_n hx hb d_T_result_58 rfl (lv_at hl 4 rfl) ?_
    refine lv_if_ne (tgt := 69) hx hb d_T_result_59 (by decide) (fun _ => ?_) (fun c9 => absurd c9 (by decide : ¬ (nI 4) = 0))
    refine lv_iload_n hx hb d_T_result_69 rfl (lv_at hl 4 rfl) ?_
    refine lv_iconst hx hb d_T_result_70 ki_1 ?_
    refine lv_icmp_ne (tgt := 76) hx hb d_T_result_71 (by decide) (fun _ => ?_) (fun c9 => absurd c9 (by decide : ¬ (nI 4) = 1))
    refine lv_iload_n hx hb d_T_result_76 rfl (lv_at hl 4 rfl) ?_
    refine lv_bipush hx hb d_T_result_77 kb_11 ?_
    refine lv_icmp_ne (tgt := 87) hx hb d_T_result_79 (by decide) (fun _ => ?_) (fun c9 => absurd c9 (by decide : ¬ (nI 4) = 11))
    refine lv_iload_n hx hb d_T_result_87 rfl (lv_at hl 4 rfl) ?_
    refine lv_bipush hx hb d_T_result_88 kb_12 ?_
    refine lv_icmp_ne (tgt := 100) hx hb d_T_result_90 (by decide) (fun _ => ?_) (fun c9 => absurd c9 (by decide : ¬ (nI 4) = 12))
    refine lv_iload_n hx hb d_T_result_100 rfl (lv_at hl 4 rfl) ?_
    refine lv_bipush hx hb d_T_result_101 kb_15 ?_
    refine lv_icmp_ne (tgt := 112) hx hb d_T_result_103 (by decide) (fun _ => ?_) (fun c9 => absurd c9 (by decide : ¬ (nI 4) = 15))
    refine lv_iload_n hx hb d_T_result_112 rfl (lv_at hl 4 rfl) ?_
    refine lv_bipush hx hb d_T_result_113 kb_16 ?_
    refine lv_icmp_ne (tgt := 124) hx hb d_T_result_115 (by decide) (fun _ => ?_) (fun c9 => absurd c9 (by decide : ¬ (nI 4) = 16))
    refine lv_iload_n hx hb d_T_result_124 rfl (lv_at hl 4 rfl) ?_
    refine lv_iload_n hx hb d_T_result_125 rfl (lv_at hl 3 rfl) ?_
    refine lv_iload hx hb d_T_result_126 (lv_at hl 2 rfl) ?_
    refine ccSW SF M (c_T_two l 4 (V (r7 (Aa j))) (V (r7 (Bb j))) (by decide)) g_T_57 hd_T_two ⟨Nat.le_of_ble_eq_true rfl, Nat.le_of_ble_eq_true rfl⟩ hl.1 rfl (Nat.le_of_ble_eq_true rfl) d_T_result_128 ⟨Nat.zero_le _, Nat.zero_le _⟩ (fun r H locs hu M => ?_)
    exact retI SF hlk hr () (hu.trans (resF_e (by decide) _ _ _ _)) M d_T_result_131
  · refine lv_iload_n hx hb d_T_result_58 rfl (lv_at hl 4 rfl) ?_
    refine lv_if_ne (tgt := 69) hx hb d_T_result_59 (by decide) (fun _ => ?_) (fun c9 => absurd c9 (by decide : ¬ (nI 5) = 0))
    refine lv_iload_n hx hb d_T_result_69 rfl (lv_at hl 4 rfl) ?_
    refine lv_iconst hx hb d_T_result_70 ki_1 ?_
    refine lv_icmp_ne (tgt := 76) hx hb d_T_result_71 (by decide) (fun _ => ?_) (fun c9 => absurd c9 (by decide : ¬ (nI 5) = 1))
    refine lv_iload_n hx hb d_T_result_76 rfl (lv_at hl 4 rfl) ?_
    refine lv_bipush hx hb d_T_result_77 kb_11 ?_
    refine lv_icmp_ne (tgt := 87) hx hb d_T_result_79 (by decide) (fun _ => ?_) (fun c9 => absurd c9 (by decide : ¬ (nI 5) = 11))
    refine lv_iload_n hx hb d_T_result_87 rfl (lv_at hl 4 rfl) ?_
    refine lv_bipush hx hb d_T_result_88 kb_12 ?_
    refine lv_icmp_ne (tgt := 100) hx hb d_T_result_90 (by decide) (fun _ => ?_) (fun c9 => absurd c9 (by decide : ¬ (nI 5) = 12))
    refine lv_iload_n hx hb d_T_result_100 rfl (lv_at hl 4 rfl) ?_
    refine lv_bipush hx hb d_T_result_101 kb_15 ?_
    refine lv_icmp_ne (tgt := 112) hx hb d_T_result_103 (by decide) (fun _ => ?_) (fun c9 => absurd c9 (by decide : ¬ (nI 5) = 15))
    refine lv_iload_n hx hb d_T_result_112 rfl (lv_at hl 4 rfl) ?_
    refine lv_bipush hx hb d_T_result_113 kb_16 ?_
    refine lv_icmp_ne (tgt := 124) hx hb d_T_result_115 (by decide) (fun _ => ?_) (fun c9 => absurd c9 (by decide : ¬ (nI 5) = 16))
    refine lv_iload_n hx hb d_T_result_124 rfl (lv_at hl 4 rfl) ?_
    refine lv_iload_n hx hb d_T_result_125 rfl (lv_at hl 3 rfl) ?_
    refine lv_iload hx hb d_T_result_126 (lv_at hl 2 rfl) ?_
    refine ccSW SF M (c_T_two l 5 (V (r7 (Aa j))) (V (r7 (Bb j))) (by decide)) g_T_57 hd_T_two ⟨Nat.le_of_ble_eq_true rfl, Nat.le_of_ble_eq_true rfl⟩ hl.1 rfl (Nat.le_of_ble_eq_true rfl) d_T_result_128 ⟨Nat.zero_le _, Nat.zero_le _⟩ (fun r H locs hu M => ?_)
    exact retI SF hlk hr () (hu.trans (resF_e (by decide) _ _ _ _)) M d_T_result_131
  · refine lv_iload_n hx hb d_T_result_58 rfl (lv_at hl 4 rfl) ?_
    refine lv_if_ne (tgt := 69) hx hb d_T_result_59 (by decide) (fun _ => ?_) (fun c9 => absurd c9 (by decide : ¬ (nI 6) = 0))
    refine lv_iload_n hx hb d_T_result_69 rfl (lv_at hl 4 rfl) ?_
    refine lv_iconst hx hb d_T_result_70 ki_1 ?_
    refine lv_icmp_ne (tgt := 76) hx hb d_T_result_71 (by decide) (fun _ => ?_) (fun c9 => absurd c9 (by decide : ¬ (nI 6) = 1))
    refine lv_iload_n hx hb d_T_result_76 rfl (lv_at hl 4 rfl) ?_
    refine lv_bipush hx hb d_T_result_77 kb_11 ?_
    refine lv_icmp_ne (tgt := 87) hx hb d_T_result_79 (by decide) (fun _ => ?_) (fun c9 => absurd c9 (by decide : ¬ (nI 6) = 11))
    refine lv_iload_n hx hb d_T_result_87 rfl (lv_at hl 4 rfl) ?_
    refine lv_bipush hx hb d_T_result_88 kb_12 ?_
    refine lv_icmp_ne (tgt := 100) hx hb d_T_result_90 (by decide) (fun _ => ?_) (fun c9 => absurd c9 (by decide : ¬ (nI 6) = 12))
    refine lv_iload_n hx hb d_T_result_100 rfl (lv_at hl 4 rfl) ?_
    refine lv_bipush hx hb d_T_result_101 kb_15 ?_
    refine lv_icmp_ne (tgt := 112) hx hb d_T_result_103 (by decide) (fun _ => ?_) (fun c9 => absurd c9 (by decide : ¬ (nI 6) = 15))
    refine lv_iload_n hx hb d_T_result_112 rfl (lv_at hl 4 rfl) ?_
    refine lv_bipush hx hb d_T_result_113 kb_16 ?_
    refine lv_icmp_ne (tgt := 124) hx hb d_T_result_115 (by decide) (fun _ => ?_) (fun c9 => absurd c9 (by decide : ¬ (nI 6) = 16))
    refine lv_iload_n hx hb d_T_result_124 rfl (lv_at hl 4 rfl) ?_
    refine lv_iload_n hx hb d_T_result_125 rfl (lv_at hl 3 rfl) ?_
    refine lv_iload hx hb d_T_result_126 (lv_at hl 2 rfl) ?_
    refine ccSW SF M (c_T_two l 6 (V (r7 (Aa j))) (V (r7 (Bb j))) (by decide)) g_T_57 hd_T_two ⟨Nat.le_of_ble_eq_true rfl, Nat.le_of_ble_eq_true rfl⟩ hl.1 rfl (Nat.le_of_ble_eq_true rfl) d_T_result_128 ⟨Nat.zero_le _, Nat.zero_le _⟩ (fun r H locs hu M => ?_)
    exact retI SF hlk hr () (hu.trans (resF_e (by decide) _ _ _ _)) M d_T_result_131
  · refine lv_iload_n hx hb d_T_result_58 rfl (lv_at hl 4 rfl) ?_
    refine lv_if_ne (tgt := 69) hx hb d_T_result_59 (by decide) (fun _ => ?_) (fun c9 => absurd c9 (by decide : ¬ (nI 7) = 0))
    refine lv_iload_n hx hb d_T_result_69 rfl (lv_at hl 4 rfl) ?_
    refine lv_iconst hx hb d_T_result_70 ki_1 ?_
    refine lv_icmp_ne (tgt := 76) hx hb d_T_result_71 (by decide) (fun _ => ?_) (fun c9 => absurd c9 (by decide : ¬ (nI 7) = 1))
    refine lv_iload_n hx hb d_T_result_76 rfl (lv_at hl 4 rfl) ?_
    refine lv_bipush hx hb d_T_result_77 kb_11 ?_
    refine lv_icmp_ne (tgt := 87) hx hb d_T_result_79 (by decide) (fun _ => ?_) (fun c9 => absurd c9 (by decide : ¬ (nI 7) = 11))
    refine lv_iload_n hx hb d_T_result_87 rfl (lv_at hl 4 rfl) ?_
    refine lv_bipush hx hb d_T_result_88 kb_12 ?_
    refine lv_icmp_ne (tgt := 100) hx hb d_T_result_90 (by decide) (fun _ => ?_) (fun c9 => absurd c9 (by decide : ¬ (nI 7) = 12))
    refine lv_iload_n hx hb d_T_result_100 rfl (lv_at hl 4 rfl) ?_
    refine lv_bipush hx hb d_T_result_101 kb_15 ?_
    refine lv_icmp_ne (tgt := 112) hx hb d_T_result_103 (by decide) (fun _ => ?_) (fun c9 => absurd c9 (by decide : ¬ (nI 7) = 15))
    refine lv_iload_n hx hb d_T_result_112 rfl (lv_at hl 4 rfl) ?_
    refine lv_bipush hx hb d_T_result_113 kb_16 ?_
    refine lv_icmp_ne (tgt := 124) hx hb d_T_result_115 (by decide) (fun _ => ?_) (fun c9 => absurd c9 (by decide : ¬ (nI 7) = 16))
    refine lv_iload_n hx hb d_T_result_124 rfl (lv_at hl 4 rfl) ?_
    refine lv_iload_n hx hb d_T_result_125 rfl (lv_at hl 3 rfl) ?_
    refine lv_iload hx hb d_T_result_126 (lv_at hl 2 rfl) ?_
    refine ccSW SF M (c_T_two l 7 (V (r7 (Aa j))) (V (r7 (Bb j))) (by decide)) g_T_57 hd_T_two ⟨Nat.le_of_ble_eq_true rfl, Nat.le_of_ble_eq_true rfl⟩ hl.1 rfl (Nat.le_of_ble_eq_true rfl) d_T_result_128 ⟨Nat.zero_le _, Nat.zero_le _⟩ (fun r H locs hu M => ?_)
    exact retI SF hlk hr () (hu.trans (resF_e (by decide) _ _ _ _)) M d_T_result_131
  · refine lv_iload_n hx hb d_T_result_58 rfl (lv_at hl 4 rfl) ?_
    refine lv_if_ne (tgt := 69) hx hb d_T_result_59 (by decide) (fun _ => ?_) (fun c9 => absurd c9 (by decide : ¬ (nI 8) = 0))
    refine lv_iload_n hx hb d_T_result_69 rfl (lv_at hl 4 rfl) ?_
    refine lv_iconst hx hb d_T_result_70 ki_1 ?_
    refine lv_icmp_ne (tgt := 76) hx hb d_T_result_71 (by decide) (fun _ => ?_) (fun c9 => absurd c9 (by decide : ¬ (nI 8) = 1))
    refine lv_iload_n hx hb d_T_result_76 rfl (lv_at hl 4 rfl) ?_
    refine lv_bipush hx hb d_T_result_77 kb_11 ?_
    refine lv_icmp_ne (tgt := 87) hx hb d_T_result_79 (by decide) (fun _ => ?_) (fun c9 => absurd c9 (by decide : ¬ (nI 8) = 11))
    refine lv_iload_n hx hb d_T_result_87 rfl (lv_at hl 4 rfl) ?_
    refine lv_bipush hx hb d_T_result_88 kb_12 ?_
    refine lv_icmp_ne (tgt := 100) hx hb d_T_result_90 (by decide) (fun _ => ?_) (fun c9 => absurd c9 (by decide : ¬ (nI 8) = 12))
    refine lv_iload_n hx hb d_T_result_100 rfl (lv_at hl 4 rfl) ?_
    refine lv_bipush hx hb d_T_result_101 kb_15 ?_
    refine lv_icmp_ne (tgt := 112) hx hb d_T_result_103 (by decide) (fun _ => ?_) (fun c9 => absurd c9 (by decide : ¬ (nI 8) = 15))
    refine lv_iload_n hx hb d_T_result_112 rfl (lv_at hl 4 rfl) ?_
    refine lv_bipush hx hb d_T_result_113 kb_16 ?_
    refine lv_icmp_ne (tgt := 124) hx hb d_T_result_115 (by decide) (fun _ => ?_) (fun c9 => absurd c9 (by decide : ¬ (nI 8) = 16))
    refine lv_iload_n hx hb d_T_result_124 rfl (lv_at hl 4 rfl) ?_
    refine lv_iload_n hx hb d_T_result_125 rfl (lv_at hl 3 rfl) ?_
    refine lv_iload hx hb d_T_result_126 (lv_at hl 2 rfl) ?_
    refine ccSW SF M (c_T_two l 8 (V (r7 (Aa j))) (V (r7 (Bb j))) (by decide)) g_T_57 hd_T_two ⟨Nat.le_of_ble_eq_true rfl, Nat.le_of_ble_eq_true rfl⟩ hl.1 rfl (Nat.le_of_ble_eq_true rfl) d_T_result_128 ⟨Nat.zero_le _, Nat.zero_le _⟩ (fun r H locs hu M => ?_)
    exact retI SF hlk hr () (hu.trans (resF_e (by decide) _ _ _ _)) M d_T_result_131
  · refine lv_iload_n hx hb d_T_result_58 rfl (lv_at hl 4 rfl) ?_
    refine lv_if_ne (tgt := 69) hx hb d_T_result_59 (by decide) (fun _ => ?_) (fun c9 => absurd c9 (by decide : ¬ (nI 9) = 0))
    refine lv_iload_n hx hb d_T_result_69 rfl (lv_at hl 4 rfl) ?_
    refine lv_iconst hx hb d_T_result_70 ki_1 ?_
    refine lv_icmp_ne (tgt := 76) hx hb d_T_result_71 (by decide) (fun _ => ?_) (fun c9 => absurd c9 (by decide : ¬ (nI 9) = 1))
    refine lv_iload_n hx hb d_T_result_76 rfl (lv_at hl 4 rfl) ?_
    refine lv_bipush hx hb d_T_result_77 kb_11 ?_
    refine lv_icmp_ne (tgt := 87) hx hb d_T_result_79 (by decide) (fun _ => ?_) (fun c9 => absurd c9 (by decide : ¬ (nI 9) = 11))
    refine lv_iload_n hx hb d_T_result_87 rfl (lv_at hl 4 rfl) ?_
    refine lv_bipush hx hb d_T_result_88 kb_12 ?_
    refine lv_icmp_ne (tgt := 100) hx hb d_T_result_90 (by decide) (fun _ => ?_) (fun c9 => absurd c9 (by decide : ¬ (nI 9) = 12))
    refine lv_iload_n hx hb d_T_result_100 rfl (lv_at hl 4 rfl) ?_
    refine lv_bipush hx hb d_T_result_101 kb_15 ?_
    refine lv_icmp_ne (tgt := 112) hx hb d_T_result_103 (by decide) (fun _ => ?_) (fun c9 => absurd c9 (by decide : ¬ (nI 9) = 15))
    refine lv_iload_n hx hb d_T_result_112 rfl (lv_at hl 4 rfl) ?_
    refine lv_bipush hx hb d_T_result_113 kb_16 ?_
    refine lv_icmp_ne (tgt := 124) hx hb d_T_result_115 (by decide) (fun _ => ?_) (fun c9 => absurd c9 (by decide : ¬ (nI 9) = 16))
    refine lv_iload_n hx hb d_T_result_124 rfl (lv_at hl 4 rfl) ?_
    refine lv_iload_n hx hb d_T_result_125 rfl (lv_at hl 3 rfl) ?_
    refine lv_iload hx hb d_T_result_126 (lv_at hl 2 rfl) ?_
    refine ccSW SF M (c_T_two l 9 (V (r7 (Aa j))) (V (r7 (Bb j))) (by decide)) g_T_57 hd_T_two ⟨Nat.le_of_ble_eq_true rfl, Nat.le_of_ble_eq_true rfl⟩ hl.1 rfl (Nat.le_of_ble_eq_true rfl) d_T_result_128 ⟨Nat.zero_le _, Nat.zero_le _⟩ (fun r H locs hu M => ?_)
    exact retI SF hlk hr () (hu.trans (resF_e (by decide) _ _ _ _)) M d_T_result_131
  · refine lv_iload_n hx hb d_T_result_58 rfl (lv_at hl 4 rfl) ?_
    refine lv_if_ne (tgt := 69) hx hb d_T_result_59 (by decide) (fun _ => ?_) (fun c9 => absurd c9 (by decide : ¬ (nI 10) = 0))
    refine lv_iload_n hx hb d_T_result_69 rfl (lv_at hl 4 rfl) ?_
    refine lv_iconst hx hb d_T_result_70 ki_1 ?_
    refine lv_icmp_ne (tgt := 76) hx hb d_T_result_71 (by decide) (fun _ => ?_) (fun c9 => absurd c9 (by decide : ¬ (nI 10) = 1))
    refine lv_iload_n hx hb d_T_result_76 rfl (lv_at hl 4 rfl) ?_
    refine lv_bipush hx hb d_T_result_77 kb_11 ?_
    refine lv_icmp_ne (tgt := 87) hx hb d_T_result_79 (by decide) (fun _ => ?_) (fun c9 => absurd c9 (by decide : ¬ (nI 10) = 11))
    refine lv_iload_n hx hb d_T_result_87 rfl (lv_at hl 4 rfl) ?_
    refine lv_bipush hx hb d_T_result_88 kb_12 ?_
    refine lv_icmp_ne (tgt := 100) hx hb d_T_result_90 (by decide) (fun _ => ?_) (fun c9 => absurd c9 (by decide : ¬ (nI 10) = 12))
    refine lv_iload_n hx hb d_T_result_100 rfl (lv_at hl 4 rfl) ?_
    refine lv_bipush hx hb d_T_result_101 kb_15 ?_
    refine lv_icmp_ne (tgt := 112) hx hb d_T_result_103 (by decide) (fun _ => ?_) (fun c9 => absurd c9 (by decide : ¬ (nI 10) = 15))
    refine lv_iload_n hx hb d_T_result_112 rfl (lv_at hl 4 rfl) ?_
    refine lv_bipush hx hb d_T_result_113 kb_16 ?_
    refine lv_icmp_ne (tgt := 124) hx hb d_T_result_115 (by decide) (fun _ => ?_) (fun c9 => absurd c9 (by decide : ¬ (nI 10) = 16))
    refine lv_iload_n hx hb d_T_result_124 rfl (lv_at hl 4 rfl) ?_
    refine lv_iload_n hx hb d_T_result_125 rfl (lv_at hl 3 rfl) ?_
    refine lv_iload hx hb d_T_result_126 (lv_at hl 2 rfl) ?_
    refine ccSW SF M (c_T_two l 10 (V (r7 (Aa j))) (V (r7 (Bb j))) (by decide)) g_T_57 hd_T_two ⟨Nat.le_of_ble_eq_true rfl, Nat.le_of_ble_eq_true rfl⟩ hl.1 rfl (Nat.le_of_ble_eq_true rfl) d_T_result_128 ⟨Nat.zero_le _, Nat.zero_le _⟩ (fun r H locs hu M => ?_)
    exact retI SF hlk hr () (hu.trans (resF_e (by decide) _ _ _ _)) M d_T_result_131
  · refine lv_iload_n hx hb d_T_result_58 rfl (lv_at hl 4 rfl) ?_
    refine lv_if_ne (tgt := 69) hx hb d_T_result_59 (by decide) (fun _ => ?_) (fun c9 => absurd c9 (by decide : ¬ (nI 11) = 0))
    refine lv_iload_n hx hb d_T_result_69 rfl (lv_at hl 4 rfl) ?_
    refine lv_iconst hx hb d_T_result_70 ki_1 ?_
    refine lv_icmp_ne (tgt := 76) hx hb d_T_result_71 (by decide) (fun _ => ?_) (fun c9 => absurd c9 (by decide : ¬ (nI 11) = 1))
    refine lv_iload_n hx hb d_T_result_76 rfl (lv_at hl 4 rfl) ?_
    refine lv_bipush hx hb d_T_result_77 kb_11 ?_
    refine lv_icmp_ne (tgt := 87) hx hb d_T_result_79 (by decide) (fun c9 => absurd (by decide : (nI 11) = 11) c9) (fun _ => ?_)
    refine lv_iload_n hx hb d_T_result_82 rfl (lv_at hl 3 rfl) ?_
    refine lv_iload hx hb d_T_result_83 (lv_at hl 1 rfl) ?_
    refine lv_imul hx hb d_T_result_85 ?_
    exact retI SF hlk hr () (resF_11 _ _ _ _) M d_T_result_86
  · refine lv_iload_n hx hb d_T_result_58 rfl (lv_at hl 4 rfl) ?_
    refine lv_if_ne (tgt := 69) hx hb d_T_result_59 (by decide) (fun _ => ?_) (fun c9 => absurd c9 (by decide : ¬ (nI 12) = 0))
    refine lv_iload_n hx hb d_T_result_69 rfl (lv_at hl 4 rfl) ?_
    refine lv_iconst hx hb d_T_result_70 ki_1 ?_
    refine lv_icmp_ne (tgt := 76) hx hb d_T_result_71 (by decide) (fun _ => ?_) (fun c9 => absurd c9 (by decide : ¬ (nI 12) = 1))
    refine lv_iload_n hx hb d_T_result_76 rfl (lv_at hl 4 rfl) ?_
    refine lv_bipush hx hb d_T_result_77 kb_11 ?_
    refine lv_icmp_ne (tgt := 87) hx hb d_T_result_79 (by decide) (fun _ => ?_) (fun c9 => absurd c9 (by decide : ¬ (nI 12) = 11))
    refine lv_iload_n hx hb d_T_result_87 rfl (lv_at hl 4 rfl) ?_
    refine lv_bipush hx hb d_T_result_88 kb_12 ?_
    refine lv_icmp_ne (tgt := 100) hx hb d_T_result_90 (by decide) (fun c9 => absurd (by decide : (nI 12) = 12) c9) (fun _ => ?_)
    refine lv_iload_n hx hb d_T_result_93 rfl (lv_at hl 3 rfl) ?_
    refine lv_iload hx hb d_T_result_94 (lv_at hl 1 rfl) ?_
    refine ccSW SF M (c_T_down l (V (r7 (Aa j))) (nI (2 ^ r15 (Bb j)))) g_T_38 hd_T_down ⟨Nat.le_of_ble_eq_true rfl, Nat.le_of_ble_eq_true rfl⟩ hl.1 rfl (Nat.le_of_ble_eq_true rfl) d_T_result_96 ⟨Nat.zero_le _, Nat.zero_le _⟩ (fun r H locs hu M => ?_)
    exact retI SF hlk hr () (hu.trans (resF_12 _ _ _ _)) M d_T_result_99
  · refine lv_iload_n hx hb d_T_result_58 rfl (lv_at hl 4 rfl) ?_
    refine lv_if_ne (tgt := 69) hx hb d_T_result_59 (by decide) (fun _ => ?_) (fun c9 => absurd c9 (by decide : ¬ (nI 13) = 0))
    refine lv_iload_n hx hb d_T_result_69 rfl (lv_at hl 4 rfl) ?_
    refine lv_iconst hx hb d_T_result_70 ki_1 ?_
    refine lv_icmp_ne (tgt := 76) hx hb d_T_result_71 (by decide) (fun _ => ?_) (fun c9 => absurd c9 (by decide : ¬ (nI 13) = 1))
    refine lv_iload_n hx hb d_T_result_76 rfl (lv_at hl 4 rfl) ?_
    refine lv_bipush hx hb d_T_result_77 kb_11 ?_
    refine lv_icmp_ne (tgt := 87) hx hb d_T_result_79 (by decide) (fun _ => ?_) (fun c9 => absurd c9 (by decide : ¬ (nI 13) = 11))
    refine lv_iload_n hx hb d_T_result_87 rfl (lv_at hl 4 rfl) ?_
    refine lv_bipush hx hb d_T_result_88 kb_12 ?_
    refine lv_icmp_ne (tgt := 100) hx hb d_T_result_90 (by decide) (fun _ => ?_) (fun c9 => absurd c9 (by decide : ¬ (nI 13) = 12))
    refine lv_iload_n hx hb d_T_result_100 rfl (lv_at hl 4 rfl) ?_
    refine lv_bipush hx hb d_T_result_101 kb_15 ?_
    refine lv_icmp_ne (tgt := 112) hx hb d_T_result_103 (by decide) (fun _ => ?_) (fun c9 => absurd c9 (by decide : ¬ (nI 13) = 15))
    refine lv_iload_n hx hb d_T_result_112 rfl (lv_at hl 4 rfl) ?_
    refine lv_bipush hx hb d_T_result_113 kb_16 ?_
    refine lv_icmp_ne (tgt := 124) hx hb d_T_result_115 (by decide) (fun _ => ?_) (fun c9 => absurd c9 (by decide : ¬ (nI 13) = 16))
    refine lv_iload_n hx hb d_T_result_124 rfl (lv_at hl 4 rfl) ?_
    refine lv_iload_n hx hb d_T_result_125 rfl (lv_at hl 3 rfl) ?_
    refine lv_iload hx hb d_T_result_126 (lv_at hl 2 rfl) ?_
    refine ccSW SF M (c_T_two l 13 (V (r7 (Aa j))) (V (r7 (Bb j))) (by decide)) g_T_57 hd_T_two ⟨Nat.le_of_ble_eq_true rfl, Nat.le_of_ble_eq_true rfl⟩ hl.1 rfl (Nat.le_of_ble_eq_true rfl) d_T_result_128 ⟨Nat.zero_le _, Nat.zero_le _⟩ (fun r H locs hu M => ?_)
    exact retI SF hlk hr () (hu.trans (resF_e (by decide) _ _ _ _)) M d_T_result_131
  · refine lv_iload_n hx hb d_T_result_58 rfl (lv_at hl 4 rfl) ?_
    refine lv_if_ne (tgt := 69) hx hb d_T_result_59 (by decide) (fun _ => ?_) (fun c9 => absurd c9 (by decide : ¬ (nI 14) = 0))
    refine lv_iload_n hx hb d_T_result_69 rfl (lv_at hl 4 rfl) ?_
    refine lv_iconst hx hb d_T_result_70 ki_1 ?_
    refine lv_icmp_ne (tgt := 76) hx hb d_T_result_71 (by decide) (fun _ => ?_) (fun c9 => absurd c9 (by decide : ¬ (nI 14) = 1))
    refine lv_iload_n hx hb d_T_result_76 rfl (lv_at hl 4 rfl) ?_
    refine lv_bipush hx hb d_T_result_77 kb_11 ?_
    refine lv_icmp_ne (tgt := 87) hx hb d_T_result_79 (by decide) (fun _ => ?_) (fun c9 => absurd c9 (by decide : ¬ (nI 14) = 11))
    refine lv_iload_n hx hb d_T_result_87 rfl (lv_at hl 4 rfl) ?_
    refine lv_bipush hx hb d_T_result_88 kb_12 ?_
    refine lv_icmp_ne (tgt := 100) hx hb d_T_result_90 (by decide) (fun _ => ?_) (fun c9 => absurd c9 (by decide : ¬ (nI 14) = 12))
    refine lv_iload_n hx hb d_T_result_100 rfl (lv_at hl 4 rfl) ?_
    refine lv_bipush hx hb d_T_result_101 kb_15 ?_
    refine lv_icmp_ne (tgt := 112) hx hb d_T_result_103 (by decide) (fun _ => ?_) (fun c9 => absurd c9 (by decide : ¬ (nI 14) = 15))
    refine lv_iload_n hx hb d_T_result_112 rfl (lv_at hl 4 rfl) ?_
    refine lv_bipush hx hb d_T_result_113 kb_16 ?_
    refine lv_icmp_ne (tgt := 124) hx hb d_T_result_115 (by decide) (fun _ => ?_) (fun c9 => absurd c9 (by decide : ¬ (nI 14) = 16))
    refine lv_iload_n hx hb d_T_result_124 rfl (lv_at hl 4 rfl) ?_
    refine lv_iload_n hx hb d_T_result_125 rfl (lv_at hl 3 rfl) ?_
    refine lv_iload hx hb d_T_result_126 (lv_at hl 2 rfl) ?_
    refine ccSW SF M (c_T_two l 14 (V (r7 (Aa j))) (V (r7 (Bb j))) (by decide)) g_T_57 hd_T_two ⟨Nat.le_of_ble_eq_true rfl, Nat.le_of_ble_eq_true rfl⟩ hl.1 rfl (Nat.le_of_ble_eq_true rfl) d_T_result_128 ⟨Nat.zero_le _, Nat.zero_le _⟩ (fun r H locs hu M => ?_)
    exact retI SF hlk hr () (hu.trans (resF_e (by decide) _ _ _ _)) M d_T_result_131
  · refine lv_iload_n hx hb d_T_result_58 rfl (lv_at hl 4 rfl) ?_
    refine lv_if_ne (tgt := 69) hx hb d_T_result_59 (by decide) (fun _ => ?_) (fun c9 => absurd c9 (by decide : ¬ (nI 15) = 0))
    refine lv_iload_n hx hb d_T_result_69 rfl (lv_at hl 4 rfl) ?_
    refine lv_iconst hx hb d_T_result_70 ki_1 ?_
    refine lv_icmp_ne (tgt := 76) hx hb d_T_result_71 (by decide) (fun _ => ?_) (fun c9 => absurd c9 (by decide : ¬ (nI 15) = 1))
    refine lv_iload_n hx hb d_T_result_76 rfl (lv_at hl 4 rfl) ?_
    refine lv_bipush hx hb d_T_result_77 kb_11 ?_
    refine lv_icmp_ne (tgt := 87) hx hb d_T_result_79 (by decide) (fun _ => ?_) (fun c9 => absurd c9 (by decide : ¬ (nI 15) = 11))
    refine lv_iload_n hx hb d_T_result_87 rfl (lv_at hl 4 rfl) ?_
    refine lv_bipush hx hb d_T_result_88 kb_12 ?_
    refine lv_icmp_ne (tgt := 100) hx hb d_T_result_90 (by decide) (fun _ => ?_) (fun c9 => absurd c9 (by decide : ¬ (nI 15) = 12))
    refine lv_iload_n hx hb d_T_result_100 rfl (lv_at hl 4 rfl) ?_
    refine lv_bipush hx hb d_T_result_101 kb_15 ?_
    refine lv_icmp_ne (tgt := 112) hx hb d_T_result_103 (by decide) (fun c9 => absurd (by decide : (nI 15) = 15) c9) (fun _ => ?_)
    refine lv_iload hx hb d_T_result_106 (lv_at hl 0 rfl) ?_
    rw [ek]
    refine ccSW SF M (c_T_root l k hk) g_T_51 hd_T_root ⟨Nat.le_of_ble_eq_true rfl, Nat.le_of_ble_eq_true rfl⟩ hl.1 rfl (Nat.le_of_ble_eq_true rfl) d_T_result_108 ⟨Nat.zero_le _, Nat.zero_le _⟩ (fun r H locs hu M => ?_)
    exact retI SF hlk hr () (by rw [hu, ← resF_15, ek, nI_clamp (by omega)]) M d_T_result_111
  · refine lv_iload_n hx hb d_T_result_58 rfl (lv_at hl 4 rfl) ?_
    refine lv_if_ne (tgt := 69) hx hb d_T_result_59 (by decide) (fun _ => ?_) (fun c9 => absurd c9 (by decide : ¬ (nI 16) = 0))
    refine lv_iload_n hx hb d_T_result_69 rfl (lv_at hl 4 rfl) ?_
    refine lv_iconst hx hb d_T_result_70 ki_1 ?_
    refine lv_icmp_ne (tgt := 76) hx hb d_T_result_71 (by decide) (fun _ => ?_) (fun c9 => absurd c9 (by decide : ¬ (nI 16) = 1))
    refine lv_iload_n hx hb d_T_result_76 rfl (lv_at hl 4 rfl) ?_
    refine lv_bipush hx hb d_T_result_77 kb_11 ?_
    refine lv_icmp_ne (tgt := 87) hx hb d_T_result_79 (by decide) (fun _ => ?_) (fun c9 => absurd c9 (by decide : ¬ (nI 16) = 11))
    refine lv_iload_n hx hb d_T_result_87 rfl (lv_at hl 4 rfl) ?_
    refine lv_bipush hx hb d_T_result_88 kb_12 ?_
    refine lv_icmp_ne (tgt := 100) hx hb d_T_result_90 (by decide) (fun _ => ?_) (fun c9 => absurd c9 (by decide : ¬ (nI 16) = 12))
    refine lv_iload_n hx hb d_T_result_100 rfl (lv_at hl 4 rfl) ?_
    refine lv_bipush hx hb d_T_result_101 kb_15 ?_
    refine lv_icmp_ne (tgt := 112) hx hb d_T_result_103 (by decide) (fun _ => ?_) (fun c9 => absurd c9 (by decide : ¬ (nI 16) = 15))
    refine lv_iload_n hx hb d_T_result_112 rfl (lv_at hl 4 rfl) ?_
    refine lv_bipush hx hb d_T_result_113 kb_16 ?_
    refine lv_icmp_ne (tgt := 124) hx hb d_T_result_115 (by decide) (fun c9 => absurd (by decide : (nI 16) = 16) c9) (fun _ => ?_)
    refine lv_iload hx hb d_T_result_118 (lv_at hl 0 rfl) ?_
    rw [ek]
    refine ccSW SF M (c_T_ones l k hk) g_T_54 hd_T_ones ⟨Nat.le_of_ble_eq_true rfl, Nat.le_of_ble_eq_true rfl⟩ hl.1 rfl (Nat.le_of_ble_eq_true rfl) d_T_result_120 ⟨Nat.zero_le _, Nat.zero_le _⟩ (fun r H locs hu M => ?_)
    exact retI SF hlk hr () (by rw [hu, ← resF_16, ek, nI_clamp (by omega)]) M d_T_result_123
set_option maxHeartbeats 4000000 in
set_option maxRecDepth 100000 in
/-- carryOut(j) -/
theorem c_T_carryOut (l : Launch) (D : va_G) (h : Nat → Nat) (cs : Nat → ClassId) (ln nx : Int32) (V O Dd Aa Bb : Nat → Int32) (j o d : Nat) (hj : j < 32) (eo : O j = nI o) (ho : o ≤ 18) (ed : Dd j = nI d) (hd : d < 8) (hV : rngV V) : CtV l y_T_carryOut b_T_carryOut 5 (rmm 3 70) D (tysT cs) [.ref (h 0), .int (nI j)] (tW h cs ln nx V O Dd Aa Bb) (fun _ : Unit => True) (fun _ => tW h cs ln (nI (lnN o (V (r7 (Aa j))) (Bb j) j)) (lnV o d V (V (r7 (Aa j))) (V (r7 (Bb j))) (Aa j) (Bb j)) O Dd Aa Bb) := by
  refine CtV.of R_T (by decide) rfl (Nat.le_of_ble_eq_true rfl) ?_
  intro p e s m args below meth c A ls SF hlk hr M hl
  have hx := SF.1
  have hb := SF.2.1
  have hl : lv_has ls 5 [(0, .ref (h 0)), (1, .int (nI j))] := hl
  refine lv_aload_n hx hb d_T_carryOut_0 rfl (lv_at hl 0 rfl) ?_
  refine gT_variable SF M d_T_carryOut_1 ?_
  refine lv_aload_n hx hb d_T_carryOut_4 rfl (lv_at hl 0 rfl) ?_
  refine gT_left SF M d_T_carryOut_5 ?_
  refine lv_iload_n hx hb d_T_carryOut_8 rfl (lv_at hl 1 rfl) ?_
  refine aT_left SF M j rfl hj d_T_carryOut_9 ?_
  refine lv_bipush hx hb d_T_carryOut_10 kb_7 ?_
  refine lv_iand hx hb d_T_carryOut_12 ?_
  rw [ix7]
  refine aT_variable SF M (r7 (Aa j)) rfl (r7_lt _) d_T_carryOut_13 ?_
  refine lv_istore_n (lv' := [(2, .int (V (r7 (Aa j)))), (0, .ref (h 0)), (1, .int (nI j))]) hx hb d_T_carryOut_14 rfl hl (by decide) rfl (fun ls hl => ?_)
  refine lv_aload_n hx hb d_T_carryOut_15 rfl (lv_at hl 1 rfl) ?_
  refine gT_right SF M d_T_carryOut_16 ?_
  refine lv_iload_n hx hb d_T_carryOut_19 rfl (lv_at hl 2 rfl) ?_
  refine aT_right SF M j rfl hj d_T_carryOut_20 ?_
  refine lv_istore_n (lv' := [(3, .int (Bb j)), (2, .int (V (r7 (Aa j)))), (0, .ref (h 0)), (1, .int (nI j))]) hx hb d_T_carryOut_21 rfl hl (by decide) rfl (fun ls hl => ?_)
  refine lv_aload_n hx hb d_T_carryOut_22 rfl (lv_at hl 2 rfl) ?_
  refine lv_iload_n hx hb d_T_carryOut_23 rfl (lv_at hl 3 rfl) ?_
  refine lv_iconst hx hb d_T_carryOut_24 ki_1 ?_
  refine lv_iadd hx hb d_T_carryOut_25 ?_
  rw [nI_1]
  refine pT_next SF M d_T_carryOut_26 (fun H locs M => ?_)
  refine lv_aload_n hx hb d_T_carryOut_29 rfl (lv_at hl 2 rfl) ?_
  refine gT_op SF M d_T_carryOut_30 ?_
  refine lv_iload_n hx hb d_T_carryOut_33 rfl (lv_at hl 3 rfl) ?_
  refine aT_op SF M j rfl hj d_T_carryOut_34 ?_
  rw [eo]
  refine lv_bipush hx hb d_T_carryOut_35 kb_17 ?_
  refine lv_icmp_ne (tgt := 60) hx hb d_T_carryOut_37 (by decide) (fun c17 => ?_) (fun c17 => ?_)
  · have ho17 : ¬ o = 17 := fun q9 => c17 (by rw [q9]; rfl)
    refine lv_aload_n hx hb d_T_carryOut_60 rfl (lv_at hl 2 rfl) ?_
    refine gT_op SF M d_T_carryOut_61 ?_
    refine lv_iload_n hx hb d_T_carryOut_64 rfl (lv_at hl 3 rfl) ?_
    refine aT_op SF M j rfl hj d_T_carryOut_65 ?_
    rw [eo]
    refine lv_bipush hx hb d_T_carryOut_66 kb_18 ?_
    refine lv_icmp_ne (tgt := 101) hx hb d_T_carryOut_68 (by decide) (fun c18 => ?_) (fun c18 => ?_)
    · have ho18 : ¬ o = 18 := fun q9 => c18 (by rw [q9]; rfl)
      refine lv_aload_n hx hb d_T_carryOut_101 rfl (lv_at hl 2 rfl) ?_
      refine lv_iload_n hx hb d_T_carryOut_102 rfl (lv_at hl 3 rfl) ?_
      refine ccI SF M (c_T_result l D h cs ln (nI (j + 1)) V O Dd Aa Bb j o hj eo (by omega) hV) g_T_61 hd_T_result ⟨Nat.le_of_ble_eq_true rfl, Nat.le_of_ble_eq_true rfl⟩ (ci := 1) rfl rfl hl.1 rfl (Nat.le_of_ble_eq_true rfl) d_T_carryOut_103 ⟨Nat.zero_le _, Nat.zero_le _⟩ (fun r u H locs hu M => ?_)
      subst hu
      refine lv_istore (lv' := [(4, .int (resF o (V (r7 (Aa j))) (V (r7 (Bb j))) (Aa j) (r15 (Bb j)))), (3, .int (Bb j)), (2, .int (V (r7 (Aa j)))), (0, .ref (h 0)), (1, .int (nI j))]) hx hb d_T_carryOut_106 hl (by decide) rfl (fun ls hl => ?_)
      refine lv_aload_n hx hb d_T_carryOut_108 rfl (lv_at hl 3 rfl) ?_
      refine gT_variable SF M d_T_carryOut_109 ?_
      refine lv_aload_n hx hb d_T_carryOut_112 rfl (lv_at hl 3 rfl) ?_
      refine gT_dst SF M d_T_carryOut_113 ?_
      refine lv_iload_n hx hb d_T_carryOut_116 rfl (lv_at hl 4 rfl) ?_
      refine aT_dst SF M j rfl hj d_T_carryOut_117 ?_
      rw [ed]
      refine lv_iload hx hb d_T_carryOut_118 (lv_at hl 0 rfl) ?_
      refine ccSW SF M (c_T_wrapped l (resF o (V (r7 (Aa j))) (V (r7 (Bb j))) (Aa j) (r15 (Bb j)))) g_T_34 hd_T_wrapped ⟨Nat.le_of_ble_eq_true rfl, Nat.le_of_ble_eq_true rfl⟩ hl.1 rfl (Nat.le_of_ble_eq_true rfl) d_T_carryOut_120 ⟨Nat.zero_le _, Nat.zero_le _⟩ (fun r H locs hu M => ?_)
      subst hu
      refine sT_variable SF M d rfl hd d_T_carryOut_123 (fun H locs M => ?_)
      have e1 : j + 1 = lnN o (V (r7 (Aa j))) (Bb j) j := by rw [lnN, if_neg ho17, if_neg ho18]
      have eV : upd V d (wrapF (resF o (V (r7 (Aa j))) (V (r7 (Bb j))) (Aa j) (r15 (Bb j)))) = lnV o d V (V (r7 (Aa j))) (V (r7 (Bb j))) (Aa j) (Bb j) := by rw [lnV, if_neg (fun q9 => q9.elim ho17 ho18)]
      refine retV SF hlk hr () trivial ?_ d_T_carryOut_124
      show WW _ _ _ _ (tW h cs ln (nI (lnN o (V (r7 (Aa j))) (Bb j) j)) (lnV o d V (V (r7 (Aa j))) (V (r7 (Bb j))) (Aa j) (Bb j)) O Dd Aa Bb) _ _
      rw [← e1, ← eV]
      exact M
    · have ho18 : o = 18 := nI_is (by omega) (by decide) c18
      refine lv_iload_n hx hb d_T_carryOut_71 rfl (lv_at hl 1 rfl) ?_
      refine lv_if_eq (tgt := 124) hx hb d_T_carryOut_72 (by decide) (fun cx => ?_) (fun cx => ?_)
      · have e1 : j + 1 = lnN o (V (r7 (Aa j))) (Bb j) j := by rw [lnN, if_neg ho17, if_pos ho18, if_pos cx]
        have eV : V = lnV o d V (V (r7 (Aa j))) (V (r7 (Bb j))) (Aa j) (Bb j) := by rw [lnV, if_pos (Or.inr ho18)]
        refine retV SF hlk hr () trivial ?_ d_T_carryOut_124
        show WW _ _ _ _ (tW h cs ln (nI (lnN o (V (r7 (Aa j))) (Bb j) j)) (lnV o d V (V (r7 (Aa j))) (V (r7 (Bb j))) (Aa j) (Bb j)) O Dd Aa Bb) _ _
        rw [← e1, ← eV]
        exact M
      · have hr31 := r31_lt (Bb j)
        have e1 : j - r31 (Bb j) = lnN o (V (r7 (Aa j))) (Bb j) j := by rw [lnN, if_neg ho17, if_pos ho18, if_neg cx]
        have eV : V = lnV o d V (V (r7 (Aa j))) (V (r7 (Bb j))) (Aa j) (Bb j) := by rw [lnV, if_pos (Or.inr ho18)]
        refine lv_aload_n hx hb d_T_carryOut_75 rfl (lv_at hl 2 rfl) ?_
        refine lv_iload_n hx hb d_T_carryOut_76 rfl (lv_at hl 3 rfl) ?_
        refine lv_iload_n hx hb d_T_carryOut_77 rfl (lv_at hl 0 rfl) ?_
        refine lv_bipush hx hb d_T_carryOut_78 kb_31 ?_
        refine lv_iand hx hb d_T_carryOut_80 ?_
        refine lv_isub hx hb d_T_carryOut_81 ?_
        rw [ix31]
        refine lv_if_ge (tgt := 89) hx hb d_T_carryOut_82 (by decide) (fun cb => ?_) (fun cb => ?_)
        · have hle : r31 (Bb j) ≤ j := Nat.not_lt.mp (fun q9 => absurd (Int32.lt_iff_toInt_lt.mp (pk_sneg (by omega) q9)) (Int.not_lt.mpr (Int32.le_iff_toInt_le.mp cb)))
          refine lv_iload_n hx hb d_T_carryOut_89 rfl (lv_at hl 3 rfl) ?_
          refine lv_iload_n hx hb d_T_carryOut_90 rfl (lv_at hl 0 rfl) ?_
          refine lv_bipush hx hb d_T_carryOut_91 kb_31 ?_
          refine lv_iand hx hb d_T_carryOut_93 ?_
          refine lv_isub hx hb d_T_carryOut_94 ?_
          rw [ix31, pk_sub hle]
          refine pT_next SF M d_T_carryOut_95 (fun H locs M => ?_)
          refine lv_goto (tgt := 124) hx hb d_T_carryOut_98 (by decide) ?_
          refine retV SF hlk hr () trivial ?_ d_T_carryOut_124
          show WW _ _ _ _ (tW h cs ln (nI (lnN o (V (r7 (Aa j))) (Bb j) j)) (lnV o d V (V (r7 (Aa j))) (V (r7 (Bb j))) (Aa j) (Bb j)) O Dd Aa Bb) _ _
          rw [← e1, ← eV]
          exact M
        · have hle : j < r31 (Bb j) := Nat.not_le.mp (fun q9 => cb (by rw [pk_sub q9]; exact nI_pos' (by omega)))
          refine lv_iconst hx hb d_T_carryOut_85 ki_0 ?_
          refine lv_goto (tgt := 95) hx hb d_T_carryOut_86 (by decide) ?_
          refine pT_next SF M d_T_carryOut_95 (fun H locs M => ?_)
          refine lv_goto (tgt := 124) hx hb d_T_carryOut_98 (by decide) ?_
          refine retV SF hlk hr () trivial ?_ d_T_carryOut_124
          show WW _ _ _ _ (tW h cs ln (nI (lnN o (V (r7 (Aa j))) (Bb j) j)) (lnV o d V (V (r7 (Aa j))) (V (r7 (Bb j))) (Aa j) (Bb j)) O Dd Aa Bb) _ _
          rw [← e1, ← eV, Nat.sub_eq_zero_of_le (Nat.le_of_lt hle)]
          exact M
  · have ho17 : o = 17 := nI_is (by omega) (by decide) c17
    refine lv_iload_n hx hb d_T_carryOut_40 rfl (lv_at hl 1 rfl) ?_
    refine lv_if_ne (tgt := 124) hx hb d_T_carryOut_41 (by decide) (fun cx => ?_) (fun cx => ?_)
    · have M : WW D (tysT cs) A s (tW h cs ln (nI (j + 1)) V O Dd Aa Bb) H locs := M
      have e1 : j + 1 = lnN o (V (r7 (Aa j))) (Bb j) j := by rw [lnN, if_pos ho17, if_neg cx]
      have eV : V = lnV o d V (V (r7 (Aa j))) (V (r7 (Bb j))) (Aa j) (Bb j) := by rw [lnV, if_pos (Or.inl ho17)]
      refine retV SF hlk hr () trivial ?_ d_T_carryOut_124
      show WW _ _ _ _ (tW h cs ln (nI (lnN o (V (r7 (Aa j))) (Bb j) j)) (lnV o d V (V (r7 (Aa j))) (V (r7 (Bb j))) (Aa j) (Bb j)) O Dd Aa Bb) _ _
      rw [← e1, ← eV]
      exact M
    · refine lv_aload_n hx hb d_T_carryOut_44 rfl (lv_at hl 2 rfl) ?_
      refine lv_dup hx hb d_T_carryOut_45 rfl ?_
      refine gT_next SF M d_T_carryOut_46 ?_
      refine lv_iload_n hx hb d_T_carryOut_49 rfl (lv_at hl 0 rfl) ?_
      refine lv_bipush hx hb d_T_carryOut_50 kb_7 ?_
      refine lv_iand hx hb d_T_carryOut_52 ?_
      refine lv_iadd hx hb d_T_carryOut_53 ?_
      rw [ix7, nI_add]
      refine pT_next SF M d_T_carryOut_54 (fun H locs M => ?_)
      refine lv_goto (tgt := 124) hx hb d_T_carryOut_57 (by decide) ?_
      have e1 : j + 1 + r7 (Bb j) = lnN o (V (r7 (Aa j))) (Bb j) j := by rw [lnN, if_pos ho17, if_pos cx]
      have eV : V = lnV o d V (V (r7 (Aa j))) (V (r7 (Bb j))) (Aa j) (Bb j) := by rw [lnV, if_pos (Or.inl ho17)]
      refine retV SF hlk hr () trivial ?_ d_T_carryOut_124
      show WW _ _ _ _ (tW h cs ln (nI (lnN o (V (r7 (Aa j))) (Bb j) j)) (lnV o d V (V (r7 (Aa j))) (V (r7 (Bb j))) (Aa j) (Bb j)) O Dd Aa Bb) _ _
      rw [← e1, ← eV]
      exact M
section ModelRun
variable {p : Program} {l : Launch} {e : Env} {R : Room} {s : State} {m : MethodId} {args : Array Value} {below : List Frame} {meth : Method} {c : Code} {cells slots : Nat} {Q : State → Prop}
variable {D : va_G} {A : Nat → Prop} {h : Nat → Nat} {cs : Nat → ClassId}
variable {O Dd Aa Bb : Nat → Int32}
set_option maxHeartbeats 4000000 in
set_option maxRecDepth 100000 in
theorem lp_Trun (SF : CallFix p m c b_T_run 4 s args mt_tbl R_T) (hR : 4 ≤ R.frames ∧ 94 ≤ R.locals) {b : Int32} {N lim cf : Nat} {qf : Nat × (Nat → Int32)} (hN : N ≤ 32) (hlim : lim ≤ 60) (hok : okP O Dd N)
    (kx : ∀ (H : Heap) (locs : List Loc) (ls : Array Slot) (pc : Nat), decode b_T_run pc = .ok (.ireturn, 1) → WW D (tysT cs) A s (tW h cs (nI N) (nI qf.1) qf.2 O Dd Aa Bb) H locs → W p l e R s m args below meth c H locs 0 0 Q (F0 m pc ls [.int (nI cf)])) :
    ∀ (n d j : Nat) (V : Nat → Int32), d + n = lim → j ≤ 40 → rngV V → d + (rnF O Dd Aa Bb N n (j, V)).1 = cf → (rnF O Dd Aa Bb N n (j, V)).2 = qf → ∀ (H : Heap) (locs : List Loc) (ls : Array Slot), WW D (tysT cs) A s (tW h cs (nI N) (nI j) V O Dd Aa Bb) H locs → lv_has ls 4 [(0, .ref (h 0)), (1, .int b), (2, .int (nI lim)), (3, .int (nI d))] → W p l e R s m args below meth c H locs 0 0 Q (F0 m 23 ls []) := by
  have hx := SF.1
  have hb := SF.2.1
  intro n
  induction n with
  | zero =>
    intro d j V hd hj hV h1 h2 H locs ls M hl
    rw [rnF_0] at h1 h2
    subst h1
    subst h2
    obtain rfl : d = lim := by omega
    refine lv_iload_n hx hb d_T_run_23 rfl (lv_at hl 3 rfl) ?_
    refine lv_iload_n hx hb d_T_run_24 rfl (lv_at hl 2 rfl) ?_
    refine lv_icmp_ge (tgt := 55) hx hb d_T_run_25 (by decide) (fun _ => ?_) (fun c9 => absurd (nI_le (Nat.le_refl d) (by omega) : nI d ≤ nI d) c9)
    refine lv_iload_n hx hb d_T_run_55 rfl (lv_at hl 2 rfl) ?_
    exact kx H locs ls _ d_T_run_56 M
  | succ n ih =>
    intro d j V hd hj hV h1 h2 H locs ls M hl
    refine lv_iload_n hx hb d_T_run_23 rfl (lv_at hl 3 rfl) ?_
    refine lv_iload_n hx hb d_T_run_24 rfl (lv_at hl 2 rfl) ?_
    refine lv_icmp_ge (tgt := 55) hx hb d_T_run_25 (by decide) (fun c9 => absurd c9 (nI_ge (by omega) (by omega) : ¬ nI lim ≤ nI d)) (fun _ => ?_)
    refine lv_aload_n hx hb d_T_run_28 rfl (lv_at hl 0 rfl) ?_
    refine gT_next SF M d_T_run_29 ?_
    refine lv_aload_n hx hb d_T_run_32 rfl (lv_at hl 0 rfl) ?_
    refine gT_lines SF M d_T_run_33 ?_
    rcases Nat.lt_or_ge j N with hjN | hjN
    · refine lv_icmp_lt (tgt := 41) hx hb d_T_run_36 (by decide) (fun _ => ?_) (fun c9 => absurd (nI_lt hjN (by omega) : nI j < nI N) c9)
      rw [rnF_go (q := (j, V)) hjN] at h1 h2
      obtain ⟨⟨o, ho, eo⟩, dd, hdd, ed⟩ := hok j hjN
      rw [stF_of ho hdd eo ed] at h1 h2
      refine lv_aload_n hx hb d_T_run_41 rfl (lv_at hl 0 rfl) ?_
      refine lv_aload_n hx hb d_T_run_42 rfl (lv_at hl 0 rfl) ?_
      refine gT_next SF M d_T_run_43 ?_
      refine ccV SF M (c_T_carryOut l D h cs (nI N) (nI j) V O Dd Aa Bb j o dd (by omega) eo ho ed hdd hV) g_T_64 hd_T_carryOut hR (ci := 1) rfl rfl hl.1 rfl (Nat.le_of_ble_eq_true rfl) d_T_run_46 ⟨Nat.zero_le _, Nat.zero_le _⟩ (fun u H locs hu M => ?_)
      refine lv_iinc (v := nI (d + 1)) (lv' := [(3, .int (nI (d + 1))), (0, .ref (h 0)), (1, .int b), (2, .int (nI lim))]) hx hb d_T_run_49 hl (k := 3) rfl (nI_1 _) (by decide) rfl (fun ls hl => ?_)
      refine lv_goto (tgt := 23) hx hb d_T_run_52 (by decide) ?_
      exact ih (d + 1) _ _ (by omega) (lnN_le _ _ _ (by omega)) (lnV_rng hV _ _ _ _ _ _) (by omega) h2 H locs ls M (lv_sub hl [1, 2, 3, 0] rfl)
    · refine lv_icmp_lt (tgt := 41) hx hb d_T_run_36 (by decide) (fun c9 => absurd c9 (nI_nlt hjN (by omega) : ¬ nI j < nI N)) (fun _ => ?_)
      rw [rnF_no (q := (j, V)) (Nat.not_lt.mpr hjN)] at h1 h2
      subst h1
      subst h2
      refine lv_iload_n hx hb d_T_run_39 rfl (lv_at hl 3 rfl) ?_
      exact kx H locs ls _ d_T_run_40 M
end ModelRun
set_option maxHeartbeats 4000000 in
set_option maxRecDepth 100000 in
/-- run(b) -/
theorem c_T_run (l : Launch) (D : va_G) (h : Nat → Nat) (cs : Nat → ClassId) (b : Int32) (V O Dd Aa Bb : Nat → Int32) (N j : Nat) (hN : N ≤ 32) (hj : j ≤ 40) (hok : okP O Dd N) (hV : rngV V) : CtI l y_T_run b_T_run 4 .int (rmm 4 94) D (tysT cs) [.ref (h 0), .int b] (tW h cs (nI N) (nI j) V O Dd Aa Bb) (fun (z : Int32) (_ : Unit) => z = nI (rnF O Dd Aa Bb N (limN b) (j, V)).1) (fun _ => tW h cs (nI N) (nI (rnF O Dd Aa Bb N (limN b) (j, V)).2.1) ((rnF O Dd Aa Bb N (limN b) (j, V)).2.2) O Dd Aa Bb) := by
  refine CtI.of R_T (by decide) rfl (Nat.le_of_ble_eq_true rfl) ?_
  intro p e s m args below meth c A ls SF hlk hr M hl
  have hx := SF.1
  have hb := SF.2.1
  have hl : lv_has ls 4 [(0, .ref (h 0)), (1, .int b)] := hl
  have hj0 : ∀ z : Int32, z = nI (limN b) → W p l e (rmm 4 94) s m args below meth c s.heap [] 0 0 (MQ below (va_Qi (fun (z : Int32) (_ : Unit) => z = nI (rnF O Dd Aa Bb N (limN b) (j, V)).1) (CtB D (tysT cs) A (fun _ => tW h cs (nI N) (nI (rnF O Dd Aa Bb N (limN b) (j, V)).2.1) ((rnF O Dd Aa Bb N (limN b) (j, V)).2.2) O Dd Aa Bb)) A) args s 0 0 A) (F0 m 20 ls [.int z]) := by
    intro z ez
    subst ez
    refine lv_istore_n (lv' := [(2, .int (nI (limN b))), (0, .ref (h 0)), (1, .int b)]) hx hb d_T_run_20 rfl hl (by decide) rfl (fun ls hl => ?_)
    refine lv_iconst hx hb d_T_run_21 ki_0 ?_
    refine lv_istore_n (lv' := [(3, .int 0), (2, .int (nI (limN b))), (0, .ref (h 0)), (1, .int b)]) hx hb d_T_run_22 rfl hl (by decide) rfl (fun ls hl => ?_)
    refine lp_Trun (N := N) (lim := limN b) SF ⟨Nat.le_of_ble_eq_true rfl, Nat.le_of_ble_eq_true rfl⟩ hN (limN_le b) hok (fun H locs ls pc hd M => ?_) (limN b) 0 j V (Nat.zero_add _) hj hV rfl rfl _ _ ls M (lv_sub hl [2, 3, 1, 0] rfl)
    exact retI SF hlk hr () (by rw [Nat.zero_add]) M hd
  refine lv_iload_n hx hb d_T_run_0 rfl (lv_at hl 1 rfl) ?_
  refine lv_if_ge (tgt := 8) hx hb d_T_run_1 (by decide) (fun c0 => ?_) (fun c0 => ?_)
  · refine lv_iload_n hx hb d_T_run_8 rfl (lv_at hl 1 rfl) ?_
    refine lv_bipush hx hb d_T_run_9 kb_60 ?_
    refine lv_icmp_le (tgt := 19) hx hb d_T_run_11 (by decide) (fun c60 => ?_) (fun c60 => ?_)
    · refine lv_iload_n hx hb d_T_run_19 rfl (lv_at hl 1 rfl) ?_
      exact hj0 _ (limN_a c0 c60)
    · refine lv_bipush hx hb d_T_run_14 kb_60 ?_
      refine lv_goto (tgt := 20) hx hb d_T_run_16 (by decide) ?_
      exact hj0 _ (limN_b c0 c60)
  · refine lv_iconst hx hb d_T_run_4 ki_0 ?_
    refine lv_goto (tgt := 20) hx hb d_T_run_5 (by decide) ?_
    exact hj0 _ (limN_c c0)
set_option maxHeartbeats 4000000 in
set_option maxRecDepth 100000 in
theorem c_T_next (l : Launch) (D : va_G) (h : Nat → Nat) (cs : Nat → ClassId) (ln nx : Int32) (V O Dd Aa Bb : Nat → Int32)  : CtI l y_T_next b_T_next 1 .int (rmm 0 0) D (tysT cs) [.ref (h 0)] (tW h cs ln nx V O Dd Aa Bb) (fun (z : Int32) (_ : Unit) => z = nx) (fun _ => tW h cs ln nx V O Dd Aa Bb) := by
  refine CtI.of R_T (by decide) rfl (Nat.le_of_ble_eq_true rfl) ?_
  intro p e s m args below meth c A ls SF hlk hr M hl
  have hx := SF.1
  have hb := SF.2.1
  have hl : lv_has ls 1 [(0, .ref (h 0))] := hl
  refine lv_aload_n hx hb d_T_next_0 rfl (lv_at hl 0 rfl) ?_
  refine gT_next SF M d_T_next_1 ?_
  exact retI SF hlk hr () (rfl) M d_T_next_4
set_option maxHeartbeats 4000000 in
set_option maxRecDepth 100000 in
theorem c_T_rewind (l : Launch) (D : va_G) (h : Nat → Nat) (cs : Nat → ClassId) (ln nx : Int32) (V O Dd Aa Bb : Nat → Int32)  : CtV l y_T_rewind b_T_rewind 1 (rmm 0 0) D (tysT cs) [.ref (h 0)] (tW h cs ln nx V O Dd Aa Bb) (fun _ : Unit => True) (fun _ => tW h cs ln 0 V O Dd Aa Bb) := by
  refine CtV.of R_T (by decide) rfl (Nat.le_of_ble_eq_true rfl) ?_
  intro p e s m args below meth c A ls SF hlk hr M hl
  have hx := SF.1
  have hb := SF.2.1
  have hl : lv_has ls 1 [(0, .ref (h 0))] := hl
  refine lv_aload_n hx hb d_T_rewind_0 rfl (lv_at hl 0 rfl) ?_
  refine lv_iconst hx hb d_T_rewind_1 ki_0 ?_
  refine pT_next SF M d_T_rewind_2 (fun H locs M => ?_)
  exact retV SF hlk hr () trivial M d_T_rewind_5
set_option maxHeartbeats 4000000 in
set_option maxRecDepth 100000 in
theorem c_T_clear (l : Launch) (D : va_G) (h : Nat → Nat) (cs : Nat → ClassId) (ln nx : Int32) (V O Dd Aa Bb : Nat → Int32)  : CtV l y_T_clear b_T_clear 1 (rmm 0 0) D (tysT cs) [.ref (h 0)] (tW h cs ln nx V O Dd Aa Bb) (fun _ : Unit => True) (fun _ => tW h cs 0 0 V O Dd Aa Bb) := by
  refine CtV.of R_T (by decide) rfl (Nat.le_of_ble_eq_true rfl) ?_
  intro p e s m args below meth c A ls SF hlk hr M hl
  have hx := SF.1
  have hb := SF.2.1
  have hl : lv_has ls 1 [(0, .ref (h 0))] := hl
  refine lv_aload_n hx hb d_T_clear_0 rfl (lv_at hl 0 rfl) ?_
  refine lv_iconst hx hb d_T_clear_1 ki_0 ?_
  refine pT_lines SF M d_T_clear_2 (fun H locs M => ?_)
  refine lv_aload_n hx hb d_T_clear_5 rfl (lv_at hl 0 rfl) ?_
  refine lv_iconst hx hb d_T_clear_6 ki_0 ?_
  refine pT_next SF M d_T_clear_7 (fun H locs M => ?_)
  exact retV SF hlk hr () trivial M d_T_clear_10
set_option maxHeartbeats 4000000 in
set_option maxRecDepth 100000 in
theorem c_T_get (l : Launch) (D : va_G) (h : Nat → Nat) (cs : Nat → ClassId) (ln nx : Int32) (V O Dd Aa Bb : Nat → Int32) (i : Int32)  : CtI l y_T_get b_T_get 2 .int (rmm 0 0) D (tysT cs) [.ref (h 0), .int i] (tW h cs ln nx V O Dd Aa Bb) (fun (z : Int32) (_ : Unit) => z = V (r7 i)) (fun _ => tW h cs ln nx V O Dd Aa Bb) := by
  refine CtI.of R_T (by decide) rfl (Nat.le_of_ble_eq_true rfl) ?_
  intro p e s m args below meth c A ls SF hlk hr M hl
  have hx := SF.1
  have hb := SF.2.1
  have hl : lv_has ls 2 [(0, .ref (h 0)), (1, .int i)] := hl
  refine lv_aload_n hx hb d_T_get_0 rfl (lv_at hl 0 rfl) ?_
  refine gT_variable SF M d_T_get_1 ?_
  refine lv_iload_n hx hb d_T_get_4 rfl (lv_at hl 1 rfl) ?_
  refine lv_bipush hx hb d_T_get_5 kb_7 ?_
  refine lv_iand hx hb d_T_get_7 ?_
  rw [ix7]
  refine aT_variable SF M (r7 i) rfl (r7_lt i) d_T_get_8 ?_
  exact retI SF hlk hr () (rfl) M d_T_get_9
set_option maxHeartbeats 4000000 in
set_option maxRecDepth 100000 in
theorem c_T_set (l : Launch) (D : va_G) (h : Nat → Nat) (cs : Nat → ClassId) (ln nx : Int32) (V O Dd Aa Bb : Nat → Int32) (i v : Int32)  : CtV l y_T_set b_T_set 3 (rmm 1 21) D (tysT cs) [.ref (h 0), .int i, .int v] (tW h cs ln nx V O Dd Aa Bb) (fun _ : Unit => True) (fun _ => tW h cs ln nx (upd V (r7 i) (wrapF v)) O Dd Aa Bb) := by
  refine CtV.of R_T (by decide) rfl (Nat.le_of_ble_eq_true rfl) ?_
  intro p e s m args below meth c A ls SF hlk hr M hl
  have hx := SF.1
  have hb := SF.2.1
  have hl : lv_has ls 3 [(0, .ref (h 0)), (1, .int i), (2, .int v)] := hl
  refine lv_aload_n hx hb d_T_set_0 rfl (lv_at hl 0 rfl) ?_
  refine gT_variable SF M d_T_set_1 ?_
  refine lv_iload_n hx hb d_T_set_4 rfl (lv_at hl 1 rfl) ?_
  refine lv_bipush hx hb d_T_set_5 kb_7 ?_
  refine lv_iand hx hb d_T_set_7 ?_
  refine lv_iload_n hx hb d_T_set_8 rfl (lv_at hl 2 rfl) ?_
  refine ccSW SF M (c_T_wrapped l v) g_T_34 hd_T_wrapped ⟨Nat.le_of_ble_eq_true rfl, Nat.le_of_ble_eq_true rfl⟩ hl.1 rfl (Nat.le_of_ble_eq_true rfl) d_T_set_9 ⟨Nat.zero_le _, Nat.zero_le _⟩ (fun r H locs hu M => ?_)
  subst hu
  refine sT_variable SF M (r7 i) (ix7 i) (r7_lt i) d_T_set_12 (fun H locs M => ?_)
  exact retV SF hlk hr () trivial M d_T_set_13
section ModelTotal
variable {p : Program} {l : Launch} {e : Env} {R : Room} {s : State} {m : MethodId} {args : Array Value} {below : List Frame} {meth : Method} {c : Code} {cells slots : Nat} {Q : State → Prop}
variable {D : va_G} {A : Nat → Prop} {h : Nat → Nat} {cs : Nat → ClassId}
variable {ln nx : Int32} {V O Dd Aa Bb : Nat → Int32}
set_option maxHeartbeats 4000000 in
set_option maxRecDepth 100000 in
theorem lp_Ttotal (SF : CallFix p m c b_T_total 3 s args mt_tbl R_T) (hR : 1 ≤ R.frames ∧ 20 ≤ R.locals)
    (kx : ∀ (H : Heap) (locs : List Loc) (ls : Array Slot), WW D (tysT cs) A s (tW h cs ln nx V O Dd Aa Bb) H locs → lv_has ls 3 [(0, .ref (h 0)), (1, .int (totF V 8)), (2, .int (nI 8))] → W p l e R s m args below meth c H locs 0 0 Q (F0 m 28 ls [])) :
    ∀ (n i : Nat), i + n = 8 → ∀ (H : Heap) (locs : List Loc) (ls : Array Slot), WW D (tysT cs) A s (tW h cs ln nx V O Dd Aa Bb) H locs → lv_has ls 3 [(0, .ref (h 0)), (1, .int (totF V i)), (2, .int (nI i))] → W p l e R s m args below meth c H locs 0 0 Q (F0 m 4 ls []) := by
  have hx := SF.1
  have hb := SF.2.1
  intro n
  induction n with
  | zero =>
    intro i hi H locs ls M hl
    obtain rfl : i = 8 := by omega
    refine lv_iload_n hx hb d_T_total_4 rfl (lv_at hl 2 rfl) ?_
    refine lv_bipush hx hb d_T_total_5 kb_8 ?_
    refine lv_icmp_ge (tgt := 28) hx hb d_T_total_7 (by decide) (fun _ => ?_) (fun c9 => absurd (nI_le (Nat.le_refl 8) (by decide) : nI 8 ≤ nI 8) c9)
    exact kx H locs ls M hl
  | succ n ih =>
    intro i hi H locs ls M hl
    refine lv_iload_n hx hb d_T_total_4 rfl (lv_at hl 2 rfl) ?_
    refine lv_bipush hx hb d_T_total_5 kb_8 ?_
    refine lv_icmp_ge (tgt := 28) hx hb d_T_total_7 (by decide) (fun c9 => absurd c9 (nI_ge (by omega) (by decide) : ¬ nI 8 ≤ nI i)) (fun _ => ?_)
    refine lv_iload_n hx hb d_T_total_10 rfl (lv_at hl 1 rfl) ?_
    refine lv_aload_n hx hb d_T_total_11 rfl (lv_at hl 0 rfl) ?_
    refine gT_variable SF M d_T_total_12 ?_
    refine lv_iload_n hx hb d_T_total_15 rfl (lv_at hl 2 rfl) ?_
    refine aT_variable SF M i rfl (by omega) d_T_total_16 ?_
    refine ccSW SF M (c_T_plain l (V i)) g_T_48 hd_T_plain hR hl.1 rfl (Nat.le_of_ble_eq_true rfl) d_T_total_17 ⟨Nat.zero_le _, Nat.zero_le _⟩ (fun r H locs hu M => ?_)
    subst hu
    refine lv_iadd hx hb d_T_total_20 ?_
    refine lv_istore_n (lv' := [(1, .int (totF V (i + 1))), (0, .ref (h 0)), (2, .int (nI i))]) hx hb d_T_total_21 rfl hl (by decide) rfl (fun ls hl => ?_)
    refine lv_iinc (v := nI (i + 1)) (lv' := [(2, .int (nI (i + 1))), (1, .int (totF V (i + 1))), (0, .ref (h 0))]) hx hb d_T_total_22 hl (k := 2) rfl (nI_1 _) (by decide) rfl (fun ls hl => ?_)
    refine lv_goto (tgt := 4) hx hb d_T_total_25 (by decide) ?_
    exact ih (i + 1) (by omega) H locs ls M (lv_sub hl [2, 1, 0] rfl)
end ModelTotal
set_option maxHeartbeats 4000000 in
set_option maxRecDepth 100000 in
theorem c_T_total (l : Launch) (D : va_G) (h : Nat → Nat) (cs : Nat → ClassId) (ln nx : Int32) (V O Dd Aa Bb : Nat → Int32)  : CtI l y_T_total b_T_total 3 .int (rmm 1 20) D (tysT cs) [.ref (h 0)] (tW h cs ln nx V O Dd Aa Bb) (fun (z : Int32) (_ : Unit) => z = totF V 8) (fun _ => tW h cs ln nx V O Dd Aa Bb) := by
  refine CtI.of R_T (by decide) rfl (Nat.le_of_ble_eq_true rfl) ?_
  intro p e s m args below meth c A ls SF hlk hr M hl
  have hx := SF.1
  have hb := SF.2.1
  have hl : lv_has ls 3 [(0, .ref (h 0))] := hl
  refine lv_iconst hx hb d_T_total_0 ki_0 ?_
  refine lv_istore_n (lv' := [(1, .int 0), (0, .ref (h 0))]) hx hb d_T_total_1 rfl hl (by decide) rfl (fun ls hl => ?_)
  refine lv_iconst hx hb d_T_total_2 ki_0 ?_
  refine lv_istore_n (lv' := [(2, .int 0), (1, .int 0), (0, .ref (h 0))]) hx hb d_T_total_3 rfl hl (by decide) rfl (fun ls hl => ?_)
  refine lp_Ttotal SF ⟨Nat.le_of_ble_eq_true rfl, Nat.le_of_ble_eq_true rfl⟩ (fun H locs ls M hl => ?_) 8 0 rfl _ _ ls M (lv_sub hl [2, 1, 0] rfl)
  refine lv_iload_n hx hb d_T_total_28 rfl (lv_at hl 1 rfl) ?_
  exact retI SF hlk hr () (rfl) M d_T_total_29
set_option maxHeartbeats 4000000 in
set_option maxRecDepth 100000 in
theorem c_T_emit_ok (l : Launch) (D : va_G) (h : Nat → Nat) (cs : Nat → ClassId) (nx : Int32) (V O Dd Aa Bb : Nat → Int32) (N : Nat) (op dst a b : Int32) (hok : emOK op N) : CtI l y_T_emit b_T_emit 5 .int (rmm 0 0) D (tysT cs) [.ref (h 0), .int op, .int dst, .int a, .int b] (tW h cs (nI N) nx V O Dd Aa Bb) (fun (z : Int32) (_ : Unit) => z = nI (N + 1)) (fun _ => tW h cs (nI (N + 1)) nx V (upd O N op) (upd Dd N (dst &&& 7)) (upd Aa N a) (upd Bb N b)) := by
  refine CtI.of R_T (by decide) rfl (Nat.le_of_ble_eq_true rfl) ?_
  intro p e s m args below meth c A ls SF hlk hr M hl
  have hx := SF.1
  have hb := SF.2.1
  have hl : lv_has ls 5 [(0, .ref (h 0)), (1, .int op), (2, .int dst), (3, .int a), (4, .int b)] := hl
  have hN := hok.2.2
  refine lv_iload_n hx hb d_T_emit_0 rfl (lv_at hl 1 rfl) ?_
  refine lv_if_lt (tgt := 19) hx hb d_T_emit_1 (by decide) (fun c9 => absurd c9 hok.1) (fun _ => ?_)
  refine lv_iload_n hx hb d_T_emit_4 rfl (lv_at hl 1 rfl) ?_
  refine lv_bipush hx hb d_T_emit_5 kb_18 ?_
  refine lv_icmp_gt (tgt := 19) hx hb d_T_emit_7 (by decide) (fun c9 => absurd c9 hok.2.1) (fun _ => ?_)
  refine lv_aload_n hx hb d_T_emit_10 rfl (lv_at hl 0 rfl) ?_
  refine gT_lines SF M d_T_emit_11 ?_
  refine lv_bipush hx hb d_T_emit_14 kb_32 ?_
  refine lv_icmp_ne (tgt := 21) hx hb d_T_emit_16 (by decide) (fun _ => ?_) (fun c9 => absurd c9 (fun q9 => absurd (nI_is (by omega) (by decide) q9) (Nat.ne_of_lt hok.2.2) : ¬ nI N = 32))
  refine lv_aload_n hx hb d_T_emit_21 rfl (lv_at hl 0 rfl) ?_
  refine gT_op SF M d_T_emit_22 ?_
  refine lv_aload_n hx hb d_T_emit_25 rfl (lv_at hl 0 rfl) ?_
  refine gT_lines SF M d_T_emit_26 ?_
  refine lv_iload_n hx hb d_T_emit_29 rfl (lv_at hl 1 rfl) ?_
  refine sT_op SF M N rfl hok.2.2 d_T_emit_30 (fun H locs M => ?_)
  refine lv_aload_n hx hb d_T_emit_31 rfl (lv_at hl 0 rfl) ?_
  refine gT_dst SF M d_T_emit_32 ?_
  refine lv_aload_n hx hb d_T_emit_35 rfl (lv_at hl 0 rfl) ?_
  refine gT_lines SF M d_T_emit_36 ?_
  refine lv_iload_n hx hb d_T_emit_39 rfl (lv_at hl 2 rfl) ?_
  refine lv_bipush hx hb d_T_emit_40 kb_7 ?_
  refine lv_iand hx hb d_T_emit_42 ?_
  refine sT_dst SF M N rfl hok.2.2 d_T_emit_43 (fun H locs M => ?_)
  refine lv_aload_n hx hb d_T_emit_44 rfl (lv_at hl 0 rfl) ?_
  refine gT_left SF M d_T_emit_45 ?_
  refine lv_aload_n hx hb d_T_emit_48 rfl (lv_at hl 0 rfl) ?_
  refine gT_lines SF M d_T_emit_49 ?_
  refine lv_iload_n hx hb d_T_emit_52 rfl (lv_at hl 3 rfl) ?_
  refine sT_left SF M N rfl hok.2.2 d_T_emit_53 (fun H locs M => ?_)
  refine lv_aload_n hx hb d_T_emit_54 rfl (lv_at hl 0 rfl) ?_
  refine gT_right SF M d_T_emit_55 ?_
  refine lv_aload_n hx hb d_T_emit_58 rfl (lv_at hl 0 rfl) ?_
  refine gT_lines SF M d_T_emit_59 ?_
  refine lv_iload hx hb d_T_emit_62 (lv_at hl 4 rfl) ?_
  refine sT_right SF M N rfl hok.2.2 d_T_emit_64 (fun H locs M => ?_)
  refine lv_aload_n hx hb d_T_emit_65 rfl (lv_at hl 0 rfl) ?_
  refine lv_dup hx hb d_T_emit_66 rfl ?_
  refine gT_lines SF M d_T_emit_67 ?_
  refine lv_iconst hx hb d_T_emit_70 ki_1 ?_
  refine lv_iadd hx hb d_T_emit_71 ?_
  rw [nI_1]
  refine pT_lines SF M d_T_emit_72 (fun H locs M => ?_)
  refine lv_aload_n hx hb d_T_emit_75 rfl (lv_at hl 0 rfl) ?_
  refine gT_lines SF M d_T_emit_76 ?_
  exact retI SF hlk hr () (rfl) M d_T_emit_79
set_option maxHeartbeats 4000000 in
set_option maxRecDepth 100000 in
theorem c_T_emit_no (l : Launch) (D : va_G) (h : Nat → Nat) (cs : Nat → ClassId) (nx : Int32) (V O Dd Aa Bb : Nat → Int32) (N : Nat) (op dst a b : Int32) (hN32 : N ≤ 32) (hno : ¬ emOK op N) : CtI l y_T_emit b_T_emit 5 .int (rmm 0 0) D (tysT cs) [.ref (h 0), .int op, .int dst, .int a, .int b] (tW h cs (nI N) nx V O Dd Aa Bb) (fun (z : Int32) (_ : Unit) => z = -1) (fun _ => tW h cs (nI N) nx V O Dd Aa Bb) := by
  refine CtI.of R_T (by decide) rfl (Nat.le_of_ble_eq_true rfl) ?_
  intro p e s m args below meth c A ls SF hlk hr M hl
  have hx := SF.1
  have hb := SF.2.1
  have hl : lv_has ls 5 [(0, .ref (h 0)), (1, .int op), (2, .int dst), (3, .int a), (4, .int b)] := hl
  refine lv_iload_n hx hb d_T_emit_0 rfl (lv_at hl 1 rfl) ?_
  refine lv_if_lt (tgt := 19) hx hb d_T_emit_1 (by decide) (fun c1 => ?_) (fun c1 => ?_)
  · refine lv_iconst hx hb d_T_emit_19 ki_m1 ?_
    exact retI SF hlk hr () (rfl) M d_T_emit_20
  · refine lv_iload_n hx hb d_T_emit_4 rfl (lv_at hl 1 rfl) ?_
    refine lv_bipush hx hb d_T_emit_5 kb_18 ?_
    refine lv_icmp_gt (tgt := 19) hx hb d_T_emit_7 (by decide) (fun c2 => ?_) (fun c2 => ?_)
    · refine lv_iconst hx hb d_T_emit_19 ki_m1 ?_
      exact retI SF hlk hr () (rfl) M d_T_emit_20
    · have hN : N = 32 := Nat.le_antisymm hN32 (Nat.not_lt.mp (fun q9 => hno ⟨c1, c2, q9⟩))
      subst hN
      refine lv_aload_n hx hb d_T_emit_10 rfl (lv_at hl 0 rfl) ?_
      refine gT_lines SF M d_T_emit_11 ?_
      refine lv_bipush hx hb d_T_emit_14 kb_32 ?_
      refine lv_icmp_ne (tgt := 21) hx hb d_T_emit_16 (by decide) (fun c9 => absurd (rfl : nI 32 = 32) c9) (fun _ => ?_)
      refine lv_iconst hx hb d_T_emit_19 ki_m1 ?_
      exact retI SF hlk hr () (rfl) M d_T_emit_20
end
section
/-! running micro-programs -/
def Rel (Rg : Nat → BitVec 32) (V : Nat → Int32) : Prop := ∀ v, v < 8 → Rg v = (V v).toBitVec
theorem wd_wrap (r : Int32) : wdF r.toBitVec = (wrapF r).toBitVec := by
  apply BitVec.eq_of_toInt_eq
  have e1 : (wrapF r).toBitVec.toInt = (wrapF r).toInt := rfl
  rw [e1]
  unfold wdF
  rw [BitVec.toInt_signExtend_of_le (by decide), BitVec.toInt_eq_toNat_cond, BitVec.toNat_setWidth]
  unfold wrapF
  rw [and_lo]
  have hk : r.toBitVec.toNat % 65536 < 65536 := Nat.mod_lt _ (by decide)
  rw [show (2 : Nat) ^ 16 = 65536 from rfl]
  generalize r.toBitVec.toNat % 65536 = k at hk
  by_cases c : nI k ≤ 32767
  · have c2 := (nI_leI (b := 32767) (by omega) (by decide)).mp c
    rw [if_pos c, if_pos (by omega), nI_toInt (by omega)]
  · have c2 : ¬ k ≤ 32767 := fun q => c ((nI_leI (b := 32767) (by omega) (by decide)).mpr q)
    rw [if_neg c, if_neg (by omega), show (65536 : Int32) = nI 65536 from rfl, pk_sub_toInt (by omega) (by decide)]
theorem adF_f (x y : BitVec 32) : adF x y false = x + y := by
  unfold adF ngF
  simp
theorem adF_t (x y : BitVec 32) : adF x y true = x - y := by
  unfold adF ngF
  rw [if_pos rfl, BitVec.sub_eq_add_neg, BitVec.neg_eq_not_add, BitVec.add_assoc]
  rfl
theorem cyF_t (x y : BitVec 32) : cyF x y true 32 = decide (y.toNat ≤ x.toNat) := by
  unfold cyF ngF BitVec.carry
  rw [if_pos rfl, BitVec.toNat_not]
  have h1 := x.isLt
  have h2 := y.isLt
  rw [Nat.mod_eq_of_lt h1, Nat.mod_eq_of_lt (by omega)]
  apply decide_eq_decide.mpr
  simp only [Bool.toNat_true]
  omega
theorem sk_mv (t f : Nat) (o : Int32) (s : Nat) (xs : List MO) (z : RS) : skl 0 ((0, t, f, o, s) :: xs) z = skl 0 xs (upR z.1 t (shF (z.1 f) o), z.2) := by
  rw [skl]
  simp [pf]
theorem sk_pl (t f y s : Nat) (hy : y < 14) (xs : List MO) (z : RS) : skl 0 ((1, t, f, nI y, s) :: xs) z = skl 0 xs (upR z.1 t (z.1 f + z.1 y), cyF (z.1 f) (z.1 y) false 32) := by
  rw [skl]
  simp [pf, nI_clamp (show y < 2 ^ 31 by omega), adF_f]
theorem sk_mi (t f y s : Nat) (hy : y < 14) (xs : List MO) (z : RS) : skl 0 ((2, t, f, nI y, s) :: xs) z = skl 0 xs (upR z.1 t (z.1 f - z.1 y), decide ((z.1 y).toNat ≤ (z.1 f).toNat)) := by
  rw [skl]
  simp [pf, nI_clamp (show y < 2 ^ 31 by omega), adF_t, cyF_t]
theorem sk_an (t f y s : Nat) (hy : y < 14) (xs : List MO) (z : RS) : skl 0 ((3, t, f, nI y, s) :: xs) z = skl 0 xs (upR z.1 t (z.1 f &&& z.1 y), z.2) := by
  rw [skl]
  simp [pf, nI_clamp (show y < 2 ^ 31 by omega), cbI, show nI 3 = 3 from rfl]
theorem sk_or (t f y s : Nat) (hy : y < 14) (xs : List MO) (z : RS) : skl 0 ((4, t, f, nI y, s) :: xs) z = skl 0 xs (upR z.1 t (z.1 f ||| z.1 y), z.2) := by
  rw [skl]
  simp [pf, nI_clamp (show y < 2 ^ 31 by omega), cbI, show nI 4 = 4 from rfl]
theorem sk_xo (t f y s : Nat) (hy : y < 14) (xs : List MO) (z : RS) : skl 0 ((5, t, f, nI y, s) :: xs) z = skl 0 xs (upR z.1 t (z.1 f ^^^ z.1 y), z.2) := by
  rw [skl]
  simp [pf, nI_clamp (show y < 2 ^ 31 by omega), cbI, show nI 5 = 5 from rfl]
theorem sk_wd (t f : Nat) (o : Int32) (s : Nat) (xs : List MO) (z : RS) : skl 0 ((6, t, f, o, s) :: xs) z = skl 0 xs (upR z.1 t (wdF (z.1 f)), z.2) := by
  rw [skl]
  simp [pf]
theorem sk_lh (t f : Nat) (o : Int32) (s : Nat) (xs : List MO) (z : RS) : skl 0 ((7, t, f, o, s) :: xs) z = skl 0 xs (upR z.1 t (lhF (z.1 f)), z.2) := by
  rw [skl]
  simp [pf]
theorem sk_bit (t f j : Nat) (hj : j < 32) (x : MO) (xs : List MO) (z : RS) : skl 0 ((8, t, f, nI j, 1) :: x :: xs) z = if (z.1 f).getLsbD j then skl 0 (x :: xs) z else skl 0 xs z := by
  rw [skl]
  simp only [pf, if_true]
  rw [nI_clamp (by omega)]
  by_cases h : (z.1 f).getLsbD j = true
  · rw [if_pos h, if_pos h]
  · rw [if_neg h, if_neg h, skl]
theorem sk_lat (t f : Nat) (o : Int32) (x y : MO) (xs : List MO) (z : RS) : skl 0 ((9, t, f, o, 2) :: x :: y :: xs) z = if z.2 then skl 0 (x :: y :: xs) z else skl 0 xs z := by
  rw [skl]
  have e : pf (9, t, f, o, 2) z = (z, z.2) := by simp [pf]
  rw [e]
  dsimp only
  by_cases h : z.2 = true
  · rw [if_pos h, if_pos h]
  · rw [if_neg h, if_neg h, skl, skl]
theorem sk_set (t f j s : Nat) (hj : j < 32) (xs : List MO) (z : RS) : skl 0 ((10, t, f, nI j, s) :: xs) z = skl 0 xs (upR z.1 t (z.1 t ||| BitVec.twoPow 32 j), z.2) := by
  rw [skl]
  simp [pf, nI_clamp (show j < 2 ^ 31 by omega)]
theorem sk_con (t f : Nat) (o : Int32) (s : Nat) (xs : List MO) (z : RS) : skl 0 ((11, t, f, o, s) :: xs) z = skl 0 xs (upR z.1 t o.toBitVec, z.2) := by
  rw [skl]
  simp [pf]
theorem sk_zer (t f : Nat) (o : Int32) (x : MO) (xs : List MO) (z : RS) : skl 0 ((12, t, f, o, 1) :: x :: xs) z = if z.1 f = 0 then skl 0 (x :: xs) z else skl 0 xs z := by
  rw [skl]
  have e : pf (12, t, f, o, 1) z = (z, decide (z.1 f = 0)) := by simp [pf]
  rw [e]
  dsimp only
  by_cases h : z.1 f = 0
  · rw [if_pos h, decide_eq_true h, if_pos rfl]
  · rw [if_neg h, decide_eq_false h, if_neg (by decide), skl]
theorem sk_nil (z : RS) : skl 0 [] z = z := rfl
end
section
/-! the product -/
theorem shF_0 (x : BitVec 32) : shF x 0 = x := by
  unfold shF
  rw [if_pos (by decide), show (0 : Int32).toInt.toNat = 0 from rfl, BitVec.shiftLeft_zero]
theorem shF_1 (x : BitVec 32) : shF x 1 = x <<< 1 := by
  unfold shF
  rw [if_pos (by decide)]
  rfl
theorem shF_2 (x : BitVec 32) : shF x 2 = x <<< 2 := by
  unfold shF
  rw [if_pos (by decide)]
  rfl
theorem shF_m16 (x : BitVec 32) : shF x (-16) = x >>> 16 := by
  unfold shF
  rw [if_neg (by decide)]
  rfl
theorem shl_mul (x : BitVec 32) (i : Nat) : x <<< i = x * BitVec.ofNat 32 (2 ^ i) := by
  apply BitVec.eq_of_toNat_eq
  rw [BitVec.toNat_shiftLeft, BitVec.toNat_mul, BitVec.toNat_ofNat, Nat.shiftLeft_eq]
  conv => lhs; rw [Nat.mul_mod]
  conv => rhs; rw [Nat.mul_mod, Nat.mod_mod]
def prI (X Y : BitVec 32) (Rg : Nat → BitVec 32) (i : Nat) (z : RS) : Prop := z.1 8 = X <<< i ∧ z.1 9 = Y ∧ z.1 10 = X * BitVec.ofNat 32 (Y.toNat % 2 ^ i) ∧ ∀ v, v < 8 → z.1 v = Rg v
theorem bit_div (Y : BitVec 32) (i : Nat) : Y.getLsbD i = decide (Y.toNat / 2 ^ i % 2 = 1) := by
  rw [BitVec.getLsbD, Nat.testBit_eq_decide_div_mod_eq]
theorem pr_step {X Y : BitVec 32} {Rg : Nat → BitVec 32} {i : Nat} {z : RS} (hi : i < 32) (h : prI X Y Rg i z) (rest : List MO) : ∃ z', prI X Y Rg (i + 1) z' ∧ skl 0 ((8, 0, 9, nI i, 1) :: (1, 10, 10, nI 8, 0) :: (0, 8, 8, 1, 0) :: rest) z = skl 0 rest z' := by
  obtain ⟨h8, h9, h10, hv⟩ := h
  have hs : X <<< i <<< 1 = X <<< (i + 1) := by rw [BitVec.shiftLeft_add]
  have hm := Nat.mod_pow_succ (x := Y.toNat) (b := 2) (k := i)
  rw [sk_bit _ _ _ hi]
  by_cases hb : (z.1 9).getLsbD i = true
  · rw [if_pos hb, sk_pl _ _ _ _ (by decide), sk_mv]
    refine ⟨_, ⟨?_, ?_, ?_, ?_⟩, rfl⟩
    · simp only [upR_s]
      rw [upR_n _ _ (by decide), h8, shF_1, hs]
    · dsimp only
      rw [upR_n _ _ (by decide), upR_n _ _ (by decide), h9]
    · dsimp only
      rw [upR_n _ _ (by decide), upR_s, h10, h8, shl_mul, ← BitVec.mul_add, ← BitVec.ofNat_add, hm]
      rw [h9, bit_div, decide_eq_true_eq] at hb
      rw [hb, Nat.mul_one]
    · intro v hv8
      dsimp only
      rw [upR_n _ _ (by omega), upR_n _ _ (by omega), hv v hv8]
  · rw [if_neg hb, sk_mv]
    refine ⟨_, ⟨?_, ?_, ?_, ?_⟩, rfl⟩
    · simp only [upR_s]
      rw [h8, shF_1, hs]
    · dsimp only
      rw [upR_n _ _ (by decide), h9]
    · dsimp only
      rw [upR_n _ _ (by decide), h10, hm]
      rw [h9, bit_div, decide_eq_true_eq] at hb
      rw [show Y.toNat / 2 ^ i % 2 = 0 by omega, Nat.mul_zero, Nat.add_zero]
    · intro v hv8
      dsimp only
      rw [upR_n _ _ (by omega), hv v hv8]
theorem pr_loop {X Y : BitVec 32} {Rg : Nat → BitVec 32} (rest : List MO) : ∀ (n i : Nat) (z : RS), i + n = 32 → prI X Y Rg i z → ∃ z', prI X Y Rg 32 z' ∧ skl 0 (pB i n ++ rest) z = skl 0 rest z'
  | 0, i, z, hi, h => by
    obtain rfl : i = 32 := by omega
    exact ⟨z, h, rfl⟩
  | n + 1, i, z, hi, h => by
    obtain ⟨z1, h1, e1⟩ := pr_step (by omega) h (pB (i + 1) n ++ rest)
    obtain ⟨z2, h2, e2⟩ := pr_loop rest n (i + 1) z1 (by omega) h1
    refine ⟨z2, h2, ?_⟩
    rw [pB, List.append_assoc, List.cons_append, List.cons_append, List.cons_append, List.nil_append, e1, e2]
theorem sk_prod {x y : Nat} (hx : x < 8) (hy : y < 8) (rest : List MO) (z : RS) : ∃ z', z'.1 10 = z.1 x * z.1 y ∧ (∀ v, v < 8 → z'.1 v = z.1 v) ∧ skl 0 (prodP x y ++ rest) z = skl 0 rest z' := by
  have h0 : ∃ z1, prI (z.1 x) (z.1 y) z.1 0 z1 ∧ skl 0 (prodP x y ++ rest) z = skl 0 (pB 0 32 ++ rest) z1 := by
    rw [prodP, List.append_assoc, List.cons_append, List.cons_append, List.cons_append, List.nil_append, sk_mv, sk_mv, sk_con]
    refine ⟨_, ⟨?_, ?_, ?_, ?_⟩, rfl⟩
    · dsimp only
      rw [upR_n _ _ (by decide), upR_n _ _ (by decide), upR_s, shF_0, BitVec.shiftLeft_zero]
    · dsimp only
      rw [upR_n _ _ (by decide), upR_s, upR_n _ _ (by omega), shF_0]
    · simp only [upR_s]
      rw [Nat.pow_zero, Nat.mod_one]
      simp
    · intro v hv
      dsimp only
      rw [upR_n _ _ (by omega), upR_n _ _ (by omega), upR_n _ _ (by omega)]
  obtain ⟨z1, h1, e1⟩ := h0
  obtain ⟨z2, h2, e2⟩ := pr_loop rest 32 0 z1 rfl h1
  refine ⟨z2, ?_, h2.2.2.2, e1.trans e2⟩
  rw [h2.2.2.1, Nat.mod_eq_of_lt (BitVec.isLt _), BitVec.ofNat_toNat, BitVec.setWidth_eq]
end
section
/-! quotient and remainder of amounts -/
theorem sk_set0 (t f s : Nat) (xs : List MO) (z : RS) : skl 0 ((10, t, f, 0, s) :: xs) z = skl 0 xs (upR z.1 t (z.1 t ||| BitVec.twoPow 32 0), z.2) := sk_set t f 0 s (by decide) xs z
theorem sk_set1 (t f s : Nat) (xs : List MO) (z : RS) : skl 0 ((10, t, f, 1, s) :: xs) z = skl 0 xs (upR z.1 t (z.1 t ||| BitVec.twoPow 32 1), z.2) := sk_set t f 1 s (by decide) xs z
def amtF (x : BitVec 32) : BitVec 32 := if x.getLsbD 31 then 0 - x else x
theorem sk_amt {t x : Nat} (h1 : t ≠ x) (h2 : t ≠ 13) (hx : x < 14) (rest : List MO) (z : RS) (h13 : z.1 13 = 0) : ∃ z', z'.1 t = amtF (z.1 x) ∧ (∀ v, v ≠ t → z'.1 v = z.1 v) ∧ skl 0 (amtP t x ++ rest) z = skl 0 rest z' := by
  have hq : upR z.1 t (shF (z.1 x) 0) x = z.1 x := upR_n _ _ (fun q => h1 q.symm)
  have hq2 : upR z.1 t (shF (z.1 x) 0) 13 = z.1 13 := upR_n _ _ (fun q => h2 q.symm)
  rw [amtP, List.cons_append, List.cons_append, List.cons_append, List.nil_append, sk_mv, sk_bit _ _ _ (by decide)]
  by_cases hb : (z.1 x).getLsbD 31 = true
  · rw [if_pos (show (upR z.1 t (shF (z.1 x) 0) x).getLsbD 31 = true by rw [hq]; exact hb), sk_mi _ _ _ _ hx]
    refine ⟨_, ?_, ?_, rfl⟩
    · show upR (upR z.1 t (shF (z.1 x) 0)) t (upR z.1 t (shF (z.1 x) 0) 13 - upR z.1 t (shF (z.1 x) 0) x) t = _
      rw [upR_s, hq, hq2, h13, amtF, if_pos hb]
    · intro v hv
      show upR (upR z.1 t (shF (z.1 x) 0)) t _ v = _
      rw [upR_n _ _ hv, upR_n _ _ hv]
  · rw [if_neg (show ¬ (upR z.1 t (shF (z.1 x) 0) x).getLsbD 31 = true by rw [hq]; exact hb)]
    refine ⟨_, ?_, ?_, rfl⟩
    · show upR z.1 t (shF (z.1 x) 0) t = _
      rw [upR_s, shF_0, amtF, if_neg hb]
    · intro v hv
      show upR z.1 t (shF (z.1 x) 0) v = _
      rw [upR_n _ _ hv]
theorem orN {x : BitVec 32} {n q : Nat} (hn : n < 32) (hx : x.toNat = q * 2 ^ (n + 1)) : (x ||| BitVec.twoPow 32 n).toNat = (2 * q + 1) * 2 ^ n := by
  have hp : 2 ^ n < 2 ^ 32 := Nat.pow_lt_pow_right (by decide) hn
  rw [BitVec.toNat_or, BitVec.toNat_twoPow, hx, Nat.mod_eq_of_lt hp, Nat.mul_comm q, ← Nat.two_pow_add_eq_or_of_lt (Nat.pow_lt_pow_right (by decide) (Nat.lt_succ_self n)), Nat.pow_succ, Nat.add_mul, Nat.one_mul]
  congr 1
  rw [Nat.mul_assoc, Nat.mul_comm]
theorem shl1N {x : BitVec 32} {r : Nat} (hr : r < 2 ^ 31) (hx : x.toNat = r) : (x <<< 1).toNat = r * 2 := by
  rw [BitVec.toNat_shiftLeft, hx, Nat.shiftLeft_eq]
  omega
/-- one trial: dividing 2 m + e by b, out of m / b and m % b -/
theorem div_one {m e b : Nat} (he : e < 2) : (b ≤ 2 * (m % b) + e → (2 * m + e) % b = 2 * (m % b) + e - b ∧ (0 < b → (2 * m + e) / b = 2 * (m / b) + 1)) ∧ (¬ b ≤ 2 * (m % b) + e → (2 * m + e) % b = 2 * (m % b) + e ∧ (0 < b → (2 * m + e) / b = 2 * (m / b))) := by
  have hm := Nat.div_add_mod m b
  have ee : 2 * m + e = b * (2 * (m / b)) + (2 * (m % b) + e) := by
    rw [Nat.mul_left_comm, ← Nat.add_assoc, ← Nat.mul_add, hm]
  rcases Nat.eq_zero_or_pos b with h0 | h0
  · subst h0
    simp
  · have hr := Nat.mod_lt m h0
    rw [ee]
    constructor
    · intro h
      have e2 : b * (2 * (m / b)) + (2 * (m % b) + e) = b * (2 * (m / b) + 1) + (2 * (m % b) + e - b) := by
        rw [Nat.mul_add, Nat.mul_one]
        omega
      have hlt : 2 * (m % b) + e - b < b := by omega
      rw [e2, Nat.mul_add_mod, Nat.mul_add_div h0, Nat.mod_eq_of_lt hlt, Nat.div_eq_of_lt hlt]
      exact ⟨rfl, fun _ => rfl⟩
    · intro h
      have hlt : 2 * (m % b) + e < b := by omega
      rw [Nat.mul_add_mod, Nat.mul_add_div h0, Nat.mod_eq_of_lt hlt, Nat.div_eq_of_lt hlt]
      exact ⟨rfl, fun _ => rfl⟩
def qI (A B : BitVec 32) (Rg : Nat → BitVec 32) (n : Nat) (z : RS) : Prop := z.1 8 = A ∧ z.1 9 = B ∧ (z.1 10).toNat = A.toNat / 2 ^ n % B.toNat ∧ (0 < B.toNat → (z.1 11).toNat = A.toNat / 2 ^ n / B.toNat * 2 ^ n) ∧ z.1 13 = 0 ∧ ∀ v, v < 8 → z.1 v = Rg v
theorem q_step {A B : BitVec 32} {Rg : Nat → BitVec 32} {n : Nat} {z : RS} (hA : A.toNat < 65536) (hB : B.toNat < 65536) (hn : n < 16) (h : qI A B Rg (n + 1) z) (rest : List MO) : ∃ z', qI A B Rg n z' ∧ skl 0 ((0, 10, 10, 1, 0) :: (8, 0, 8, nI n, 1) :: (10, 10, 0, 0, 0) :: (2, 12, 10, nI 9, 0) :: (9, 0, 0, 0, 2) :: (0, 10, 12, 0, 0) :: (10, 11, 0, nI n, 0) :: rest) z = skl 0 rest z' := by
  obtain ⟨h8, h9, h10, h11, h13, hv⟩ := h
  have hdm : A.toNat / 2 ^ n = 2 * (A.toNat / 2 ^ (n + 1)) + A.toNat / 2 ^ n % 2 := by
    rw [Nat.pow_succ, ← Nat.div_div_eq_div_mul]
    omega
  have hm : A.toNat / 2 ^ (n + 1) < 65536 := Nat.lt_of_le_of_lt (Nat.div_le_self _ _) hA
  have hr0 : A.toNat / 2 ^ (n + 1) % B.toNat < 65536 := Nat.lt_of_le_of_lt (Nat.mod_le _ _) hm
  have he : A.toNat / 2 ^ n % 2 < 2 := Nat.mod_lt _ (by decide)
  have hdo := div_one (m := A.toNat / 2 ^ (n + 1)) (e := A.toNat / 2 ^ n % 2) (b := B.toNat) he
  rw [← hdm] at hdo
  generalize hrr : 2 * (A.toNat / 2 ^ (n + 1) % B.toNat) + A.toNat / 2 ^ n % 2 = rr at hdo
  -- the first three
  have st1 : ∃ z1 : RS, z1.1 8 = A ∧ z1.1 9 = B ∧ (z1.1 10).toNat = rr ∧ z1.1 11 = z.1 11 ∧ z1.1 13 = 0 ∧ (∀ v, v < 8 → z1.1 v = Rg v) ∧ skl 0 ((0, 10, 10, 1, 0) :: (8, 0, 8, nI n, 1) :: (10, 10, 0, 0, 0) :: (2, 12, 10, nI 9, 0) :: (9, 0, 0, 0, 2) :: (0, 10, 12, 0, 0) :: (10, 11, 0, nI n, 0) :: rest) z = skl 0 ((2, 12, 10, nI 9, 0) :: (9, 0, 0, 0, 2) :: (0, 10, 12, 0, 0) :: (10, 11, 0, nI n, 0) :: rest) z1 := by
    have hq : (upR z.1 10 (shF (z.1 10) 1) 8).getLsbD n = decide (A.toNat / 2 ^ n % 2 = 1) := by rw [upR_n _ _ (by decide), h8, bit_div]
    rw [sk_mv, sk_bit _ _ _ (by omega)]
    by_cases hb : A.toNat / 2 ^ n % 2 = 1
    · rw [if_pos (show (upR z.1 10 (shF (z.1 10) 1) 8).getLsbD n = true by rw [hq, decide_eq_true hb]), sk_set0]
      refine ⟨_, ?_, ?_, ?_, ?_, ?_, ?_, rfl⟩
      · dsimp only
        rw [upR_n _ _ (by decide), upR_n _ _ (by decide), h8]
      · dsimp only
        rw [upR_n _ _ (by decide), upR_n _ _ (by decide), h9]
      · dsimp only
        rw [upR_s, upR_s, shF_1, orN (n := 0) (q := A.toNat / 2 ^ (n + 1) % B.toNat) (by decide) (shl1N (by omega) h10), ← hrr]
        omega
      · dsimp only
        rw [upR_n _ _ (by decide), upR_n _ _ (by decide)]
      · dsimp only
        rw [upR_n _ _ (by decide), upR_n _ _ (by decide), h13]
      · intro v hv8
        dsimp only
        rw [upR_n _ _ (by omega), upR_n _ _ (by omega), hv v hv8]
    · rw [if_neg (show ¬ (upR z.1 10 (shF (z.1 10) 1) 8).getLsbD n = true by rw [hq, decide_eq_false hb]; decide)]
      refine ⟨_, ?_, ?_, ?_, ?_, ?_, ?_, rfl⟩
      · dsimp only
        rw [upR_n _ _ (by decide), h8]
      · dsimp only
        rw [upR_n _ _ (by decide), h9]
      · dsimp only
        rw [upR_s, shF_1, shl1N (by omega) h10, ← hrr]
        omega
      · dsimp only
        rw [upR_n _ _ (by decide)]
      · dsimp only
        rw [upR_n _ _ (by decide), h13]
      · intro v hv8
        dsimp only
        rw [upR_n _ _ (by omega), hv v hv8]
  obtain ⟨z1, g8, g9, g10, g11, g13, gv, e1⟩ := st1
  rw [e1, sk_mi _ _ _ _ (by decide), sk_lat]
  have hq : decide ((z1.1 9).toNat ≤ (z1.1 10).toNat) = decide (B.toNat ≤ rr) := by rw [g9, g10]
  by_cases hle : B.toNat ≤ rr
  · rw [if_pos (show decide ((z1.1 9).toNat ≤ (z1.1 10).toNat) = true by rw [hq, decide_eq_true hle]), sk_mv, sk_set _ _ _ _ (by omega)]
    refine ⟨_, ⟨?_, ?_, ?_, ?_, ?_, ?_⟩, rfl⟩
    · dsimp only
      rw [upR_n _ _ (by decide), upR_n _ _ (by decide), upR_n _ _ (by decide), g8]
    · dsimp only
      rw [upR_n _ _ (by decide), upR_n _ _ (by decide), upR_n _ _ (by decide), g9]
    · dsimp only
      rw [upR_n _ _ (by decide), upR_s, upR_s, shF_0, BitVec.toNat_sub_of_le (by rw [BitVec.le_def, g9, g10]; exact hle), g9, g10, (hdo.1 hle).1]
    · intro hb0
      dsimp only
      rw [upR_s, upR_n _ _ (by decide), upR_n _ _ (by decide), g11, orN (by omega) (h11 hb0), (hdo.1 hle).2 hb0]
    · dsimp only
      rw [upR_n _ _ (by decide), upR_n _ _ (by decide), upR_n _ _ (by decide), g13]
    · intro v hv8
      dsimp only
      rw [upR_n _ _ (by omega), upR_n _ _ (by omega), upR_n _ _ (by omega), gv v hv8]
  · rw [if_neg (show ¬ decide ((z1.1 9).toNat ≤ (z1.1 10).toNat) = true by rw [hq, decide_eq_false hle]; decide)]
    refine ⟨_, ⟨?_, ?_, ?_, ?_, ?_, ?_⟩, rfl⟩
    · dsimp only
      rw [upR_n _ _ (by decide), g8]
    · dsimp only
      rw [upR_n _ _ (by decide), g9]
    · dsimp only
      rw [upR_n _ _ (by decide), g10, (hdo.2 hle).1]
    · intro hb0
      dsimp only
      rw [upR_n _ _ (by decide), g11, h11 hb0, (hdo.2 hle).2 hb0, Nat.pow_succ]
      rw [Nat.mul_comm (2 ^ n) 2, ← Nat.mul_assoc, Nat.mul_comm _ 2]
    · dsimp only
      rw [upR_n _ _ (by decide), g13]
    · intro v hv8
      dsimp only
      rw [upR_n _ _ (by omega), gv v hv8]
theorem q_loop {A B : BitVec 32} {Rg : Nat → BitVec 32} (hA : A.toNat < 65536) (hB : B.toNat < 65536) (rest : List MO) : ∀ (n : Nat) (z : RS), n ≤ 16 → qI A B Rg n z → ∃ z', qI A B Rg 0 z' ∧ skl 0 (qB n ++ rest) z = skl 0 rest z'
  | 0, z, hn, h => ⟨z, h, rfl⟩
  | n + 1, z, hn, h => by
    obtain ⟨z1, h1, e1⟩ := q_step hA hB (by omega) h (qB n ++ rest)
    obtain ⟨z2, h2, e2⟩ := q_loop hA hB rest n z1 (by omega) h1
    refine ⟨z2, h2, ?_⟩
    rw [qB, List.append_assoc]
    simp only [List.cons_append, List.nil_append]
    rw [e1, e2]
theorem sk_quo {x y : Nat} (hx : x < 8) (hy : y < 8) (rest : List MO) (z : RS) (hA : (amtF (z.1 x)).toNat < 65536) (hB : (amtF (z.1 y)).toNat < 65536) : ∃ z', qI (amtF (z.1 x)) (amtF (z.1 y)) z.1 0 z' ∧ skl 0 (quoP x y ++ rest) z = skl 0 rest z' := by
  have e0 : quoP x y ++ rest = (11, 13, 0, 0, 0) :: (amtP 8 x ++ (amtP 9 y ++ ((11, 10, 0, 0, 0) :: (11, 11, 0, 0, 0) :: (qB 16 ++ rest)))) := by
    simp only [quoP, List.append_assoc, List.cons_append, List.nil_append]
  rw [e0, sk_con]
  obtain ⟨z1, a1, a2, a3⟩ := sk_amt (t := 8) (x := x) (by omega) (by decide) (by omega) (amtP 9 y ++ ((11, 10, 0, 0, 0) :: (11, 11, 0, 0, 0) :: (qB 16 ++ rest))) (upR z.1 13 (0 : Int32).toBitVec, z.2) (by dsimp only; rw [upR_s]; rfl)
  rw [a3]
  obtain ⟨z2, b1, b2, b3⟩ := sk_amt (t := 9) (x := y) (by omega) (by decide) (by omega) ((11, 10, 0, 0, 0) :: (11, 11, 0, 0, 0) :: (qB 16 ++ rest)) z1 (by rw [a2 _ (by decide)]; dsimp only; rw [upR_s]; rfl)
  rw [b3, sk_con, sk_con]
  dsimp only at a1 a2
  rw [upR_n _ _ (by omega)] at a1
  rw [a2 _ (by omega), upR_n _ _ (by omega)] at b1
  refine q_loop hA hB rest 16 _ (Nat.le_refl 16) ⟨?_, ?_, ?_, ?_, ?_, ?_⟩
  · dsimp only
    rw [upR_n _ _ (by decide), upR_n _ _ (by decide), b2 _ (by decide), a1]
  · dsimp only
    rw [upR_n _ _ (by decide), upR_n _ _ (by decide), b1]
  · dsimp only
    rw [upR_n _ _ (by decide), upR_s, Nat.div_eq_of_lt (by omega), Nat.zero_mod]
    rfl
  · intro _
    dsimp only
    rw [upR_s, Nat.div_eq_of_lt (show (amtF (z.1 x)).toNat < 2 ^ 16 by omega), Nat.zero_div, Nat.zero_mul]
    rfl
  · dsimp only
    rw [upR_n _ _ (by decide), upR_n _ _ (by decide), b2 _ (by decide), a2 _ (by decide), upR_s]
    rfl
  · intro v hv
    dsimp only
    rw [upR_n _ _ (by omega), upR_n _ _ (by omega), b2 _ (by omega), a2 _ (by omega), upR_n _ _ (by omega)]
end
section
/-! the root -/
theorem shl2N {x : BitVec 32} {r : Nat} (hr : r < 2 ^ 30) (hx : x.toNat = r) : (x <<< 2).toNat = r * 2 ^ 2 := by
  rw [BitVec.toNat_shiftLeft, hx, Nat.shiftLeft_eq]
  omega
def rI (U : BitVec 32) (Rg : Nat → BitVec 32) (n : Nat) (z : RS) : Prop := z.1 8 = U ∧ (∃ r m : Nat, (z.1 10).toNat = r ∧ (z.1 9).toNat = m ∧ U.toNat / 2 ^ (2 * n) = r * r + m ∧ m ≤ 2 * r) ∧ ∀ v, v < 8 → z.1 v = Rg v
theorem r_one {r m e : Nat} (he : e < 4) (hm : m ≤ 2 * r) : (4 * r + 1 ≤ 4 * m + e → 4 * (r * r + m) + e = (2 * r + 1) * (2 * r + 1) + (4 * m + e - (4 * r + 1)) ∧ 4 * m + e - (4 * r + 1) ≤ 2 * (2 * r + 1)) ∧ (¬ 4 * r + 1 ≤ 4 * m + e → 4 * (r * r + m) + e = (2 * r) * (2 * r) + (4 * m + e) ∧ 4 * m + e ≤ 2 * (2 * r)) := by
  have e1 : (2 * r) * (2 * r) = 4 * (r * r) := by rw [Nat.mul_mul_mul_comm]
  have e2 : (2 * r + 1) * (2 * r + 1) = (2 * r) * (2 * r) + 4 * r + 1 := by
    rw [Nat.add_mul, Nat.mul_add, Nat.mul_one, Nat.one_mul]
    omega
  rw [e2, e1]
  generalize r * r = rr
  constructor
  · intro h
    omega
  · intro h
    omega
theorem sq_le {r N : Nat} (h : r * r ≤ N) (hN : N < 65536) : r < 256 := by
  rcases Nat.lt_or_ge r 256 with c | c
  · exact c
  · have := Nat.mul_le_mul c c
    omega
theorem r_step {U : BitVec 32} {Rg : Nat → BitVec 32} {n : Nat} {z : RS} (hU : U.toNat < 65536) (hn : n < 8) (h : rI U Rg (n + 1) z) (rest : List MO) : ∃ z', rI U Rg n z' ∧ skl 0 ((0, 9, 9, 2, 0) :: (8, 0, 8, nI (2 * n + 1), 1) :: (10, 9, 0, 1, 0) :: (8, 0, 8, nI (2 * n), 1) :: (10, 9, 0, 0, 0) :: (0, 11, 10, 2, 0) :: (10, 11, 0, 0, 0) :: (0, 10, 10, 1, 0) :: (2, 12, 9, nI 11, 0) :: (9, 0, 0, 0, 2) :: (0, 9, 12, 0, 0) :: (10, 10, 0, 0, 0) :: rest) z = skl 0 rest z' := by
  obtain ⟨h8, ⟨r, m, h10, h9, hrm, hm2⟩, hv⟩ := h
  have hle : U.toNat / 2 ^ (2 * (n + 1)) < 65536 := Nat.lt_of_le_of_lt (Nat.div_le_self _ _) hU
  have hr : r < 256 := sq_le (N := U.toNat / 2 ^ (2 * (n + 1))) (by omega) hle
  have hdm : U.toNat / 2 ^ (2 * n) = 4 * (U.toNat / 2 ^ (2 * (n + 1))) + (2 * (U.toNat / 2 ^ (2 * n + 1) % 2) + U.toNat / 2 ^ (2 * n) % 2) := by
    rw [show 2 * (n + 1) = 2 * n + 1 + 1 by omega, Nat.pow_succ _ (2 * n + 1), ← Nat.div_div_eq_div_mul, Nat.pow_succ _ (2 * n), ← Nat.div_div_eq_div_mul]
    omega
  generalize hb1 : U.toNat / 2 ^ (2 * n + 1) % 2 = b1 at hdm
  generalize hb0 : U.toNat / 2 ^ (2 * n) % 2 = b0 at hdm
  have l1 : b1 < 2 := by rw [← hb1]; exact Nat.mod_lt _ (by decide)
  have l0 : b0 < 2 := by rw [← hb0]; exact Nat.mod_lt _ (by decide)
  -- three
  generalize hrest1 : (8, 0, 8, nI (2 * n), 1) :: (10, 9, 0, 0, 0) :: (0, 11, 10, 2, 0) :: (10, 11, 0, 0, 0) :: (0, 10, 10, 1, 0) :: (2, 12, 9, nI 11, 0) :: (9, 0, 0, 0, 2) :: (0, 9, 12, 0, 0) :: (10, 10, 0, 0, 0) :: rest = rest1
  have st1 : ∃ z1 : RS, z1.1 8 = U ∧ (z1.1 9).toNat = (2 * m + b1) * 2 ^ 1 ∧ z1.1 10 = z.1 10 ∧ (∀ v, v < 8 → z1.1 v = Rg v) ∧ skl 0 ((0, 9, 9, 2, 0) :: (8, 0, 8, nI (2 * n + 1), 1) :: (10, 9, 0, 1, 0) :: rest1) z = skl 0 rest1 z1 := by
    have hq : (upR z.1 9 (shF (z.1 9) 2) 8).getLsbD (2 * n + 1) = decide (b1 = 1) := by rw [upR_n _ _ (by decide), h8, bit_div, hb1]
    rw [sk_mv, sk_bit _ _ _ (by omega)]
    by_cases hb : b1 = 1
    · rw [if_pos (show (upR z.1 9 (shF (z.1 9) 2) 8).getLsbD (2 * n + 1) = true by rw [hq, decide_eq_true hb]), sk_set1]
      refine ⟨_, ?_, ?_, ?_, ?_, rfl⟩
      · dsimp only
        rw [upR_n _ _ (by decide), upR_n _ _ (by decide), h8]
      · dsimp only
        rw [upR_s, upR_s, shF_2, orN (n := 1) (q := m) (by decide) (shl2N (by omega) h9), hb]
      · dsimp only
        rw [upR_n _ _ (by decide), upR_n _ _ (by decide)]
      · intro v hv8
        dsimp only
        rw [upR_n _ _ (by omega), upR_n _ _ (by omega), hv v hv8]
    · rw [if_neg (show ¬ (upR z.1 9 (shF (z.1 9) 2) 8).getLsbD (2 * n + 1) = true by rw [hq, decide_eq_false hb]; decide)]
      refine ⟨_, ?_, ?_, ?_, ?_, rfl⟩
      · dsimp only
        rw [upR_n _ _ (by decide), h8]
      · dsimp only
        rw [upR_s, shF_2, shl2N (by omega) h9]
        omega
      · dsimp only
        rw [upR_n _ _ (by decide)]
      · intro v hv8
        dsimp only
        rw [upR_n _ _ (by omega), hv v hv8]
  obtain ⟨z1, f8, f9, f10, fv, e1⟩ := st1
  rw [e1, ← hrest1]
  clear e1 hrest1
  generalize hrest2 : (0, 11, 10, 2, 0) :: (10, 11, 0, 0, 0) :: (0, 10, 10, 1, 0) :: (2, 12, 9, nI 11, 0) :: (9, 0, 0, 0, 2) :: (0, 9, 12, 0, 0) :: (10, 10, 0, 0, 0) :: rest = rest2
  have st2 : ∃ z2 : RS, z2.1 8 = U ∧ (z2.1 9).toNat = 4 * m + (2 * b1 + b0) ∧ z2.1 10 = z.1 10 ∧ (∀ v, v < 8 → z2.1 v = Rg v) ∧ skl 0 ((8, 0, 8, nI (2 * n), 1) :: (10, 9, 0, 0, 0) :: rest2) z1 = skl 0 rest2 z2 := by
    have hq : (z1.1 8).getLsbD (2 * n) = decide (b0 = 1) := by rw [f8, bit_div, hb0]
    rw [sk_bit _ _ _ (by omega)]
    by_cases hb : b0 = 1
    · rw [if_pos (show (z1.1 8).getLsbD (2 * n) = true by rw [hq, decide_eq_true hb]), sk_set0]
      refine ⟨_, ?_, ?_, ?_, ?_, rfl⟩
      · dsimp only
        rw [upR_n _ _ (by decide), f8]
      · dsimp only
        rw [upR_s, orN (n := 0) (q := 2 * m + b1) (by decide) f9, hb]
        omega
      · dsimp only
        rw [upR_n _ _ (by decide), f10]
      · intro v hv8
        dsimp only
        rw [upR_n _ _ (by omega), fv v hv8]
    · rw [if_neg (show ¬ (z1.1 8).getLsbD (2 * n) = true by rw [hq, decide_eq_false hb]; decide)]
      refine ⟨z1, f8, ?_, f10, fv, rfl⟩
      rw [f9]
      omega
  obtain ⟨z2, g8, g9, g10, gv, e2⟩ := st2
  rw [e2, ← hrest2]
  clear e2 hrest2
  rw [sk_mv, sk_set0, sk_mv, sk_mi _ _ _ _ (by decide), sk_lat]
  -- the registers before the trial
  have k11 : (upR (upR z2.1 11 (shF (z2.1 10) 2)) 11 (upR z2.1 11 (shF (z2.1 10) 2) 11 ||| BitVec.twoPow 32 0) 11).toNat = 4 * r + 1 := by
    rw [upR_s, upR_s, g10, shF_2, orN (n := 0) (q := 2 * r) (by decide) (by rw [shl2N (by omega) h10]; omega)]
    omega
  generalize hz3 : (upR (upR z2.1 11 (shF (z2.1 10) 2)) 11 (upR z2.1 11 (shF (z2.1 10) 2) 11 ||| BitVec.twoPow 32 0)) = z3 at k11
  have k8 : z3 8 = U := by rw [← hz3, upR_n _ _ (by decide), upR_n _ _ (by decide), g8]
  have k9 : (z3 9).toNat = 4 * m + (2 * b1 + b0) := by rw [← hz3, upR_n _ _ (by decide), upR_n _ _ (by decide), g9]
  have k10 : (z3 10).toNat = r := by rw [← hz3, upR_n _ _ (by decide), upR_n _ _ (by decide), g10, h10]
  have kv : ∀ v, v < 8 → z3 v = Rg v := fun v hv8 => by rw [← hz3, upR_n _ _ (by omega), upR_n _ _ (by omega), gv v hv8]
  clear hz3
  have ho := r_one (r := r) (m := m) (e := 2 * b1 + b0) (by omega) hm2
  rw [← hrm, ← hdm] at ho
  have j9 : upR z3 10 (shF (z3 10) 1) 9 = z3 9 := upR_n _ _ (by decide)
  have j11 : upR z3 10 (shF (z3 10) 1) 11 = z3 11 := upR_n _ _ (by decide)
  by_cases hle2 : 4 * r + 1 ≤ 4 * m + (2 * b1 + b0)
  · rw [if_pos (show decide ((upR z3 10 (shF (z3 10) 1) 11).toNat ≤ (upR z3 10 (shF (z3 10) 1) 9).toNat) = true by rw [j9, j11, k9, k11, decide_eq_true hle2]), sk_mv, sk_set0]
    refine ⟨_, ⟨?_, ⟨2 * r + 1, 4 * m + (2 * b1 + b0) - (4 * r + 1), ?_, ?_, (ho.1 hle2).1, (ho.1 hle2).2⟩, ?_⟩, rfl⟩
    · dsimp only
      rw [upR_n _ _ (by decide), upR_n _ _ (by decide), upR_n _ _ (by decide), upR_n _ _ (by decide), k8]
    · dsimp only
      rw [upR_s, upR_n _ _ (by decide), upR_n _ _ (by decide), upR_s, shF_1, orN (n := 0) (q := r) (by decide) (shl1N (by omega) k10)]
      omega
    · dsimp only
      rw [upR_n _ _ (by decide), upR_s, upR_s, shF_0, j9, j11, BitVec.toNat_sub_of_le (by rw [BitVec.le_def, k9, k11]; exact hle2), k9, k11]
    · intro v hv8
      dsimp only
      rw [upR_n _ _ (by omega), upR_n _ _ (by omega), upR_n _ _ (by omega), upR_n _ _ (by omega), kv v hv8]
  · rw [if_neg (show ¬ decide ((upR z3 10 (shF (z3 10) 1) 11).toNat ≤ (upR z3 10 (shF (z3 10) 1) 9).toNat) = true by rw [j9, j11, k9, k11, decide_eq_false hle2]; decide)]
    refine ⟨_, ⟨?_, ⟨2 * r, 4 * m + (2 * b1 + b0), ?_, ?_, (ho.2 hle2).1, (ho.2 hle2).2⟩, ?_⟩, rfl⟩
    · dsimp only
      rw [upR_n _ _ (by decide), upR_n _ _ (by decide), k8]
    · dsimp only
      rw [upR_n _ _ (by decide), upR_s, shF_1, shl1N (by omega) k10]
      omega
    · dsimp only
      rw [upR_n _ _ (by decide), j9, k9]
    · intro v hv8
      dsimp only
      rw [upR_n _ _ (by omega), upR_n _ _ (by omega), kv v hv8]
theorem r_loop {U : BitVec 32} {Rg : Nat → BitVec 32} (hU : U.toNat < 65536) (rest : List MO) : ∀ (n : Nat) (z : RS), n ≤ 8 → rI U Rg n z → ∃ z', rI U Rg 0 z' ∧ skl 0 (rB n ++ rest) z = skl 0 rest z'
  | 0, z, hn, h => ⟨z, h, rfl⟩
  | n + 1, z, hn, h => by
    obtain ⟨z1, h1, e1⟩ := r_step hU (by omega) h (rB n ++ rest)
    obtain ⟨z2, h2, e2⟩ := r_loop hU rest n z1 (by omega) h1
    refine ⟨z2, h2, ?_⟩
    rw [rB, List.append_assoc]
    simp only [List.cons_append, List.nil_append]
    rw [e1, e2]
theorem lhF_nat (x : BitVec 32) : (lhF x).toNat = x.toNat % 65536 := by
  unfold lhF
  rw [BitVec.toNat_setWidth, BitVec.toNat_setWidth, show (2 : Nat) ^ 16 = 65536 from rfl]
  omega
theorem sk_root {x : Nat} (hx : x < 8) (rest : List MO) (z : RS) : ∃ z', (∃ r m : Nat, (z'.1 10).toNat = r ∧ (z.1 x).toNat % 65536 = r * r + m ∧ m ≤ 2 * r) ∧ (∀ v, v < 8 → z'.1 v = z.1 v) ∧ skl 0 (rootP x ++ rest) z = skl 0 rest z' := by
  have hU : (lhF (z.1 x)).toNat < 65536 := by rw [lhF_nat]; exact Nat.mod_lt _ (by decide)
  have h0 : ∃ z1, rI (lhF (z.1 x)) z.1 8 z1 ∧ skl 0 (rootP x ++ rest) z = skl 0 (rB 8 ++ rest) z1 := by
    rw [rootP, List.append_assoc, List.cons_append, List.cons_append, List.cons_append, List.nil_append, sk_lh, sk_con, sk_con]
    refine ⟨_, ⟨?_, ⟨0, 0, ?_, ?_, ?_, Nat.le_refl 0⟩, ?_⟩, rfl⟩
    · dsimp only
      rw [upR_n _ _ (by decide), upR_n _ _ (by decide), upR_s]
    · dsimp only
      rw [upR_s]
      rfl
    · dsimp only
      rw [upR_n _ _ (by decide), upR_s]
      rfl
    · rw [Nat.div_eq_of_lt (by omega)]
    · intro v hv
      dsimp only
      rw [upR_n _ _ (by omega), upR_n _ _ (by omega), upR_n _ _ (by omega)]
  obtain ⟨z1, h1, e1⟩ := h0
  obtain ⟨z2, ⟨h8, ⟨r, m, k1, k2, k3, k4⟩, hv⟩, e2⟩ := r_loop hU rest 8 z1 (Nat.le_refl 8) h1
  refine ⟨z2, ⟨r, m, k1, ?_, k4⟩, hv, e1.trans e2⟩
  rw [← lhF_nat, ← k3, Nat.mul_zero, Nat.pow_zero, Nat.div_one]
theorem rt_spec {k : Nat} (hk : k < 65536) : ∀ (n r : Nat), r + n = 256 → r * r ≤ k → rtN n r k * rtN n r k ≤ k ∧ k < (rtN n r k + 1) * (rtN n r k + 1)
  | 0, r, h1, h2 => by
    have := sq_le h2 hk
    omega
  | n + 1, r, h1, h2 => by
    rw [rtN]
    by_cases c : (r + 1) * (r + 1) ≤ k
    · rw [if_pos c]
      exact rt_spec hk n (r + 1) (by omega) c
    · rw [if_neg c]
      exact ⟨h2, by omega⟩
theorem sq_uni {r q k : Nat} (h1 : r * r ≤ k) (h2 : k < (r + 1) * (r + 1)) (h3 : q * q ≤ k) (h4 : k < (q + 1) * (q + 1)) : r = q := by
  rcases Nat.lt_trichotomy r q with c | c | c
  · have := Nat.mul_le_mul (show r + 1 ≤ q by omega) (show r + 1 ≤ q by omega)
    omega
  · exact c
  · have := Nat.mul_le_mul (show q + 1 ≤ r by omega) (show q + 1 ≤ r by omega)
    omega
theorem root_is {k r m : Nat} (hk : k < 65536) (h : k = r * r + m) (hm : m ≤ 2 * r) : rootN k = r := by
  obtain ⟨a, b⟩ := rt_spec hk 256 0 rfl (Nat.zero_le k)
  refine sq_uni a b (by omega) ?_
  rw [Nat.add_mul, Nat.mul_add, Nat.mul_one, Nat.one_mul]
  omega
end
section
/-! the number of ones -/
def oI (X : BitVec 32) (x : Nat) (Rg : Nat → BitVec 32) (i : Nat) (z : RS) : Prop := z.1 x = X ∧ z.1 9 = 1 ∧ (∃ cn : Nat, (z.1 8).toNat = cn ∧ cn ≤ i ∧ cn + onesN (16 - i) (X.toNat % 65536 / 2 ^ i) = onesN 16 (X.toNat % 65536)) ∧ ∀ v, v < 8 → z.1 v = Rg v
theorem o_step {X : BitVec 32} {x : Nat} {Rg : Nat → BitVec 32} {i : Nat} {z : RS} (hx : x < 8) (hi : i < 16) (h : oI X x Rg i z) (rest : List MO) : ∃ z', oI X x Rg (i + 1) z' ∧ skl 0 ((8, 0, x, nI i, 1) :: (1, 8, 8, nI 9, 0) :: rest) z = skl 0 rest z' := by
  obtain ⟨hX, h9, ⟨cn, h8, hc, hs⟩, hv⟩ := h
  have hbit : (z.1 x).getLsbD i = decide (X.toNat % 65536 / 2 ^ i % 2 = 1) := by
    rw [hX, BitVec.getLsbD, ← Nat.testBit_eq_decide_div_mod_eq, show (65536 : Nat) = 2 ^ 16 from rfl, Nat.testBit_mod_two_pow]
    simp [hi]
  have ho : onesN (16 - i) (X.toNat % 65536 / 2 ^ i) = X.toNat % 65536 / 2 ^ i % 2 + onesN (16 - (i + 1)) (X.toNat % 65536 / 2 ^ (i + 1)) := by
    rw [show 16 - i = (16 - (i + 1)) + 1 by omega, onesN, Nat.div_div_eq_div_mul, ← Nat.pow_succ]
  rw [ho] at hs
  rw [sk_bit _ _ _ (by omega)]
  by_cases hb : X.toNat % 65536 / 2 ^ i % 2 = 1
  · rw [if_pos (show (z.1 x).getLsbD i = true by rw [hbit, decide_eq_true hb]), sk_pl _ _ _ _ (by decide)]
    refine ⟨_, ⟨?_, ?_, ⟨cn + 1, ?_, by omega, by omega⟩, ?_⟩, rfl⟩
    · dsimp only
      rw [upR_n _ _ (by omega), hX]
    · dsimp only
      rw [upR_n _ _ (by decide), h9]
    · dsimp only
      rw [upR_s, h9, BitVec.toNat_add, h8]
      show (cn + 1) % 2 ^ 32 = cn + 1
      omega
    · intro v hv8
      dsimp only
      rw [upR_n _ _ (by omega), hv v hv8]
  · rw [if_neg (show ¬ (z.1 x).getLsbD i = true by rw [hbit, decide_eq_false hb]; decide)]
    exact ⟨z, ⟨hX, h9, ⟨cn, h8, by omega, by omega⟩, hv⟩, rfl⟩
theorem o_loop {X : BitVec 32} {x : Nat} {Rg : Nat → BitVec 32} (hx : x < 8) (rest : List MO) : ∀ (n i : Nat) (z : RS), i + n = 16 → oI X x Rg i z → ∃ z', oI X x Rg 16 z' ∧ skl 0 (oB x i n ++ rest) z = skl 0 rest z'
  | 0, i, z, hi, h => by
    obtain rfl : i = 16 := by omega
    exact ⟨z, h, rfl⟩
  | n + 1, i, z, hi, h => by
    obtain ⟨z1, h1, e1⟩ := o_step hx (by omega) h (oB x (i + 1) n ++ rest)
    obtain ⟨z2, h2, e2⟩ := o_loop hx rest n (i + 1) z1 (by omega) h1
    refine ⟨z2, h2, ?_⟩
    rw [oB, List.append_assoc, List.cons_append, List.cons_append, List.nil_append, e1, e2]
theorem sk_ones {x : Nat} (hx : x < 8) (rest : List MO) (z : RS) : ∃ z', (z'.1 8).toNat = onesN 16 ((z.1 x).toNat % 65536) ∧ (∀ v, v < 8 → z'.1 v = z.1 v) ∧ skl 0 (onesP x ++ rest) z = skl 0 rest z' := by
  have h0 : ∃ z1, oI (z.1 x) x z.1 0 z1 ∧ skl 0 (onesP x ++ rest) z = skl 0 (oB x 0 16 ++ rest) z1 := by
    rw [onesP, List.append_assoc, List.cons_append, List.cons_append, List.nil_append, sk_con, sk_con]
    refine ⟨_, ⟨?_, ?_, ⟨0, ?_, Nat.le_refl 0, ?_⟩, ?_⟩, rfl⟩
    · dsimp only
      rw [upR_n _ _ (by omega), upR_n _ _ (by omega)]
    · dsimp only
      rw [upR_s]
      rfl
    · dsimp only
      rw [upR_n _ _ (by decide), upR_s]
      rfl
    · rw [Nat.pow_zero, Nat.div_one, Nat.zero_add]
    · intro v hv
      dsimp only
      rw [upR_n _ _ (by omega), upR_n _ _ (by omega)]
  obtain ⟨z1, h1, e1⟩ := h0
  obtain ⟨z2, ⟨k1, k2, ⟨cn, k3, k4, k5⟩, k6⟩, e2⟩ := o_loop hx rest 16 0 z1 rfl h1
  refine ⟨z2, ?_, k6, e1.trans e2⟩
  rw [k3, ← k5]
  rfl
theorem onesN_le : ∀ n k, onesN n k ≤ n
  | 0, k => Nat.le_refl 0
  | n + 1, k => by
    have := onesN_le n (k / 2)
    rw [onesN]
    omega
end
section
/-! numbers of the plain law -/
theorem wd_eq {x y : BitVec 32} (h : x.toNat % 65536 = y.toNat % 65536) : wdF x = wdF y := by
  have e : x.setWidth 16 = y.setWidth 16 := BitVec.eq_of_toNat_eq (by rw [BitVec.toNat_setWidth, BitVec.toNat_setWidth]; exact h)
  unfold wdF
  rw [e]
theorem b31 (X : Int32) : X.toBitVec.getLsbD 31 = decide (X.toInt < 0) := by
  have h1 := BitVec.msb_eq_toInt (x := X.toBitVec)
  rw [BitVec.msb_eq_getLsbD_last] at h1
  exact h1
theorem neg_int {q : BitVec 32} (h : q.toNat ≤ 65536) : (0 - q).toInt = -(q.toNat : Int) := by
  have e : q.toInt = q.toNat := by
    rw [BitVec.toInt_eq_toNat_cond, if_pos (by omega)]
  rw [BitVec.toInt_sub, e, show (0 : BitVec 32).toInt = 0 from rfl]
  rw [Int.bmod_eq_of_le (by omega) (by omega)]
  omega
theorem pos_int {q : BitVec 32} (h : q.toNat ≤ 65536) : q.toInt = (q.toNat : Int) := by
  rw [BitVec.toInt_eq_toNat_cond, if_pos (by omega)]
theorem amt_nat {X : Int32} (h1 : -32768 ≤ X.toInt) (h2 : X.toInt ≤ 32767) : (amtF X.toBitVec).toNat = X.toInt.natAbs := by
  have et : X.toInt = _ := BitVec.toInt_eq_toNat_cond X.toBitVec
  have hl := X.toBitVec.isLt
  unfold amtF
  rw [b31]
  by_cases c : X.toInt < 0
  · rw [decide_eq_true c, if_pos rfl, BitVec.toNat_sub]
    rw [show (0 : BitVec 32).toNat = 0 from rfl]
    split at et <;> omega
  · rw [decide_eq_false c, if_neg (by decide)]
    split at et <;> omega
theorem quo_int {X Y : Int32} (h1 : -32768 ≤ X.toInt) : (quoF X Y).toInt = X.toInt.tdiv Y.toInt := by
  unfold quoF
  by_cases c : Y = 0
  · rw [if_pos c, c]
    show (0 : Int) = X.toInt.tdiv 0
    rw [Int.tdiv_zero]
  · rw [if_neg c]
    refine Int32.toInt_div_of_ne_left X Y (fun q => ?_)
    rw [q] at h1
    exact absurd h1 (by decide)
theorem quo_bv {X Y : Int32} (h1 : -32768 ≤ X.toInt) (h2 : X.toInt ≤ 32767) {q : BitVec 32} (hq : q.toNat = X.toInt.natAbs / Y.toInt.natAbs) : (if (X.toBitVec ^^^ Y.toBitVec).getLsbD 31 then 0 - q else q) = (quoF X Y).toBitVec := by
  have hle : q.toNat ≤ 65536 := by
    rw [hq]
    exact Nat.le_trans (Nat.div_le_self _ _) (by omega)
  apply BitVec.eq_of_toInt_eq
  have e2 : (quoF X Y).toBitVec.toInt = X.toInt.tdiv Y.toInt := quo_int h1
  rw [e2, BitVec.getLsbD_xor, b31, b31]
  generalize X.toInt = x at *
  generalize Y.toInt = y at *
  by_cases cx : x < 0
  · have ex : x = -(x.natAbs : Int) := by omega
    by_cases cy : y < 0
    · have ey : y = -(y.natAbs : Int) := by omega
      rw [decide_eq_true cx, decide_eq_true cy, if_neg (by decide), pos_int hle, hq]
      conv => rhs; rw [ex, ey, Int.neg_tdiv_neg, ← Int.ofNat_tdiv]
    · have ey : y = (y.natAbs : Int) := by omega
      rw [decide_eq_true cx, decide_eq_false cy, if_pos (by decide), neg_int hle, hq]
      conv => rhs; rw [ex, ey, Int.neg_tdiv, ← Int.ofNat_tdiv]
  · have ex : x = (x.natAbs : Int) := by omega
    by_cases cy : y < 0
    · have ey : y = -(y.natAbs : Int) := by omega
      rw [decide_eq_false cx, decide_eq_true cy, if_pos (by decide), neg_int hle, hq]
      conv => rhs; rw [ex, ey, Int.tdiv_neg, ← Int.ofNat_tdiv]
    · have ey : y = (y.natAbs : Int) := by omega
      rw [decide_eq_false cx, decide_eq_false cy, if_neg (by decide), pos_int hle, hq]
      conv => rhs; rw [ex, ey, ← Int.ofNat_tdiv]
theorem rem_bv {X Y : Int32} (h1 : -32768 ≤ X.toInt) (h2 : X.toInt ≤ 32767) {r : BitVec 32} (hr : r.toNat = X.toInt.natAbs % Y.toInt.natAbs) : (if X.toBitVec.getLsbD 31 then 0 - r else r) = (X - Y * quoF X Y).toBitVec := by
  have hle0 : r.toNat ≤ X.toInt.natAbs := by
    rw [hr]
    exact Nat.mod_le _ _
  have hle : r.toNat ≤ 65536 := by omega
  apply BitVec.eq_of_toInt_eq
  have e0 : (X - Y * quoF X Y).toBitVec.toInt = (X - Y * quoF X Y).toInt := rfl
  rw [e0, Int32.toInt_sub, Int32.toInt_mul, quo_int h1, b31]
  have hm := Int.tmod_def X.toInt Y.toInt
  generalize X.toInt = x at *
  generalize Y.toInt = y at *
  have ht : y * x.tdiv y = x - x.tmod y := by omega
  rw [ht]
  by_cases cx : x < 0
  · have ex : x = -(x.natAbs : Int) := by omega
    have em : x.tmod y = -(r.toNat : Int) := by
      rw [hr]
      by_cases cy : y < 0
      · have ey : y = -(y.natAbs : Int) := by omega
        conv => lhs; rw [ex, ey, Int.neg_tmod, Int.tmod_neg, ← Int.ofNat_tmod]
      · have ey : y = (y.natAbs : Int) := by omega
        conv => lhs; rw [ex, ey, Int.neg_tmod, ← Int.ofNat_tmod]
    rw [decide_eq_true cx, if_pos rfl, neg_int hle, em]
    rw [Int.bmod_eq_of_le (n := x - -(r.toNat : Int)) (by omega) (by omega), Int.bmod_eq_of_le (by omega) (by omega)]
    omega
  · have ex : x = (x.natAbs : Int) := by omega
    have em : x.tmod y = (r.toNat : Int) := by
      rw [hr]
      by_cases cy : y < 0
      · have ey : y = -(y.natAbs : Int) := by omega
        conv => lhs; rw [ex, ey, Int.tmod_neg, ← Int.ofNat_tmod]
      · have ey : y = (y.natAbs : Int) := by omega
        conv => lhs; rw [ex, ey, ← Int.ofNat_tmod]
    rw [decide_eq_false cx, if_neg (by decide), pos_int hle, em]
    rw [Int.bmod_eq_of_le (n := x - (r.toNat : Int)) (by omega) (by omega), Int.bmod_eq_of_le (by omega) (by omega)]
    omega
theorem dn_0 (p : Int32) : (downF p (nI (2 ^ 0))).toBitVec.toNat % 65536 = p.toBitVec.toNat / 2 ^ 0 % 65536 := by
  have et : p.toInt = _ := BitVec.toInt_eq_toNat_cond p.toBitVec
  have hl := p.toBitVec.isLt
  have eD : (nI (2 ^ 0)).toInt = 1 := nI_toInt (by decide)
  have hq : (p / nI (2 ^ 0)).toInt = p.toInt.tdiv 1 := by
    rw [Int32.toInt_div_of_ne_right _ _ (by decide), eD]
  have ht : p.toInt.tdiv 1 = p.toInt / 1 + if 0 ≤ p.toInt ∨ (1 : Int) ∣ p.toInt then 0 else 1 := Int.tdiv_eq_ediv
  have hp1 : -2147483648 ≤ p.toInt := by split at et <;> omega
  have hp2 : p.toInt ≤ 2147483647 := by split at et <;> omega
  have hm : (p / nI (2 ^ 0) * nI (2 ^ 0)).toInt = p.toInt.tdiv 1 * 1 := by
    rw [Int32.toInt_mul, hq, eD, ht]
    apply Int.bmod_eq_of_le
    · split <;> omega
    · split <;> omega
  have hd : (downF p (nI (2 ^ 0))).toInt = p.toInt / 1 := by
    unfold downF
    rw [if_pos (by decide)]
    by_cases c : p / nI (2 ^ 0) * nI (2 ^ 0) ≤ p
    · rw [if_pos c, hq, ht]
      rw [Int32.le_iff_toInt_le, hm, ht] at c
      split at c <;> split <;> omega
    · rw [if_neg c, Int32.toInt_sub, hq, show (1 : Int32).toInt = 1 from rfl, ht]
      rw [Int32.le_iff_toInt_le, hm, ht] at c
      rw [Int.bmod_eq_of_le]
      · split at c <;> split <;> omega
      · split at c <;> split <;> omega
      · split at c <;> split <;> omega
  have ed : (downF p (nI (2 ^ 0))).toInt = _ := BitVec.toInt_eq_toNat_cond (downF p (nI (2 ^ 0))).toBitVec
  have hl2 := (downF p (nI (2 ^ 0))).toBitVec.isLt
  rw [hd] at ed
  generalize (downF p (nI (2 ^ 0))).toBitVec.toNat = w at *
  generalize p.toBitVec.toNat = k at *
  generalize p.toInt = x at *
  split at et <;> split at ed <;> omega
theorem dn_1 (p : Int32) : (downF p (nI (2 ^ 1))).toBitVec.toNat % 65536 = p.toBitVec.toNat / 2 ^ 1 % 65536 := by
  have et : p.toInt = _ := BitVec.toInt_eq_toNat_cond p.toBitVec
  have hl := p.toBitVec.isLt
  have eD : (nI (2 ^ 1)).toInt = 2 := nI_toInt (by decide)
  have hq : (p / nI (2 ^ 1)).toInt = p.toInt.tdiv 2 := by
    rw [Int32.toInt_div_of_ne_right _ _ (by decide), eD]
  have ht : p.toInt.tdiv 2 = p.toInt / 2 + if 0 ≤ p.toInt ∨ (2 : Int) ∣ p.toInt then 0 else 1 := Int.tdiv_eq_ediv
  have hp1 : -2147483648 ≤ p.toInt := by split at et <;> omega
  have hp2 : p.toInt ≤ 2147483647 := by split at et <;> omega
  have hm : (p / nI (2 ^ 1) * nI (2 ^ 1)).toInt = p.toInt.tdiv 2 * 2 := by
    rw [Int32.toInt_mul, hq, eD, ht]
    apply Int.bmod_eq_of_le
    · split <;> omega
    · split <;> omega
  have hd : (downF p (nI (2 ^ 1))).toInt = p.toInt / 2 := by
    unfold downF
    rw [if_pos (by decide)]
    by_cases c : p / nI (2 ^ 1) * nI (2 ^ 1) ≤ p
    · rw [if_pos c, hq, ht]
      rw [Int32.le_iff_toInt_le, hm, ht] at c
      split at c <;> split <;> omega
    · rw [if_neg c, Int32.toInt_sub, hq, show (1 : Int32).toInt = 1 from rfl, ht]
      rw [Int32.le_iff_toInt_le, hm, ht] at c
      rw [Int.bmod_eq_of_le]
      · split at c <;> split <;> omega
      · split at c <;> split <;> omega
      · split at c <;> split <;> omega
  have ed : (downF p (nI (2 ^ 1))).toInt = _ := BitVec.toInt_eq_toNat_cond (downF p (nI (2 ^ 1))).toBitVec
  have hl2 := (downF p (nI (2 ^ 1))).toBitVec.isLt
  rw [hd] at ed
  generalize (downF p (nI (2 ^ 1))).toBitVec.toNat = w at *
  generalize p.toBitVec.toNat = k at *
  generalize p.toInt = x at *
  split at et <;> split at ed <;> omega
theorem dn_2 (p : Int32) : (downF p (nI (2 ^ 2))).toBitVec.toNat % 65536 = p.toBitVec.toNat / 2 ^ 2 % 65536 := by
  have et : p.toInt = _ := BitVec.toInt_eq_toNat_cond p.toBitVec
  have hl := p.toBitVec.isLt
  have eD : (nI (2 ^ 2)).toInt = 4 := nI_toInt (by decide)
  have hq : (p / nI (2 ^ 2)).toInt = p.toInt.tdiv 4 := by
    rw [Int32.toInt_div_of_ne_right _ _ (by decide), eD]
  have ht : p.toInt.tdiv 4 = p.toInt / 4 + if 0 ≤ p.toInt ∨ (4 : Int) ∣ p.toInt then 0 else 1 := Int.tdiv_eq_ediv
  have hp1 : -2147483648 ≤ p.toInt := by split at et <;> omega
  have hp2 : p.toInt ≤ 2147483647 := by split at et <;> omega
  have hm : (p / nI (2 ^ 2) * nI (2 ^ 2)).toInt = p.toInt.tdiv 4 * 4 := by
    rw [Int32.toInt_mul, hq, eD, ht]
    apply Int.bmod_eq_of_le
    · split <;> omega
    · split <;> omega
  have hd : (downF p (nI (2 ^ 2))).toInt = p.toInt / 4 := by
    unfold downF
    rw [if_pos (by decide)]
    by_cases c : p / nI (2 ^ 2) * nI (2 ^ 2) ≤ p
    · rw [if_pos c, hq, ht]
      rw [Int32.le_iff_toInt_le, hm, ht] at c
      split at c <;> split <;> omega
    · rw [if_neg c, Int32.toInt_sub, hq, show (1 : Int32).toInt = 1 from rfl, ht]
      rw [Int32.le_iff_toInt_le, hm, ht] at c
      rw [Int.bmod_eq_of_le]
      · split at c <;> split <;> omega
      · split at c <;> split <;> omega
      · split at c <;> split <;> omega
  have ed : (downF p (nI (2 ^ 2))).toInt = _ := BitVec.toInt_eq_toNat_cond (downF p (nI (2 ^ 2))).toBitVec
  have hl2 := (downF p (nI (2 ^ 2))).toBitVec.isLt
  rw [hd] at ed
  generalize (downF p (nI (2 ^ 2))).toBitVec.toNat = w at *
  generalize p.toBitVec.toNat = k at *
  generalize p.toInt = x at *
  split at et <;> split at ed <;> omega
theorem dn_3 (p : Int32) : (downF p (nI (2 ^ 3))).toBitVec.toNat % 65536 = p.toBitVec.toNat / 2 ^ 3 % 65536 := by
  have et : p.toInt = _ := BitVec.toInt_eq_toNat_cond p.toBitVec
  have hl := p.toBitVec.isLt
  have eD : (nI (2 ^ 3)).toInt = 8 := nI_toInt (by decide)
  have hq : (p / nI (2 ^ 3)).toInt = p.toInt.tdiv 8 := by
    rw [Int32.toInt_div_of_ne_right _ _ (by decide), eD]
  have ht : p.toInt.tdiv 8 = p.toInt / 8 + if 0 ≤ p.toInt ∨ (8 : Int) ∣ p.toInt then 0 else 1 := Int.tdiv_eq_ediv
  have hp1 : -2147483648 ≤ p.toInt := by split at et <;> omega
  have hp2 : p.toInt ≤ 2147483647 := by split at et <;> omega
  have hm : (p / nI (2 ^ 3) * nI (2 ^ 3)).toInt = p.toInt.tdiv 8 * 8 := by
    rw [Int32.toInt_mul, hq, eD, ht]
    apply Int.bmod_eq_of_le
    · split <;> omega
    · split <;> omega
  have hd : (downF p (nI (2 ^ 3))).toInt = p.toInt / 8 := by
    unfold downF
    rw [if_pos (by decide)]
    by_cases c : p / nI (2 ^ 3) * nI (2 ^ 3) ≤ p
    · rw [if_pos c, hq, ht]
      rw [Int32.le_iff_toInt_le, hm, ht] at c
      split at c <;> split <;> omega
    · rw [if_neg c, Int32.toInt_sub, hq, show (1 : Int32).toInt = 1 from rfl, ht]
      rw [Int32.le_iff_toInt_le, hm, ht] at c
      rw [Int.bmod_eq_of_le]
      · split at c <;> split <;> omega
      · split at c <;> split <;> omega
      · split at c <;> split <;> omega
  have ed : (downF p (nI (2 ^ 3))).toInt = _ := BitVec.toInt_eq_toNat_cond (downF p (nI (2 ^ 3))).toBitVec
  have hl2 := (downF p (nI (2 ^ 3))).toBitVec.isLt
  rw [hd] at ed
  generalize (downF p (nI (2 ^ 3))).toBitVec.toNat = w at *
  generalize p.toBitVec.toNat = k at *
  generalize p.toInt = x at *
  split at et <;> split at ed <;> omega
theorem dn_4 (p : Int32) : (downF p (nI (2 ^ 4))).toBitVec.toNat % 65536 = p.toBitVec.toNat / 2 ^ 4 % 65536 := by
  have et : p.toInt = _ := BitVec.toInt_eq_toNat_cond p.toBitVec
  have hl := p.toBitVec.isLt
  have eD : (nI (2 ^ 4)).toInt = 16 := nI_toInt (by decide)
  have hq : (p / nI (2 ^ 4)).toInt = p.toInt.tdiv 16 := by
    rw [Int32.toInt_div_of_ne_right _ _ (by decide), eD]
  have ht : p.toInt.tdiv 16 = p.toInt / 16 + if 0 ≤ p.toInt ∨ (16 : Int) ∣ p.toInt then 0 else 1 := Int.tdiv_eq_ediv
  have hp1 : -2147483648 ≤ p.toInt := by split at et <;> omega
  have hp2 : p.toInt ≤ 2147483647 := by split at et <;> omega
  have hm : (p / nI (2 ^ 4) * nI (2 ^ 4)).toInt = p.toInt.tdiv 16 * 16 := by
    rw [Int32.toInt_mul, hq, eD, ht]
    apply Int.bmod_eq_of_le
    · split <;> omega
    · split <;> omega
  have hd : (downF p (nI (2 ^ 4))).toInt = p.toInt / 16 := by
    unfold downF
    rw [if_pos (by decide)]
    by_cases c : p / nI (2 ^ 4) * nI (2 ^ 4) ≤ p
    · rw [if_pos c, hq, ht]
      rw [Int32.le_iff_toInt_le, hm, ht] at c
      split at c <;> split <;> omega
    · rw [if_neg c, Int32.toInt_sub, hq, show (1 : Int32).toInt = 1 from rfl, ht]
      rw [Int32.le_iff_toInt_le, hm, ht] at c
      rw [Int.bmod_eq_of_le]
      · split at c <;> split <;> omega
      · split at c <;> split <;> omega
      · split at c <;> split <;> omega
  have ed : (downF p (nI (2 ^ 4))).toInt = _ := BitVec.toInt_eq_toNat_cond (downF p (nI (2 ^ 4))).toBitVec
  have hl2 := (downF p (nI (2 ^ 4))).toBitVec.isLt
  rw [hd] at ed
  generalize (downF p (nI (2 ^ 4))).toBitVec.toNat = w at *
  generalize p.toBitVec.toNat = k at *
  generalize p.toInt = x at *
  split at et <;> split at ed <;> omega
theorem dn_5 (p : Int32) : (downF p (nI (2 ^ 5))).toBitVec.toNat % 65536 = p.toBitVec.toNat / 2 ^ 5 % 65536 := by
  have et : p.toInt = _ := BitVec.toInt_eq_toNat_cond p.toBitVec
  have hl := p.toBitVec.isLt
  have eD : (nI (2 ^ 5)).toInt = 32 := nI_toInt (by decide)
  have hq : (p / nI (2 ^ 5)).toInt = p.toInt.tdiv 32 := by
    rw [Int32.toInt_div_of_ne_right _ _ (by decide), eD]
  have ht : p.toInt.tdiv 32 = p.toInt / 32 + if 0 ≤ p.toInt ∨ (32 : Int) ∣ p.toInt then 0 else 1 := Int.tdiv_eq_ediv
  have hp1 : -2147483648 ≤ p.toInt := by split at et <;> omega
  have hp2 : p.toInt ≤ 2147483647 := by split at et <;> omega
  have hm : (p / nI (2 ^ 5) * nI (2 ^ 5)).toInt = p.toInt.tdiv 32 * 32 := by
    rw [Int32.toInt_mul, hq, eD, ht]
    apply Int.bmod_eq_of_le
    · split <;> omega
    · split <;> omega
  have hd : (downF p (nI (2 ^ 5))).toInt = p.toInt / 32 := by
    unfold downF
    rw [if_pos (by decide)]
    by_cases c : p / nI (2 ^ 5) * nI (2 ^ 5) ≤ p
    · rw [if_pos c, hq, ht]
      rw [Int32.le_iff_toInt_le, hm, ht] at c
      split at c <;> split <;> omega
    · rw [if_neg c, Int32.toInt_sub, hq, show (1 : Int32).toInt = 1 from rfl, ht]
      rw [Int32.le_iff_toInt_le, hm, ht] at c
      rw [Int.bmod_eq_of_le]
      · split at c <;> split <;> omega
      · split at c <;> split <;> omega
      · split at c <;> split <;> omega
  have ed : (downF p (nI (2 ^ 5))).toInt = _ := BitVec.toInt_eq_toNat_cond (downF p (nI (2 ^ 5))).toBitVec
  have hl2 := (downF p (nI (2 ^ 5))).toBitVec.isLt
  rw [hd] at ed
  generalize (downF p (nI (2 ^ 5))).toBitVec.toNat = w at *
  generalize p.toBitVec.toNat = k at *
  generalize p.toInt = x at *
  split at et <;> split at ed <;> omega
theorem dn_6 (p : Int32) : (downF p (nI (2 ^ 6))).toBitVec.toNat % 65536 = p.toBitVec.toNat / 2 ^ 6 % 65536 := by
  have et : p.toInt = _ := BitVec.toInt_eq_toNat_cond p.toBitVec
  have hl := p.toBitVec.isLt
  have eD : (nI (2 ^ 6)).toInt = 64 := nI_toInt (by decide)
  have hq : (p / nI (2 ^ 6)).toInt = p.toInt.tdiv 64 := by
    rw [Int32.toInt_div_of_ne_right _ _ (by decide), eD]
  have ht : p.toInt.tdiv 64 = p.toInt / 64 + if 0 ≤ p.toInt ∨ (64 : Int) ∣ p.toInt then 0 else 1 := Int.tdiv_eq_ediv
  have hp1 : -2147483648 ≤ p.toInt := by split at et <;> omega
  have hp2 : p.toInt ≤ 2147483647 := by split at et <;> omega
  have hm : (p / nI (2 ^ 6) * nI (2 ^ 6)).toInt = p.toInt.tdiv 64 * 64 := by
    rw [Int32.toInt_mul, hq, eD, ht]
    apply Int.bmod_eq_of_le
    · split <;> omega
    · split <;> omega
  have hd : (downF p (nI (2 ^ 6))).toInt = p.toInt / 64 := by
    unfold downF
    rw [if_pos (by decide)]
    by_cases c : p / nI (2 ^ 6) * nI (2 ^ 6) ≤ p
    · rw [if_pos c, hq, ht]
      rw [Int32.le_iff_toInt_le, hm, ht] at c
      split at c <;> split <;> omega
    · rw [if_neg c, Int32.toInt_sub, hq, show (1 : Int32).toInt = 1 from rfl, ht]
      rw [Int32.le_iff_toInt_le, hm, ht] at c
      rw [Int.bmod_eq_of_le]
      · split at c <;> split <;> omega
      · split at c <;> split <;> omega
      · split at c <;> split <;> omega
  have ed : (downF p (nI (2 ^ 6))).toInt = _ := BitVec.toInt_eq_toNat_cond (downF p (nI (2 ^ 6))).toBitVec
  have hl2 := (downF p (nI (2 ^ 6))).toBitVec.isLt
  rw [hd] at ed
  generalize (downF p (nI (2 ^ 6))).toBitVec.toNat = w at *
  generalize p.toBitVec.toNat = k at *
  generalize p.toInt = x at *
  split at et <;> split at ed <;> omega
theorem dn_7 (p : Int32) : (downF p (nI (2 ^ 7))).toBitVec.toNat % 65536 = p.toBitVec.toNat / 2 ^ 7 % 65536 := by
  have et : p.toInt = _ := BitVec.toInt_eq_toNat_cond p.toBitVec
  have hl := p.toBitVec.isLt
  have eD : (nI (2 ^ 7)).toInt = 128 := nI_toInt (by decide)
  have hq : (p / nI (2 ^ 7)).toInt = p.toInt.tdiv 128 := by
    rw [Int32.toInt_div_of_ne_right _ _ (by decide), eD]
  have ht : p.toInt.tdiv 128 = p.toInt / 128 + if 0 ≤ p.toInt ∨ (128 : Int) ∣ p.toInt then 0 else 1 := Int.tdiv_eq_ediv
  have hp1 : -2147483648 ≤ p.toInt := by split at et <;> omega
  have hp2 : p.toInt ≤ 2147483647 := by split at et <;> omega
  have hm : (p / nI (2 ^ 7) * nI (2 ^ 7)).toInt = p.toInt.tdiv 128 * 128 := by
    rw [Int32.toInt_mul, hq, eD, ht]
    apply Int.bmod_eq_of_le
    · split <;> omega
    · split <;> omega
  have hd : (downF p (nI (2 ^ 7))).toInt = p.toInt / 128 := by
    unfold downF
    rw [if_pos (by decide)]
    by_cases c : p / nI (2 ^ 7) * nI (2 ^ 7) ≤ p
    · rw [if_pos c, hq, ht]
      rw [Int32.le_iff_toInt_le, hm, ht] at c
      split at c <;> split <;> omega
    · rw [if_neg c, Int32.toInt_sub, hq, show (1 : Int32).toInt = 1 from rfl, ht]
      rw [Int32.le_iff_toInt_le, hm, ht] at c
      rw [Int.bmod_eq_of_le]
      · split at c <;> split <;> omega
      · split at c <;> split <;> omega
      · split at c <;> split <;> omega
  have ed : (downF p (nI (2 ^ 7))).toInt = _ := BitVec.toInt_eq_toNat_cond (downF p (nI (2 ^ 7))).toBitVec
  have hl2 := (downF p (nI (2 ^ 7))).toBitVec.isLt
  rw [hd] at ed
  generalize (downF p (nI (2 ^ 7))).toBitVec.toNat = w at *
  generalize p.toBitVec.toNat = k at *
  generalize p.toInt = x at *
  split at et <;> split at ed <;> omega
theorem dn_8 (p : Int32) : (downF p (nI (2 ^ 8))).toBitVec.toNat % 65536 = p.toBitVec.toNat / 2 ^ 8 % 65536 := by
  have et : p.toInt = _ := BitVec.toInt_eq_toNat_cond p.toBitVec
  have hl := p.toBitVec.isLt
  have eD : (nI (2 ^ 8)).toInt = 256 := nI_toInt (by decide)
  have hq : (p / nI (2 ^ 8)).toInt = p.toInt.tdiv 256 := by
    rw [Int32.toInt_div_of_ne_right _ _ (by decide), eD]
  have ht : p.toInt.tdiv 256 = p.toInt / 256 + if 0 ≤ p.toInt ∨ (256 : Int) ∣ p.toInt then 0 else 1 := Int.tdiv_eq_ediv
  have hp1 : -2147483648 ≤ p.toInt := by split at et <;> omega
  have hp2 : p.toInt ≤ 2147483647 := by split at et <;> omega
  have hm : (p / nI (2 ^ 8) * nI (2 ^ 8)).toInt = p.toInt.tdiv 256 * 256 := by
    rw [Int32.toInt_mul, hq, eD, ht]
    apply Int.bmod_eq_of_le
    · split <;> omega
    · split <;> omega
  have hd : (downF p (nI (2 ^ 8))).toInt = p.toInt / 256 := by
    unfold downF
    rw [if_pos (by decide)]
    by_cases c : p / nI (2 ^ 8) * nI (2 ^ 8) ≤ p
    · rw [if_pos c, hq, ht]
      rw [Int32.le_iff_toInt_le, hm, ht] at c
      split at c <;> split <;> omega
    · rw [if_neg c, Int32.toInt_sub, hq, show (1 : Int32).toInt = 1 from rfl, ht]
      rw [Int32.le_iff_toInt_le, hm, ht] at c
      rw [Int.bmod_eq_of_le]
      · split at c <;> split <;> omega
      · split at c <;> split <;> omega
      · split at c <;> split <;> omega
  have ed : (downF p (nI (2 ^ 8))).toInt = _ := BitVec.toInt_eq_toNat_cond (downF p (nI (2 ^ 8))).toBitVec
  have hl2 := (downF p (nI (2 ^ 8))).toBitVec.isLt
  rw [hd] at ed
  generalize (downF p (nI (2 ^ 8))).toBitVec.toNat = w at *
  generalize p.toBitVec.toNat = k at *
  generalize p.toInt = x at *
  split at et <;> split at ed <;> omega
theorem dn_9 (p : Int32) : (downF p (nI (2 ^ 9))).toBitVec.toNat % 65536 = p.toBitVec.toNat / 2 ^ 9 % 65536 := by
  have et : p.toInt = _ := BitVec.toInt_eq_toNat_cond p.toBitVec
  have hl := p.toBitVec.isLt
  have eD : (nI (2 ^ 9)).toInt = 512 := nI_toInt (by decide)
  have hq : (p / nI (2 ^ 9)).toInt = p.toInt.tdiv 512 := by
    rw [Int32.toInt_div_of_ne_right _ _ (by decide), eD]
  have ht : p.toInt.tdiv 512 = p.toInt / 512 + if 0 ≤ p.toInt ∨ (512 : Int) ∣ p.toInt then 0 else 1 := Int.tdiv_eq_ediv
  have hp1 : -2147483648 ≤ p.toInt := by split at et <;> omega
  have hp2 : p.toInt ≤ 2147483647 := by split at et <;> omega
  have hm : (p / nI (2 ^ 9) * nI (2 ^ 9)).toInt = p.toInt.tdiv 512 * 512 := by
    rw [Int32.toInt_mul, hq, eD, ht]
    apply Int.bmod_eq_of_le
    · split <;> omega
    · split <;> omega
  have hd : (downF p (nI (2 ^ 9))).toInt = p.toInt / 512 := by
    unfold downF
    rw [if_pos (by decide)]
    by_cases c : p / nI (2 ^ 9) * nI (2 ^ 9) ≤ p
    · rw [if_pos c, hq, ht]
      rw [Int32.le_iff_toInt_le, hm, ht] at c
      split at c <;> split <;> omega
    · rw [if_neg c, Int32.toInt_sub, hq, show (1 : Int32).toInt = 1 from rfl, ht]
      rw [Int32.le_iff_toInt_le, hm, ht] at c
      rw [Int.bmod_eq_of_le]
      · split at c <;> split <;> omega
      · split at c <;> split <;> omega
      · split at c <;> split <;> omega
  have ed : (downF p (nI (2 ^ 9))).toInt = _ := BitVec.toInt_eq_toNat_cond (downF p (nI (2 ^ 9))).toBitVec
  have hl2 := (downF p (nI (2 ^ 9))).toBitVec.isLt
  rw [hd] at ed
  generalize (downF p (nI (2 ^ 9))).toBitVec.toNat = w at *
  generalize p.toBitVec.toNat = k at *
  generalize p.toInt = x at *
  split at et <;> split at ed <;> omega
theorem dn_10 (p : Int32) : (downF p (nI (2 ^ 10))).toBitVec.toNat % 65536 = p.toBitVec.toNat / 2 ^ 10 % 65536 := by
  have et : p.toInt = _ := BitVec.toInt_eq_toNat_cond p.toBitVec
  have hl := p.toBitVec.isLt
  have eD : (nI (2 ^ 10)).toInt = 1024 := nI_toInt (by decide)
  have hq : (p / nI (2 ^ 10)).toInt = p.toInt.tdiv 1024 := by
    rw [Int32.toInt_div_of_ne_right _ _ (by decide), eD]
  have ht : p.toInt.tdiv 1024 = p.toInt / 1024 + if 0 ≤ p.toInt ∨ (1024 : Int) ∣ p.toInt then 0 else 1 := Int.tdiv_eq_ediv
  have hp1 : -2147483648 ≤ p.toInt := by split at et <;> omega
  have hp2 : p.toInt ≤ 2147483647 := by split at et <;> omega
  have hm : (p / nI (2 ^ 10) * nI (2 ^ 10)).toInt = p.toInt.tdiv 1024 * 1024 := by
    rw [Int32.toInt_mul, hq, eD, ht]
    apply Int.bmod_eq_of_le
    · split <;> omega
    · split <;> omega
  have hd : (downF p (nI (2 ^ 10))).toInt = p.toInt / 1024 := by
    unfold downF
    rw [if_pos (by decide)]
    by_cases c : p / nI (2 ^ 10) * nI (2 ^ 10) ≤ p
    · rw [if_pos c, hq, ht]
      rw [Int32.le_iff_toInt_le, hm, ht] at c
      split at c <;> split <;> omega
    · rw [if_neg c, Int32.toInt_sub, hq, show (1 : Int32).toInt = 1 from rfl, ht]
      rw [Int32.le_iff_toInt_le, hm, ht] at c
      rw [Int.bmod_eq_of_le]
      · split at c <;> split <;> omega
      · split at c <;> split <;> omega
      · split at c <;> split <;> omega
  have ed : (downF p (nI (2 ^ 10))).toInt = _ := BitVec.toInt_eq_toNat_cond (downF p (nI (2 ^ 10))).toBitVec
  have hl2 := (downF p (nI (2 ^ 10))).toBitVec.isLt
  rw [hd] at ed
  generalize (downF p (nI (2 ^ 10))).toBitVec.toNat = w at *
  generalize p.toBitVec.toNat = k at *
  generalize p.toInt = x at *
  split at et <;> split at ed <;> omega
theorem dn_11 (p : Int32) : (downF p (nI (2 ^ 11))).toBitVec.toNat % 65536 = p.toBitVec.toNat / 2 ^ 11 % 65536 := by
  have et : p.toInt = _ := BitVec.toInt_eq_toNat_cond p.toBitVec
  have hl := p.toBitVec.isLt
  have eD : (nI (2 ^ 11)).toInt = 2048 := nI_toInt (by decide)
  have hq : (p / nI (2 ^ 11)).toInt = p.toInt.tdiv 2048 := by
    rw [Int32.toInt_div_of_ne_right _ _ (by decide), eD]
  have ht : p.toInt.tdiv 2048 = p.toInt / 2048 + if 0 ≤ p.toInt ∨ (2048 : Int) ∣ p.toInt then 0 else 1 := Int.tdiv_eq_ediv
  have hp1 : -2147483648 ≤ p.toInt := by split at et <;> omega
  have hp2 : p.toInt ≤ 2147483647 := by split at et <;> omega
  have hm : (p / nI (2 ^ 11) * nI (2 ^ 11)).toInt = p.toInt.tdiv 2048 * 2048 := by
    rw [Int32.toInt_mul, hq, eD, ht]
    apply Int.bmod_eq_of_le
    · split <;> omega
    · split <;> omega
  have hd : (downF p (nI (2 ^ 11))).toInt = p.toInt / 2048 := by
    unfold downF
    rw [if_pos (by decide)]
    by_cases c : p / nI (2 ^ 11) * nI (2 ^ 11) ≤ p
    · rw [if_pos c, hq, ht]
      rw [Int32.le_iff_toInt_le, hm, ht] at c
      split at c <;> split <;> omega
    · rw [if_neg c, Int32.toInt_sub, hq, show (1 : Int32).toInt = 1 from rfl, ht]
      rw [Int32.le_iff_toInt_le, hm, ht] at c
      rw [Int.bmod_eq_of_le]
      · split at c <;> split <;> omega
      · split at c <;> split <;> omega
      · split at c <;> split <;> omega
  have ed : (downF p (nI (2 ^ 11))).toInt = _ := BitVec.toInt_eq_toNat_cond (downF p (nI (2 ^ 11))).toBitVec
  have hl2 := (downF p (nI (2 ^ 11))).toBitVec.isLt
  rw [hd] at ed
  generalize (downF p (nI (2 ^ 11))).toBitVec.toNat = w at *
  generalize p.toBitVec.toNat = k at *
  generalize p.toInt = x at *
  split at et <;> split at ed <;> omega
theorem dn_12 (p : Int32) : (downF p (nI (2 ^ 12))).toBitVec.toNat % 65536 = p.toBitVec.toNat / 2 ^ 12 % 65536 := by
  have et : p.toInt = _ := BitVec.toInt_eq_toNat_cond p.toBitVec
  have hl := p.toBitVec.isLt
  have eD : (nI (2 ^ 12)).toInt = 4096 := nI_toInt (by decide)
  have hq : (p / nI (2 ^ 12)).toInt = p.toInt.tdiv 4096 := by
    rw [Int32.toInt_div_of_ne_right _ _ (by decide), eD]
  have ht : p.toInt.tdiv 4096 = p.toInt / 4096 + if 0 ≤ p.toInt ∨ (4096 : Int) ∣ p.toInt then 0 else 1 := Int.tdiv_eq_ediv
  have hp1 : -2147483648 ≤ p.toInt := by split at et <;> omega
  have hp2 : p.toInt ≤ 2147483647 := by split at et <;> omega
  have hm : (p / nI (2 ^ 12) * nI (2 ^ 12)).toInt = p.toInt.tdiv 4096 * 4096 := by
    rw [Int32.toInt_mul, hq, eD, ht]
    apply Int.bmod_eq_of_le
    · split <;> omega
    · split <;> omega
  have hd : (downF p (nI (2 ^ 12))).toInt = p.toInt / 4096 := by
    unfold downF
    rw [if_pos (by decide)]
    by_cases c : p / nI (2 ^ 12) * nI (2 ^ 12) ≤ p
    · rw [if_pos c, hq, ht]
      rw [Int32.le_iff_toInt_le, hm, ht] at c
      split at c <;> split <;> omega
    · rw [if_neg c, Int32.toInt_sub, hq, show (1 : Int32).toInt = 1 from rfl, ht]
      rw [Int32.le_iff_toInt_le, hm, ht] at c
      rw [Int.bmod_eq_of_le]
      · split at c <;> split <;> omega
      · split at c <;> split <;> omega
      · split at c <;> split <;> omega
  have ed : (downF p (nI (2 ^ 12))).toInt = _ := BitVec.toInt_eq_toNat_cond (downF p (nI (2 ^ 12))).toBitVec
  have hl2 := (downF p (nI (2 ^ 12))).toBitVec.isLt
  rw [hd] at ed
  generalize (downF p (nI (2 ^ 12))).toBitVec.toNat = w at *
  generalize p.toBitVec.toNat = k at *
  generalize p.toInt = x at *
  split at et <;> split at ed <;> omega
theorem dn_13 (p : Int32) : (downF p (nI (2 ^ 13))).toBitVec.toNat % 65536 = p.toBitVec.toNat / 2 ^ 13 % 65536 := by
  have et : p.toInt = _ := BitVec.toInt_eq_toNat_cond p.toBitVec
  have hl := p.toBitVec.isLt
  have eD : (nI (2 ^ 13)).toInt = 8192 := nI_toInt (by decide)
  have hq : (p / nI (2 ^ 13)).toInt = p.toInt.tdiv 8192 := by
    rw [Int32.toInt_div_of_ne_right _ _ (by decide), eD]
  have ht : p.toInt.tdiv 8192 = p.toInt / 8192 + if 0 ≤ p.toInt ∨ (8192 : Int) ∣ p.toInt then 0 else 1 := Int.tdiv_eq_ediv
  have hp1 : -2147483648 ≤ p.toInt := by split at et <;> omega
  have hp2 : p.toInt ≤ 2147483647 := by split at et <;> omega
  have hm : (p / nI (2 ^ 13) * nI (2 ^ 13)).toInt = p.toInt.tdiv 8192 * 8192 := by
    rw [Int32.toInt_mul, hq, eD, ht]
    apply Int.bmod_eq_of_le
    · split <;> omega
    · split <;> omega
  have hd : (downF p (nI (2 ^ 13))).toInt = p.toInt / 8192 := by
    unfold downF
    rw [if_pos (by decide)]
    by_cases c : p / nI (2 ^ 13) * nI (2 ^ 13) ≤ p
    · rw [if_pos c, hq, ht]
      rw [Int32.le_iff_toInt_le, hm, ht] at c
      split at c <;> split <;> omega
    · rw [if_neg c, Int32.toInt_sub, hq, show (1 : Int32).toInt = 1 from rfl, ht]
      rw [Int32.le_iff_toInt_le, hm, ht] at c
      rw [Int.bmod_eq_of_le]
      · split at c <;> split <;> omega
      · split at c <;> split <;> omega
      · split at c <;> split <;> omega
  have ed : (downF p (nI (2 ^ 13))).toInt = _ := BitVec.toInt_eq_toNat_cond (downF p (nI (2 ^ 13))).toBitVec
  have hl2 := (downF p (nI (2 ^ 13))).toBitVec.isLt
  rw [hd] at ed
  generalize (downF p (nI (2 ^ 13))).toBitVec.toNat = w at *
  generalize p.toBitVec.toNat = k at *
  generalize p.toInt = x at *
  split at et <;> split at ed <;> omega
theorem dn_14 (p : Int32) : (downF p (nI (2 ^ 14))).toBitVec.toNat % 65536 = p.toBitVec.toNat / 2 ^ 14 % 65536 := by
  have et : p.toInt = _ := BitVec.toInt_eq_toNat_cond p.toBitVec
  have hl := p.toBitVec.isLt
  have eD : (nI (2 ^ 14)).toInt = 16384 := nI_toInt (by decide)
  have hq : (p / nI (2 ^ 14)).toInt = p.toInt.tdiv 16384 := by
    rw [Int32.toInt_div_of_ne_right _ _ (by decide), eD]
  have ht : p.toInt.tdiv 16384 = p.toInt / 16384 + if 0 ≤ p.toInt ∨ (16384 : Int) ∣ p.toInt then 0 else 1 := Int.tdiv_eq_ediv
  have hp1 : -2147483648 ≤ p.toInt := by split at et <;> omega
  have hp2 : p.toInt ≤ 2147483647 := by split at et <;> omega
  have hm : (p / nI (2 ^ 14) * nI (2 ^ 14)).toInt = p.toInt.tdiv 16384 * 16384 := by
    rw [Int32.toInt_mul, hq, eD, ht]
    apply Int.bmod_eq_of_le
    · split <;> omega
    · split <;> omega
  have hd : (downF p (nI (2 ^ 14))).toInt = p.toInt / 16384 := by
    unfold downF
    rw [if_pos (by decide)]
    by_cases c : p / nI (2 ^ 14) * nI (2 ^ 14) ≤ p
    · rw [if_pos c, hq, ht]
      rw [Int32.le_iff_toInt_le, hm, ht] at c
      split at c <;> split <;> omega
    · rw [if_neg c, Int32.toInt_sub, hq, show (1 : Int32).toInt = 1 from rfl, ht]
      rw [Int32.le_iff_toInt_le, hm, ht] at c
      rw [Int.bmod_eq_of_le]
      · split at c <;> split <;> omega
      · split at c <;> split <;> omega
      · split at c <;> split <;> omega
  have ed : (downF p (nI (2 ^ 14))).toInt = _ := BitVec.toInt_eq_toNat_cond (downF p (nI (2 ^ 14))).toBitVec
  have hl2 := (downF p (nI (2 ^ 14))).toBitVec.isLt
  rw [hd] at ed
  generalize (downF p (nI (2 ^ 14))).toBitVec.toNat = w at *
  generalize p.toBitVec.toNat = k at *
  generalize p.toInt = x at *
  split at et <;> split at ed <;> omega
theorem dn_15 (p : Int32) : (downF p (nI (2 ^ 15))).toBitVec.toNat % 65536 = p.toBitVec.toNat / 2 ^ 15 % 65536 := by
  have et : p.toInt = _ := BitVec.toInt_eq_toNat_cond p.toBitVec
  have hl := p.toBitVec.isLt
  have eD : (nI (2 ^ 15)).toInt = 32768 := nI_toInt (by decide)
  have hq : (p / nI (2 ^ 15)).toInt = p.toInt.tdiv 32768 := by
    rw [Int32.toInt_div_of_ne_right _ _ (by decide), eD]
  have ht : p.toInt.tdiv 32768 = p.toInt / 32768 + if 0 ≤ p.toInt ∨ (32768 : Int) ∣ p.toInt then 0 else 1 := Int.tdiv_eq_ediv
  have hp1 : -2147483648 ≤ p.toInt := by split at et <;> omega
  have hp2 : p.toInt ≤ 2147483647 := by split at et <;> omega
  have hm : (p / nI (2 ^ 15) * nI (2 ^ 15)).toInt = p.toInt.tdiv 32768 * 32768 := by
    rw [Int32.toInt_mul, hq, eD, ht]
    apply Int.bmod_eq_of_le
    · split <;> omega
    · split <;> omega
  have hd : (downF p (nI (2 ^ 15))).toInt = p.toInt / 32768 := by
    unfold downF
    rw [if_pos (by decide)]
    by_cases c : p / nI (2 ^ 15) * nI (2 ^ 15) ≤ p
    · rw [if_pos c, hq, ht]
      rw [Int32.le_iff_toInt_le, hm, ht] at c
      split at c <;> split <;> omega
    · rw [if_neg c, Int32.toInt_sub, hq, show (1 : Int32).toInt = 1 from rfl, ht]
      rw [Int32.le_iff_toInt_le, hm, ht] at c
      rw [Int.bmod_eq_of_le]
      · split at c <;> split <;> omega
      · split at c <;> split <;> omega
      · split at c <;> split <;> omega
  have ed : (downF p (nI (2 ^ 15))).toInt = _ := BitVec.toInt_eq_toNat_cond (downF p (nI (2 ^ 15))).toBitVec
  have hl2 := (downF p (nI (2 ^ 15))).toBitVec.isLt
  rw [hd] at ed
  generalize (downF p (nI (2 ^ 15))).toBitVec.toNat = w at *
  generalize p.toBitVec.toNat = k at *
  generalize p.toInt = x at *
  split at et <;> split at ed <;> omega
theorem dn_16 (p : Int32) : (downF p (nI (2 ^ 16))).toBitVec.toNat % 65536 = p.toBitVec.toNat / 2 ^ 16 % 65536 := by
  have et : p.toInt = _ := BitVec.toInt_eq_toNat_cond p.toBitVec
  have hl := p.toBitVec.isLt
  have eD : (nI (2 ^ 16)).toInt = 65536 := nI_toInt (by decide)
  have hq : (p / nI (2 ^ 16)).toInt = p.toInt.tdiv 65536 := by
    rw [Int32.toInt_div_of_ne_right _ _ (by decide), eD]
  have ht : p.toInt.tdiv 65536 = p.toInt / 65536 + if 0 ≤ p.toInt ∨ (65536 : Int) ∣ p.toInt then 0 else 1 := Int.tdiv_eq_ediv
  have hp1 : -2147483648 ≤ p.toInt := by split at et <;> omega
  have hp2 : p.toInt ≤ 2147483647 := by split at et <;> omega
  have hm : (p / nI (2 ^ 16) * nI (2 ^ 16)).toInt = p.toInt.tdiv 65536 * 65536 := by
    rw [Int32.toInt_mul, hq, eD, ht]
    apply Int.bmod_eq_of_le
    · split <;> omega
    · split <;> omega
  have hd : (downF p (nI (2 ^ 16))).toInt = p.toInt / 65536 := by
    unfold downF
    rw [if_pos (by decide)]
    by_cases c : p / nI (2 ^ 16) * nI (2 ^ 16) ≤ p
    · rw [if_pos c, hq, ht]
      rw [Int32.le_iff_toInt_le, hm, ht] at c
      split at c <;> split <;> omega
    · rw [if_neg c, Int32.toInt_sub, hq, show (1 : Int32).toInt = 1 from rfl, ht]
      rw [Int32.le_iff_toInt_le, hm, ht] at c
      rw [Int.bmod_eq_of_le]
      · split at c <;> split <;> omega
      · split at c <;> split <;> omega
      · split at c <;> split <;> omega
  have ed : (downF p (nI (2 ^ 16))).toInt = _ := BitVec.toInt_eq_toNat_cond (downF p (nI (2 ^ 16))).toBitVec
  have hl2 := (downF p (nI (2 ^ 16))).toBitVec.isLt
  rw [hd] at ed
  generalize (downF p (nI (2 ^ 16))).toBitVec.toNat = w at *
  generalize p.toBitVec.toNat = k at *
  generalize p.toInt = x at *
  split at et <;> split at ed <;> omega
theorem dn_low (p : Int32) {b : Nat} (hb : b < 16) : (downF p (nI (2 ^ b))).toBitVec.toNat % 65536 = p.toBitVec.toNat / 2 ^ b % 65536 := by
  have key : b = 0 ∨ b = 1 ∨ b = 2 ∨ b = 3 ∨ b = 4 ∨ b = 5 ∨ b = 6 ∨ b = 7 ∨ b = 8 ∨ b = 9 ∨ b = 10 ∨ b = 11 ∨ b = 12 ∨ b = 13 ∨ b = 14 ∨ b = 15 := by omega
  rcases key with rfl | rfl | rfl | rfl | rfl | rfl | rfl | rfl | rfl | rfl | rfl | rfl | rfl | rfl | rfl | rfl
  · exact dn_0 p
  · exact dn_1 p
  · exact dn_2 p
  · exact dn_3 p
  · exact dn_4 p
  · exact dn_5 p
  · exact dn_6 p
  · exact dn_7 p
  · exact dn_8 p
  · exact dn_9 p
  · exact dn_10 p
  · exact dn_11 p
  · exact dn_12 p
  · exact dn_13 p
  · exact dn_14 p
  · exact dn_15 p
theorem shF_pos (x : BitVec 32) {b : Nat} (hb : b < 16) : shF x (nI b) = x <<< b := by
  unfold shF
  rw [nI_toInt (by omega), if_pos (by omega), Int.toNat_natCast]
theorem shF_neg (x : BitVec 32) {b : Nat} (hb : b < 16) : shF x (-nI b) = x >>> b := by
  unfold shF
  rw [sb_negT (by omega)]
  rcases Nat.eq_zero_or_pos b with h | h
  · subst h
    rw [if_pos (by decide)]
    simp
  · rw [if_neg (by omega), Int.neg_neg, Int.toNat_natCast]
theorem lt_bit {X Y : Int32} (h1 : -32768 ≤ X.toInt) (h2 : X.toInt ≤ 32767) (h3 : -32768 ≤ Y.toInt) (h4 : Y.toInt ≤ 32767) : (X.toBitVec - Y.toBitVec).getLsbD 31 = decide (¬ Y ≤ X) := by
  have e : X.toBitVec - Y.toBitVec = (X - Y).toBitVec := rfl
  rw [e, b31, Int32.toInt_sub, Int.bmod_eq_of_le (by omega) (by omega)]
  apply decide_eq_decide.mpr
  rw [Int32.le_iff_toInt_le]
  omega
end
section
/-! the plain law: a line's micro-program answers as the model does -/
theorem ok_bit {k t f j s : Nat} (hk : k = 8 ∨ k = 10) (ht : t < 14) (hf : f < 14) (hs : s < 3) (hj : j < 32) : okM (k, t, f, nI j, s) :=
  ⟨by dsimp only; omega, ht, hf, hs, fun _ => ⟨j, hj, rfl⟩, fun h => by dsimp only at h; omega, fun h => by dsimp only at h; omega⟩
theorem ok_reg {k t f j s : Nat} (hk : 1 ≤ k ∧ k ≤ 5) (ht : t < 14) (hf : f < 14) (hs : s < 3) (hj : j < 14) : okM (k, t, f, nI j, s) :=
  ⟨by dsimp only; omega, ht, hf, hs, fun h => by dsimp only at h; omega, fun h => by dsimp only at h; omega, fun _ => ⟨j, hj, rfl⟩⟩
theorem ok_mv {t f s : Nat} {o : Int32} (ht : t < 14) (hf : f < 14) (hs : s < 3) (h1 : -64 ≤ o.toInt) (h2 : o.toInt ≤ 64) : okM (0, t, f, o, s) :=
  ⟨by dsimp only; omega, ht, hf, hs, fun h => by dsimp only at h; omega, fun _ => ⟨h1, h2⟩, fun h => by dsimp only at h; omega⟩
theorem ok_oth {k t f s : Nat} {o : Int32} (hk : k = 6 ∨ k = 7 ∨ k = 9 ∨ k = 11 ∨ k = 12) (ht : t < 14) (hf : f < 14) (hs : s < 3) : okM (k, t, f, o, s) :=
  ⟨by dsimp only; omega, ht, hf, hs, fun h => by dsimp only at h; omega, fun h => by dsimp only at h; omega, fun h => by dsimp only at h; omega⟩
theorem ok_c {P : List MO} {x : MO} (h : okM x) (hP : ∀ q ∈ P, okM q) : ∀ q ∈ x :: P, okM q := List.forall_mem_cons.mpr ⟨h, hP⟩
theorem ok_n : ∀ q ∈ ([] : List MO), okM q := fun _ h => absurd h List.not_mem_nil
theorem ok_a {P Q : List MO} (h : ∀ q ∈ P, okM q) (hP : ∀ q ∈ Q, okM q) : ∀ q ∈ P ++ Q, okM q := List.forall_mem_append.mpr ⟨h, hP⟩
theorem ok_pB : ∀ (n i : Nat), i + n ≤ 32 → ∀ q ∈ pB i n, okM q
  | 0, i, h => ok_n
  | n + 1, i, h => ok_a (ok_c (ok_bit (Or.inl rfl) (by decide) (by decide) (by decide) (by omega)) (ok_c (ok_reg (by decide) (by decide) (by decide) (by decide) (by decide)) (ok_c (ok_mv (by decide) (by decide) (by decide) (by decide) (by decide)) ok_n))) (ok_pB n (i + 1) (by omega))
theorem ok_prodP {x y : Nat} (hx : x < 8) (hy : y < 8) : ∀ q ∈ prodP x y, okM q := ok_a (ok_c (ok_mv (by decide) (by omega) (by decide) (by decide) (by decide)) (ok_c (ok_mv (by decide) (by omega) (by decide) (by decide) (by decide)) (ok_c (ok_oth (by decide) (by decide) (by decide) (by decide)) ok_n))) (ok_pB 32 0 (by decide))
theorem ok_amtP {t x : Nat} (ht : t < 14) (hx : x < 8) : ∀ q ∈ amtP t x, okM q := ok_c (ok_mv ht (by omega) (by decide) (by decide) (by decide)) (ok_c (ok_bit (Or.inl rfl) (by decide) (by omega) (by decide) (by decide)) (ok_c (ok_reg (by decide) ht (by decide) (by decide) (by omega)) ok_n))
theorem ok_qB : ∀ (n : Nat), n ≤ 16 → ∀ q ∈ qB n, okM q
  | 0, h => ok_n
  | n + 1, h => ok_a (ok_c (ok_mv (by decide) (by decide) (by decide) (by decide) (by decide)) (ok_c (ok_bit (Or.inl rfl) (by decide) (by decide) (by decide) (by omega)) (ok_c (ok_bit (j := 0) (Or.inr rfl) (by decide) (by decide) (by decide) (by decide)) (ok_c (ok_reg (by decide) (by decide) (by decide) (by decide) (by decide)) (ok_c (ok_oth (by decide) (by decide) (by decide) (by decide)) (ok_c (ok_mv (by decide) (by decide) (by decide) (by decide) (by decide)) (ok_c (ok_bit (Or.inr rfl) (by decide) (by decide) (by decide) (by omega)) ok_n))))))) (ok_qB n (by omega))
theorem ok_quoP {x y : Nat} (hx : x < 8) (hy : y < 8) : ∀ q ∈ quoP x y, okM q := ok_a (ok_a (ok_a (ok_a (ok_c (ok_oth (by decide) (by decide) (by decide) (by decide)) ok_n) (ok_amtP (by decide) hx)) (ok_amtP (by decide) hy)) (ok_c (ok_oth (by decide) (by decide) (by decide) (by decide)) (ok_c (ok_oth (by decide) (by decide) (by decide) (by decide)) ok_n))) (ok_qB 16 (by decide))
theorem ok_rB : ∀ (n : Nat), n ≤ 8 → ∀ q ∈ rB n, okM q
  | 0, h => ok_n
  | n + 1, h => ok_a (ok_c (ok_mv (by decide) (by decide) (by decide) (by decide) (by decide)) (ok_c (ok_bit (Or.inl rfl) (by decide) (by decide) (by decide) (by omega)) (ok_c (ok_bit (j := 1) (Or.inr rfl) (by decide) (by decide) (by decide) (by decide)) (ok_c (ok_bit (Or.inl rfl) (by decide) (by decide) (by decide) (by omega)) (ok_c (ok_bit (j := 0) (Or.inr rfl) (by decide) (by decide) (by decide) (by decide)) (ok_c (ok_mv (by decide) (by decide) (by decide) (by decide) (by decide)) (ok_c (ok_bit (j := 0) (Or.inr rfl) (by decide) (by decide) (by decide) (by decide)) (ok_c (ok_mv (by decide) (by decide) (by decide) (by decide) (by decide)) (ok_c (ok_reg (by decide) (by decide) (by decide) (by decide) (by decide)) (ok_c (ok_oth (by decide) (by decide) (by decide) (by decide)) (ok_c (ok_mv (by decide) (by decide) (by decide) (by decide) (by decide)) (ok_c (ok_bit (j := 0) (Or.inr rfl) (by decide) (by decide) (by decide) (by decide)) ok_n)))))))))))) (ok_rB n (by omega))
theorem ok_oB {x : Nat} (hx : x < 8) : ∀ (n i : Nat), i + n ≤ 32 → ∀ q ∈ oB x i n, okM q
  | 0, i, h => ok_n
  | n + 1, i, h => ok_a (ok_c (ok_bit (Or.inl rfl) (by decide) (by omega) (by decide) (by omega)) (ok_c (ok_reg (by decide) (by decide) (by decide) (by decide) (by decide)) ok_n)) (ok_oB hx n (i + 1) (by omega))
theorem prog_ok {o d x y b : Nat} (ho : o ≤ 16) (hd : d < 8) (hx : x < 8) (hy : y < 8) (hb : b < 16) (a : Int32) : ∀ q ∈ progOf o d x y b a, okM q := by
  have w8 : okM (6, d, 8, 0, 0) := ok_oth (by decide) (by omega) (by decide) (by decide)
  have w9 : okM (6, d, 9, 0, 0) := ok_oth (by decide) (by omega) (by decide) (by decide)
  have w10 : okM (6, d, 10, 0, 0) := ok_oth (by decide) (by omega) (by decide) (by decide)
  have w11 : okM (6, d, 11, 0, 0) := ok_oth (by decide) (by omega) (by decide) (by decide)
  have rg : ∀ k, 1 ≤ k ∧ k ≤ 5 → okM (k, 8, x, nI y, 0) := fun k hk => ok_reg hk (by decide) (by omega) (by decide) (by omega)
  have key : o = 0 ∨ o = 1 ∨ o = 2 ∨ o = 3 ∨ o = 4 ∨ o = 5 ∨ o = 6 ∨ o = 7 ∨ o = 8 ∨ o = 9 ∨ o = 10 ∨ o = 11 ∨ o = 12 ∨ o = 13 ∨ o = 14 ∨ o = 15 ∨ o = 16 := by omega
  rcases key with rfl | rfl | rfl | rfl | rfl | rfl | rfl | rfl | rfl | rfl | rfl | rfl | rfl | rfl | rfl | rfl | rfl
  · exact ok_c (ok_oth (by decide) (by decide) (by decide) (by decide)) (ok_c w8 ok_n)
  · exact ok_c (ok_oth (by decide) (by omega) (by omega) (by decide)) ok_n
  · exact ok_c (rg 1 (by decide)) (ok_c w8 ok_n)
  · exact ok_c (rg 2 (by decide)) (ok_c w8 ok_n)
  · exact ok_a (ok_prodP hx hy) (ok_c (ok_mv (by decide) (by decide) (by decide) (by decide) (by decide)) (ok_c w10 ok_n))
  · exact ok_a (ok_prodP hx hy) (ok_c (ok_mv (by decide) (by decide) (by decide) (by decide) (by decide)) (ok_c w10 ok_n))
  · exact ok_a (ok_quoP hx hy) (ok_c (ok_oth (by decide) (by decide) (by decide) (by decide)) (ok_c (ok_oth (by decide) (by decide) (by decide) (by decide)) (ok_c (ok_reg (by decide) (by decide) (by omega) (by decide) (by omega)) (ok_c (ok_bit (Or.inl rfl) (by decide) (by decide) (by decide) (by decide)) (ok_c (ok_reg (by decide) (by decide) (by decide) (by decide) (by decide)) (ok_c w11 ok_n))))))
  · exact ok_a (ok_quoP hx hy) (ok_c (ok_bit (Or.inl rfl) (by decide) (by omega) (by decide) (by decide)) (ok_c (ok_reg (by decide) (by decide) (by decide) (by decide) (by decide)) (ok_c w10 ok_n)))
  · exact ok_c (rg 3 (by decide)) (ok_c w8 ok_n)
  · exact ok_c (rg 4 (by decide)) (ok_c w8 ok_n)
  · exact ok_c (rg 5 (by decide)) (ok_c w8 ok_n)
  · exact ok_c (ok_mv (by decide) (by omega) (by decide) (by show -64 ≤ (nI b).toInt; rw [nI_toInt (by omega)]; omega) (by show (nI b).toInt ≤ 64; rw [nI_toInt (by omega)]; omega)) (ok_c w8 ok_n)
  · exact ok_c (ok_mv (by decide) (by omega) (by decide) (by show -64 ≤ (-nI b).toInt; rw [sb_negT (by omega)]; omega) (by show (-nI b).toInt ≤ 64; rw [sb_negT (by omega)]; omega)) (ok_c w8 ok_n)
  · exact ok_c (ok_oth (by decide) (by decide) (by decide) (by decide)) (ok_c (rg 2 (by decide)) (ok_c (ok_bit (Or.inl rfl) (by decide) (by decide) (by decide) (by decide)) (ok_c (ok_bit (j := 0) (Or.inr rfl) (by decide) (by decide) (by decide) (by decide)) (ok_c w9 ok_n))))
  · exact ok_c (ok_oth (by decide) (by decide) (by decide) (by decide)) (ok_c (rg 5 (by decide)) (ok_c (ok_oth (by decide) (by decide) (by decide) (by decide)) (ok_c (ok_bit (j := 0) (Or.inr rfl) (by decide) (by decide) (by decide) (by decide)) (ok_c w9 ok_n))))
  · exact ok_a (ok_a (ok_c (ok_oth (by decide) (by decide) (by omega) (by decide)) (ok_c (ok_oth (by decide) (by decide) (by decide) (by decide)) (ok_c (ok_oth (by decide) (by decide) (by decide) (by decide)) ok_n))) (ok_rB 8 (by decide))) (ok_c w10 ok_n)
  · exact ok_a (ok_a (ok_c (ok_oth (by decide) (by decide) (by decide) (by decide)) (ok_c (ok_oth (by decide) (by decide) (by decide) (by decide)) ok_n)) (ok_oB hx 16 0 (by decide))) (ok_c w8 ok_n)
theorem prog_len {o d x y b : Nat} (ho : o ≤ 16) (a : Int32) : (progOf o d x y b a).length ≤ 160 := by
  have e1 : (prodP x y).length = 99 := by rw [prodP, List.length_append, pB_len]; rfl
  have e2 : (quoP x y).length = 121 := by
    simp only [quoP, amtP, List.length_append, List.length_cons, List.length_nil, qB_len]
  have e3 : (finP o d x y).length ≤ 6 := by
    unfold finP
    split <;> simp
  have e4 : (cmpP o d x y).length = 5 := by
    unfold cmpP
    split <;> rfl
  have e5 : (rootP x).length = 99 := by rw [rootP, List.length_append, rB_len]; rfl
  have e6 : (onesP x).length = 34 := by rw [onesP, List.length_append, oB_len]; rfl
  unfold progOf
  repeat' split
  all_goals simp only [List.length_append, List.length_cons, List.length_nil, e1, e2, e4, e5, e6]
  all_goals omega
theorem rel_fin {Rg : Nat → BitVec 32} {V : Nat → Int32} (hRel : Rel Rg V) {d t : Nat} {z w : RS} {res : Int32} {P : List MO} (e : skl 0 P w = skl 0 [(6, d, t, 0, 0)] z) (hv : ∀ v, v < 8 → z.1 v = Rg v) (hw : wdF (z.1 t) = wdF res.toBitVec) : Rel (skl 0 P w).1 (upd V d (wrapF res)) := by
  rw [e, sk_wd, sk_nil]
  intro v hv8
  dsimp only
  by_cases c : v = d
  · subst c
    rw [upR_s, pk_us, hw, wd_wrap]
  · rw [upR_n _ _ c, pk_un c, hv v hv8, hRel v hv8]
theorem up8 {Rg : Nat → BitVec 32} {x : BitVec 32} {t : Nat} (ht : 8 ≤ t) : ∀ v, v < 8 → upR Rg t x v = Rg v := fun v hv => upR_n _ _ (by omega)
end
section
/-! a line, operation by operation -/
section Lines
variable {Rg : Nat → BitVec 32} {V : Nat → Int32} {d x y b : Nat} {a : Int32} {lb : Bool}
theorem ln_0 (hRel : Rel Rg V) : Rel (skl 0 (progOf 0 d x y b a) (Rg, lb)).1 (upd V d (wrapF (resF 0 (V x) (V y) a b))) := by
  rw [show progOf 0 d x y b a = [(11, 8, 0, a, 0), (6, d, 8, 0, 0)] from rfl, ← resF_0]
  exact rel_fin hRel (sk_con _ _ _ _ _ _) (up8 (by decide)) (by dsimp only; rw [upR_s])
theorem ln_1 (hRel : Rel Rg V) (hx : x < 8) : Rel (skl 0 (progOf 1 d x y b a) (Rg, lb)).1 (upd V d (wrapF (resF 1 (V x) (V y) a b))) := by
  rw [show progOf 1 d x y b a = [(6, d, x, 0, 0)] from rfl, ← resF_1]
  exact rel_fin hRel rfl (fun _ _ => rfl) (by dsimp only; rw [hRel x hx])
theorem ln_2 (hRel : Rel Rg V) (hx : x < 8) (hy : y < 8) : Rel (skl 0 (progOf 2 d x y b a) (Rg, lb)).1 (upd V d (wrapF (resF 2 (V x) (V y) a b))) := by
  rw [show progOf 2 d x y b a = [(1, 8, x, nI y, 0), (6, d, 8, 0, 0)] from rfl, ← resF_e (by decide), show twoF 2 (V x) (V y) = V x + V y from rfl]
  refine rel_fin hRel (sk_pl _ _ _ _ (by omega) _ _) (up8 (by decide)) ?_
  dsimp only
  rw [upR_s, hRel x hx, hRel y hy]
  rfl
theorem ln_3 (hRel : Rel Rg V) (hx : x < 8) (hy : y < 8) : Rel (skl 0 (progOf 3 d x y b a) (Rg, lb)).1 (upd V d (wrapF (resF 3 (V x) (V y) a b))) := by
  rw [show progOf 3 d x y b a = [(2, 8, x, nI y, 0), (6, d, 8, 0, 0)] from rfl, ← resF_e (by decide), show twoF 3 (V x) (V y) = V x - V y from rfl]
  refine rel_fin hRel (sk_mi _ _ _ _ (by omega) _ _) (up8 (by decide)) ?_
  dsimp only
  rw [upR_s, hRel x hx, hRel y hy]
  rfl
theorem ln_4 (hRel : Rel Rg V) (hx : x < 8) (hy : y < 8) : Rel (skl 0 (progOf 4 d x y b a) (Rg, lb)).1 (upd V d (wrapF (resF 4 (V x) (V y) a b))) := by
  rw [show progOf 4 d x y b a = prodP x y ++ [(0, 10, 10, 0, 0), (6, d, 10, 0, 0)] from rfl, ← resF_e (by decide), show twoF 4 (V x) (V y) = V x * V y from rfl]
  obtain ⟨z, h10, hv, e⟩ := sk_prod hx hy [(0, 10, 10, 0, 0), (6, d, 10, 0, 0)] (Rg, lb)
  refine rel_fin hRel (e.trans (sk_mv _ _ _ _ _ _)) (fun v hv8 => ?_) ?_
  · dsimp only
    rw [upR_n _ _ (by omega), hv v hv8]
  · dsimp only at h10 ⊢
    rw [upR_s, shF_0, h10, hRel x hx, hRel y hy]
    rfl
theorem ln_5 (hRel : Rel Rg V) (hx : x < 8) (hy : y < 8) : Rel (skl 0 (progOf 5 d x y b a) (Rg, lb)).1 (upd V d (wrapF (resF 5 (V x) (V y) a b))) := by
  rw [show progOf 5 d x y b a = prodP x y ++ [(0, 10, 10, -16, 0), (6, d, 10, 0, 0)] from rfl, ← resF_e (by decide), show twoF 5 (V x) (V y) = downF (V x * V y) 65536 from rfl]
  obtain ⟨z, h10, hv, e⟩ := sk_prod hx hy [(0, 10, 10, -16, 0), (6, d, 10, 0, 0)] (Rg, lb)
  refine rel_fin hRel (e.trans (sk_mv _ _ _ _ _ _)) (fun v hv8 => ?_) ?_
  · dsimp only
    rw [upR_n _ _ (by omega), hv v hv8]
  · dsimp only at h10 ⊢
    rw [upR_s, shF_m16, h10, hRel x hx, hRel y hy, show (V x).toBitVec * (V y).toBitVec = (V x * V y).toBitVec from rfl]
    apply wd_eq
    rw [show (65536 : Int32) = nI (2 ^ 16) by decide, dn_16, BitVec.toNat_ushiftRight, Nat.shiftRight_eq_div_pow]
theorem ln_8 (hRel : Rel Rg V) (hx : x < 8) (hy : y < 8) : Rel (skl 0 (progOf 8 d x y b a) (Rg, lb)).1 (upd V d (wrapF (resF 8 (V x) (V y) a b))) := by
  rw [show progOf 8 d x y b a = [(3, 8, x, nI y, 0), (6, d, 8, 0, 0)] from rfl, ← resF_e (by decide), show twoF 8 (V x) (V y) = V x &&& V y from rfl]
  refine rel_fin hRel (sk_an _ _ _ _ (by omega) _ _) (up8 (by decide)) ?_
  dsimp only
  rw [upR_s, hRel x hx, hRel y hy]
  rfl
theorem ln_9 (hRel : Rel Rg V) (hx : x < 8) (hy : y < 8) : Rel (skl 0 (progOf 9 d x y b a) (Rg, lb)).1 (upd V d (wrapF (resF 9 (V x) (V y) a b))) := by
  rw [show progOf 9 d x y b a = [(4, 8, x, nI y, 0), (6, d, 8, 0, 0)] from rfl, ← resF_e (by decide), show twoF 9 (V x) (V y) = V x ||| V y from rfl]
  refine rel_fin hRel (sk_or _ _ _ _ (by omega) _ _) (up8 (by decide)) ?_
  dsimp only
  rw [upR_s, hRel x hx, hRel y hy]
  rfl
theorem ln_10 (hRel : Rel Rg V) (hx : x < 8) (hy : y < 8) : Rel (skl 0 (progOf 10 d x y b a) (Rg, lb)).1 (upd V d (wrapF (resF 10 (V x) (V y) a b))) := by
  rw [show progOf 10 d x y b a = [(5, 8, x, nI y, 0), (6, d, 8, 0, 0)] from rfl, ← resF_e (by decide), show twoF 10 (V x) (V y) = V x ^^^ V y from rfl]
  refine rel_fin hRel (sk_xo _ _ _ _ (by omega) _ _) (up8 (by decide)) ?_
  dsimp only
  rw [upR_s, hRel x hx, hRel y hy]
  rfl
theorem ln_11 (hRel : Rel Rg V) (hx : x < 8) (hb : b < 16) : Rel (skl 0 (progOf 11 d x y b a) (Rg, lb)).1 (upd V d (wrapF (resF 11 (V x) (V y) a b))) := by
  rw [show progOf 11 d x y b a = [(0, 8, x, nI b, 0), (6, d, 8, 0, 0)] from rfl, ← resF_11]
  refine rel_fin hRel (sk_mv _ _ _ _ _ _) (up8 (by decide)) ?_
  dsimp only
  rw [upR_s, hRel x hx, shF_pos _ hb, shl_mul]
  rfl
theorem ln_12 (hRel : Rel Rg V) (hx : x < 8) (hb : b < 16) : Rel (skl 0 (progOf 12 d x y b a) (Rg, lb)).1 (upd V d (wrapF (resF 12 (V x) (V y) a b))) := by
  rw [show progOf 12 d x y b a = [(0, 8, x, -nI b, 0), (6, d, 8, 0, 0)] from rfl, ← resF_12]
  refine rel_fin hRel (sk_mv _ _ _ _ _ _) (up8 (by decide)) ?_
  dsimp only
  rw [upR_s, hRel x hx, shF_neg _ hb]
  apply wd_eq
  rw [dn_low _ hb, BitVec.toNat_ushiftRight, Nat.shiftRight_eq_div_pow]
theorem ln_13 (hRel : Rel Rg V) (hV : rngV V) (hx : x < 8) (hy : y < 8) : Rel (skl 0 (progOf 13 d x y b a) (Rg, lb)).1 (upd V d (wrapF (resF 13 (V x) (V y) a b))) := by
  rw [show progOf 13 d x y b a = [(11, 9, 0, 0, 0), (2, 8, x, nI y, 0), (8, 0, 8, nI 31, 1), (10, 9, 0, 0, 0), (6, d, 9, 0, 0)] from rfl, ← resF_e (by decide), show twoF 13 (V x) (V y) = if V y ≤ V x then 0 else 1 from rfl]
  have e := (sk_con 9 0 0 0 [(2, 8, x, nI y, 0), (8, 0, 8, nI 31, 1), (10, 9, 0, 0, 0), (6, d, 9, 0, 0)] (Rg, lb)).trans ((sk_mi 8 x y 0 (by omega) _ _).trans (sk_bit 0 8 31 (by decide) _ _ _))
  have hq : ∀ w : Bool, ((upR (upR Rg 9 (0 : Int32).toBitVec) 8 (upR Rg 9 (0 : Int32).toBitVec x - upR Rg 9 (0 : Int32).toBitVec y), w) : RS).1 8 = (V x).toBitVec - (V y).toBitVec := fun w => by
    dsimp only
    rw [upR_s, upR_n _ _ (by omega), upR_n _ _ (by omega), hRel x hx, hRel y hy]
  have hl := lt_bit (hV x hx).1 (hV x hx).2 (hV y hy).1 (hV y hy).2
  by_cases c : V y ≤ V x
  · rw [if_neg (by rw [hq, hl]; simp [c])] at e
    rw [if_pos c]
    refine rel_fin hRel e (fun v hv8 => ?_) ?_
    · dsimp only
      rw [upR_n _ _ (by omega), upR_n _ _ (by omega)]
    · dsimp only
      rw [upR_n _ _ (by decide), upR_s]
  · rw [if_pos (by rw [hq, hl]; simp [c])] at e
    rw [if_neg c]
    refine rel_fin hRel (e.trans (sk_set0 _ _ _ _ _)) (fun v hv8 => ?_) ?_
    · dsimp only
      rw [upR_n _ _ (by omega), upR_n _ _ (by omega), upR_n _ _ (by omega)]
    · dsimp only
      rw [upR_s, upR_n _ _ (by decide), upR_s]
      decide
theorem ln_14 (hRel : Rel Rg V) (hx : x < 8) (hy : y < 8) : Rel (skl 0 (progOf 14 d x y b a) (Rg, lb)).1 (upd V d (wrapF (resF 14 (V x) (V y) a b))) := by
  rw [show progOf 14 d x y b a = [(11, 9, 0, 0, 0), (5, 8, x, nI y, 0), (12, 0, 8, 0, 1), (10, 9, 0, 0, 0), (6, d, 9, 0, 0)] from rfl, ← resF_e (by decide), show twoF 14 (V x) (V y) = if V x = V y then 1 else 0 from rfl]
  have e := (sk_con 9 0 0 0 [(5, 8, x, nI y, 0), (12, 0, 8, 0, 1), (10, 9, 0, 0, 0), (6, d, 9, 0, 0)] (Rg, lb)).trans ((sk_xo 8 x y 0 (by omega) _ _).trans (sk_zer 0 8 0 _ _ _))
  have hq : ∀ w : Bool, ((upR (upR Rg 9 (0 : Int32).toBitVec) 8 (upR Rg 9 (0 : Int32).toBitVec x ^^^ upR Rg 9 (0 : Int32).toBitVec y), w) : RS).1 8 = (V x).toBitVec ^^^ (V y).toBitVec := fun w => by
    dsimp only
    rw [upR_s, upR_n _ _ (by omega), upR_n _ _ (by omega), hRel x hx, hRel y hy]
  have hz : (V x).toBitVec ^^^ (V y).toBitVec = 0 ↔ V x = V y := by
    rw [show (0 : BitVec 32) = 0#32 from rfl, BitVec.xor_eq_zero_iff]
    exact Int32.toBitVec_inj
  by_cases c : V x = V y
  · rw [if_pos (by rw [hq]; exact hz.mpr c)] at e
    rw [if_pos c]
    refine rel_fin hRel (e.trans (sk_set0 _ _ _ _ _)) (fun v hv8 => ?_) ?_
    · dsimp only
      rw [upR_n _ _ (by omega), upR_n _ _ (by omega), upR_n _ _ (by omega)]
    · dsimp only
      rw [upR_s, upR_n _ _ (by decide), upR_s]
      decide
  · rw [if_neg (by rw [hq]; exact fun q => c (hz.mp q))] at e
    rw [if_neg c]
    refine rel_fin hRel e (fun v hv8 => ?_) ?_
    · dsimp only
      rw [upR_n _ _ (by omega), upR_n _ _ (by omega)]
    · dsimp only
      rw [upR_n _ _ (by decide), upR_s]
theorem ln_15 (hRel : Rel Rg V) (hV : rngV V) (hx : x < 8) : Rel (skl 0 (progOf 15 d x y b a) (Rg, lb)).1 (upd V d (wrapF (resF 15 (V x) (V y) a b))) := by
  rw [show progOf 15 d x y b a = rootP x ++ [(6, d, 10, 0, 0)] from rfl, ← resF_15]
  obtain ⟨z, ⟨r, m, h10, hrm, hm⟩, hv, e⟩ := sk_root hx [(6, d, 10, 0, 0)] (Rg, lb)
  obtain ⟨k, hk, ek, ek2⟩ := plainF_nat (hV x hx).1 (hV x hx).2
  refine rel_fin hRel e hv ?_
  dsimp only at hrm
  rw [hRel x hx, ek2] at hrm
  rw [ek, nI_clamp (by omega), root_is hk hrm hm]
  have hr := sq_le (r := r) (N := k) (by omega) hk
  congr 1
  apply BitVec.eq_of_toNat_eq
  rw [h10, pk_tn (by omega)]
theorem ln_16 (hRel : Rel Rg V) (hV : rngV V) (hx : x < 8) : Rel (skl 0 (progOf 16 d x y b a) (Rg, lb)).1 (upd V d (wrapF (resF 16 (V x) (V y) a b))) := by
  rw [show progOf 16 d x y b a = onesP x ++ [(6, d, 8, 0, 0)] from rfl, ← resF_16]
  obtain ⟨z, h8, hv, e⟩ := sk_ones hx [(6, d, 8, 0, 0)] (Rg, lb)
  obtain ⟨k, hk, ek, ek2⟩ := plainF_nat (hV x hx).1 (hV x hx).2
  refine rel_fin hRel e hv ?_
  dsimp only at h8
  rw [hRel x hx, ek2] at h8
  rw [ek, nI_clamp (by omega)]
  have ho := onesN_le 16 k
  congr 1
  apply BitVec.eq_of_toNat_eq
  rw [h8, pk_tn (by omega)]
theorem ln_6 (hRel : Rel Rg V) (hV : rngV V) (hx : x < 8) (hy : y < 8) : Rel (skl 0 (progOf 6 d x y b a) (Rg, lb)).1 (upd V d (wrapF (resF 6 (V x) (V y) a b))) := by
  rw [show progOf 6 d x y b a = quoP x y ++ [(12, 0, 9, 0, 1), (11, 11, 0, 0, 0), (5, 12, x, nI y, 0), (8, 0, 12, nI 31, 1), (2, 11, 13, nI 11, 0), (6, d, 11, 0, 0)] from rfl, ← resF_e (by decide), show twoF 6 (V x) (V y) = quoF (V x) (V y) from rfl]
  have aX := amt_nat (hV x hx).1 (hV x hx).2
  have aY := amt_nat (hV y hy).1 (hV y hy).2
  have lX := hV x hx
  have lY := hV y hy
  rw [← hRel x hx] at aX
  rw [← hRel y hy] at aY
  obtain ⟨z, ⟨h8, h9, h10, h11, h13, hv⟩, e⟩ := sk_quo hx hy [(12, 0, 9, 0, 1), (11, 11, 0, 0, 0), (5, 12, x, nI y, 0), (8, 0, 12, nI 31, 1), (2, 11, 13, nI 11, 0), (6, d, 11, 0, 0)] (Rg, lb) (by dsimp only; omega) (by dsimp only; omega)
  dsimp only at h8 h9 h10 h11 hv
  rw [Nat.pow_zero, Nat.div_one, Nat.mul_one, aX, aY] at h11
  -- the quotient, nothing where the divisor is nothing
  have st : ∃ z1 : RS, (z1.1 11).toNat = (V x).toInt.natAbs / (V y).toInt.natAbs ∧ z1.1 13 = 0 ∧ (∀ v, v < 8 → z1.1 v = Rg v) ∧ skl 0 [(12, 0, 9, 0, 1), (11, 11, 0, 0, 0), (5, 12, x, nI y, 0), (8, 0, 12, nI 31, 1), (2, 11, 13, nI 11, 0), (6, d, 11, 0, 0)] z = skl 0 [(5, 12, x, nI y, 0), (8, 0, 12, nI 31, 1), (2, 11, 13, nI 11, 0), (6, d, 11, 0, 0)] z1 := by
    rw [sk_zer]
    by_cases c : z.1 9 = 0
    · have hb : (V y).toInt.natAbs = 0 := by rw [← aY, ← h9, c]; rfl
      rw [if_pos c, sk_con]
      refine ⟨_, ?_, ?_, ?_, rfl⟩
      · dsimp only
        rw [upR_s, hb, Nat.div_zero]
        rfl
      · dsimp only
        rw [upR_n _ _ (by decide), h13]
      · intro v hv8
        dsimp only
        rw [upR_n _ _ (by omega), hv v hv8]
    · rw [if_neg c]
      refine ⟨z, h11 ?_, h13, hv, rfl⟩
      rw [← aY, ← h9]
      exact Nat.pos_of_ne_zero (fun q => c (BitVec.eq_of_toNat_eq q))
  obtain ⟨z1, k11, k13, kv, e1⟩ := st
  have e2 := (e.trans e1).trans ((sk_xo 12 x y 0 (by omega) _ _).trans (sk_bit 0 12 31 (by decide) _ _ _))
  have hq : ((upR z1.1 12 (z1.1 x ^^^ z1.1 y), z1.2) : RS).1 12 = (V x).toBitVec ^^^ (V y).toBitVec := by
    dsimp only
    rw [upR_s, kv x hx, kv y hy, hRel x hx, hRel y hy]
  have hqb := quo_bv (X := V x) (Y := V y) lX.1 lX.2 (q := z1.1 11) k11
  by_cases c : ((V x).toBitVec ^^^ (V y).toBitVec).getLsbD 31 = true
  · rw [if_pos (by rw [hq]; exact c)] at e2
    rw [if_pos c] at hqb
    refine rel_fin hRel (e2.trans (sk_mi 11 13 11 0 (by decide) _ _)) (fun v hv8 => ?_) ?_
    · dsimp only
      rw [upR_n _ _ (by omega), upR_n _ _ (by omega), kv v hv8]
    · dsimp only
      rw [upR_s, upR_n _ _ (by decide), upR_n _ _ (by decide), k13, hqb]
  · rw [if_neg (by rw [hq]; exact c)] at e2
    rw [if_neg c] at hqb
    refine rel_fin hRel e2 (fun v hv8 => ?_) ?_
    · dsimp only
      rw [upR_n _ _ (by omega), kv v hv8]
    · dsimp only
      rw [upR_n _ _ (by decide), hqb]
theorem ln_7 (hRel : Rel Rg V) (hV : rngV V) (hx : x < 8) (hy : y < 8) : Rel (skl 0 (progOf 7 d x y b a) (Rg, lb)).1 (upd V d (wrapF (resF 7 (V x) (V y) a b))) := by
  rw [show progOf 7 d x y b a = quoP x y ++ [(8, 0, x, nI 31, 1), (2, 10, 13, nI 10, 0), (6, d, 10, 0, 0)] from rfl, ← resF_e (by decide), show twoF 7 (V x) (V y) = V x - V y * quoF (V x) (V y) from rfl]
  have aX := amt_nat (hV x hx).1 (hV x hx).2
  have aY := amt_nat (hV y hy).1 (hV y hy).2
  have lX := hV x hx
  have lY := hV y hy
  rw [← hRel x hx] at aX
  rw [← hRel y hy] at aY
  obtain ⟨z, ⟨h8, h9, h10, h11, h13, hv⟩, e⟩ := sk_quo hx hy [(8, 0, x, nI 31, 1), (2, 10, 13, nI 10, 0), (6, d, 10, 0, 0)] (Rg, lb) (by dsimp only; omega) (by dsimp only; omega)
  dsimp only at h8 h9 h10 h11 hv
  rw [Nat.pow_zero, Nat.div_one, aX, aY] at h10
  have e2 := e.trans (sk_bit 0 x 31 (by decide) _ _ _)
  have hq : z.1 x = (V x).toBitVec := by rw [hv x hx, hRel x hx]
  have hqb := rem_bv (X := V x) (Y := V y) lX.1 lX.2 (r := z.1 10) h10
  by_cases c : (V x).toBitVec.getLsbD 31 = true
  · rw [if_pos (by rw [hq]; exact c)] at e2
    rw [if_pos c] at hqb
    refine rel_fin hRel (e2.trans (sk_mi 10 13 10 0 (by decide) _ _)) (fun v hv8 => ?_) ?_
    · dsimp only
      rw [upR_n _ _ (by omega), hv v hv8]
    · dsimp only
      rw [upR_s, h13, hqb]
  · rw [if_neg (by rw [hq]; exact c)] at e2
    rw [if_neg c] at hqb
    exact rel_fin hRel e2 hv (by rw [hqb])
end Lines
theorem law_line {Rg : Nat → BitVec 32} {V : Nat → Int32} (hRel : Rel Rg V) (hV : rngV V) {o d x y b : Nat} (ho : o ≤ 16) (hd : d < 8) (hx : x < 8) (hy : y < 8) (hb : b < 16) (a : Int32) (lb : Bool) : Rel (skl 0 (progOf o d x y b a) (Rg, lb)).1 (upd V d (wrapF (resF o (V x) (V y) a b))) := by
  have key : o = 0 ∨ o = 1 ∨ o = 2 ∨ o = 3 ∨ o = 4 ∨ o = 5 ∨ o = 6 ∨ o = 7 ∨ o = 8 ∨ o = 9 ∨ o = 10 ∨ o = 11 ∨ o = 12 ∨ o = 13 ∨ o = 14 ∨ o = 15 ∨ o = 16 := by omega
  rcases key with rfl | rfl | rfl | rfl | rfl | rfl | rfl | rfl | rfl | rfl | rfl | rfl | rfl | rfl | rfl | rfl | rfl
  · exact ln_0 hRel
  · exact ln_1 hRel hx
  · exact ln_2 hRel hx hy
  · exact ln_3 hRel hx hy
  · exact ln_4 hRel hx hy
  · exact ln_5 hRel hx hy
  · exact ln_6 hRel hV hx hy
  · exact ln_7 hRel hV hx hy
  · exact ln_8 hRel hx hy
  · exact ln_9 hRel hx hy
  · exact ln_10 hRel hx hy
  · exact ln_11 hRel hx hb
  · exact ln_12 hRel hx hb
  · exact ln_13 hRel hV hx hy
  · exact ln_14 hRel hx hy
  · exact ln_15 hRel hV hx
  · exact ln_16 hRel hV hx
end
section
theorem get_eq {x : Int32} (h1 : -32768 ≤ x.toInt) (h2 : x.toInt ≤ 32767) : (if nI (x.toBitVec.toNat % 65536) < 32768 then nI (x.toBitVec.toNat % 65536) else nI (x.toBitVec.toNat % 65536) - 65536) = x := by
  have e : x.toInt = x.toBitVec.toInt := rfl
  have et := BitVec.toInt_eq_toNat_cond x.toBitVec
  have hl := x.toBitVec.isLt
  have hk : x.toBitVec.toNat % 65536 < 65536 := Nat.mod_lt _ (by decide)
  by_cases c : nI (x.toBitVec.toNat % 65536) < 32768
  · have c2 := (nI_ltI (b := 32768) (by omega) (by decide)).mp c
    rw [if_pos c]
    apply Int32.toInt_inj.mp
    rw [nI_toInt (by omega)]
    split at et <;> omega
  · have c2 : ¬ x.toBitVec.toNat % 65536 < 32768 := fun q => c ((nI_ltI (b := 32768) (by omega) (by decide)).mpr q)
    rw [if_neg c]
    apply Int32.toInt_inj.mp
    rw [show (65536 : Int32) = nI 65536 from rfl, pk_sub_toInt (by omega) (by decide)]
    split at et <;> omega
theorem plainF_eq {x : Int32} (h1 : -32768 ≤ x.toInt) (h2 : x.toInt ≤ 32767) : nI (x.toBitVec.toNat % 65536) = plainF x := by
  obtain ⟨k, -, e1, e2⟩ := plainF_nat h1 h2
  rw [e1, e2]
theorem rel_set {Rg : Nat → BitVec 32} {V : Nat → Int32} (h : Rel Rg V) {d : Nat} (hd : d < 8) (r : Int32) : Rel (upR (upR Rg 8 r.toBitVec) d (wdF (upR Rg 8 r.toBitVec 8))) (upd V d (wrapF r)) := by
  intro v hv
  by_cases c : v = d
  · subst c
    rw [upR_s, upR_s, pk_us, wd_wrap]
  · rw [upR_n _ _ c, upR_n _ _ (by omega), pk_un c]
    exact h v hv
theorem rel_zero {Rg : Nat → BitVec 32} {V : Nat → Int32} (h : Rel Rg V) {v : Nat} (hv : v < 8) : Rg v = 0 ↔ V v = 0 := by
  rw [h v hv]
  constructor
  · intro q
    exact Int32.toBitVec_inj.mp q
  · intro q
    rw [q]
    rfl
theorem rel_0 : Rel (fun _ => 0) (fun _ => 0) := fun v hv => rfl
theorem rng_0 : rngV (fun _ => 0) := fun _ _ => (show -32768 ≤ (0 : Int32).toInt ∧ (0 : Int32).toInt ≤ 32767 by decide)
end
section
abbrev RU : Type := (Nat → BitVec 32) × BitVec 32 × Bool × Int32 × (Nat → Nat → Int32)
def mU (h : Nat → Nat) (cs : Nat → ClassId) (ln nx : Int32) (O Dd Aa Bb : Nat → Int32) (u : RU) : va_W := mW h cs ln nx (bI u.2.2.1) u.2.2.2.1 O Dd Aa Bb (bOf u.1) (fOf u.2.1) (u.2.2.2.2 0) (u.2.2.2.2 1) (u.2.2.2.2 2) (u.2.2.2.2 3) (u.2.2.2.2 4)
set_option maxHeartbeats 4000000 in
set_option maxRecDepth 100000 in
theorem c_next (l : Launch) (D : va_G) (h : Nat → Nat) (cs : Nat → ClassId) (ln nx : Int32) (O Dd Aa Bb : Nat → Int32) (u : RU)  : CtI l y_M_next b_M_next 1 .int (rmm 0 0) D (tysM cs) [.ref (h 0)] (mU h cs ln nx O Dd Aa Bb u) (fun (z : Int32) (_ : Unit) => z = nx) (fun _ => mU h cs ln nx O Dd Aa Bb u) := by
  refine CtI.of R_M (by decide) rfl (Nat.le_of_ble_eq_true rfl) ?_
  intro p e s m args below meth c A ls SF hlk hr M hl
  have hx := SF.1
  have hb := SF.2.1
  have hl : lv_has ls 1 [(0, .ref (h 0))] := hl
  have M : WW D (tysM cs) A s (mW h cs ln nx (bI u.2.2.1) u.2.2.2.1 O Dd Aa Bb (bOf u.1) (fOf u.2.1) (u.2.2.2.2 0) (u.2.2.2.2 1) (u.2.2.2.2 2) (u.2.2.2.2 3) (u.2.2.2.2 4)) s.heap [] := M
  refine lv_aload_n hx hb d_M_next_0 rfl (lv_at hl 0 rfl) ?_
  refine gM_nextLine SF M d_M_next_1 ?_
  exact retI SF hlk hr () (rfl) M d_M_next_4
set_option maxHeartbeats 4000000 in
set_option maxRecDepth 100000 in
theorem c_rewind (l : Launch) (D : va_G) (h : Nat → Nat) (cs : Nat → ClassId) (ln nx : Int32) (O Dd Aa Bb : Nat → Int32) (u : RU)  : CtV l y_M_rewind b_M_rewind 1 (rmm 0 0) D (tysM cs) [.ref (h 0)] (mU h cs ln nx O Dd Aa Bb u) (fun _ : Unit => True) (fun _ => mU h cs ln 0 O Dd Aa Bb u) := by
  refine CtV.of R_M (by decide) rfl (Nat.le_of_ble_eq_true rfl) ?_
  intro p e s m args below meth c A ls SF hlk hr M hl
  have hx := SF.1
  have hb := SF.2.1
  have hl : lv_has ls 1 [(0, .ref (h 0))] := hl
  have M : WW D (tysM cs) A s (mW h cs ln nx (bI u.2.2.1) u.2.2.2.1 O Dd Aa Bb (bOf u.1) (fOf u.2.1) (u.2.2.2.2 0) (u.2.2.2.2 1) (u.2.2.2.2 2) (u.2.2.2.2 3) (u.2.2.2.2 4)) s.heap [] := M
  refine lv_aload_n hx hb d_M_rewind_0 rfl (lv_at hl 0 rfl) ?_
  refine lv_iconst hx hb d_M_rewind_1 ki_0 ?_
  refine pM_nextLine SF M d_M_rewind_2 (fun H locs M => ?_)
  exact retV SF hlk hr () trivial M d_M_rewind_5
set_option maxHeartbeats 4000000 in
set_option maxRecDepth 100000 in
theorem c_clear (l : Launch) (D : va_G) (h : Nat → Nat) (cs : Nat → ClassId) (ln nx : Int32) (O Dd Aa Bb : Nat → Int32) (u : RU)  : CtV l y_M_clear b_M_clear 1 (rmm 0 0) D (tysM cs) [.ref (h 0)] (mU h cs ln nx O Dd Aa Bb u) (fun _ : Unit => True) (fun _ => mU h cs 0 0 O Dd Aa Bb u) := by
  refine CtV.of R_M (by decide) rfl (Nat.le_of_ble_eq_true rfl) ?_
  intro p e s m args below meth c A ls SF hlk hr M hl
  have hx := SF.1
  have hb := SF.2.1
  have hl : lv_has ls 1 [(0, .ref (h 0))] := hl
  have M : WW D (tysM cs) A s (mW h cs ln nx (bI u.2.2.1) u.2.2.2.1 O Dd Aa Bb (bOf u.1) (fOf u.2.1) (u.2.2.2.2 0) (u.2.2.2.2 1) (u.2.2.2.2 2) (u.2.2.2.2 3) (u.2.2.2.2 4)) s.heap [] := M
  refine lv_aload_n hx hb d_M_clear_0 rfl (lv_at hl 0 rfl) ?_
  refine lv_iconst hx hb d_M_clear_1 ki_0 ?_
  refine pM_lines SF M d_M_clear_2 (fun H locs M => ?_)
  refine lv_aload_n hx hb d_M_clear_5 rfl (lv_at hl 0 rfl) ?_
  refine lv_iconst hx hb d_M_clear_6 ki_0 ?_
  refine pM_nextLine SF M d_M_clear_7 (fun H locs M => ?_)
  exact retV SF hlk hr () trivial M d_M_clear_10
set_option maxHeartbeats 4000000 in
set_option maxRecDepth 100000 in
theorem c_emit_ok (l : Launch) (D : va_G) (h : Nat → Nat) (cs : Nat → ClassId) (nx : Int32) (O Dd Aa Bb : Nat → Int32) (u : RU) (N : Nat) (op dst a b : Int32) (hok : emOK op N) : CtI l y_M_emit b_M_emit 5 .int (rmm 0 0) D (tysM cs) [.ref (h 0), .int op, .int dst, .int a, .int b] (mU h cs (nI N) nx O Dd Aa Bb u) (fun (z : Int32) (_ : Unit) => z = nI (N + 1)) (fun _ => mU h cs (nI (N + 1)) nx (upd O N op) (upd Dd N (dst &&& 7)) (upd Aa N a) (upd Bb N b) u) := by
  refine CtI.of R_M (by decide) rfl (Nat.le_of_ble_eq_true rfl) ?_
  intro p e s m args below meth c A ls SF hlk hr M hl
  have hx := SF.1
  have hb := SF.2.1
  have hl : lv_has ls 5 [(0, .ref (h 0)), (1, .int op), (2, .int dst), (3, .int a), (4, .int b)] := hl
  have M : WW D (tysM cs) A s (mW h cs (nI N) nx (bI u.2.2.1) u.2.2.2.1 O Dd Aa Bb (bOf u.1) (fOf u.2.1) (u.2.2.2.2 0) (u.2.2.2.2 1) (u.2.2.2.2 2) (u.2.2.2.2 3) (u.2.2.2.2 4)) s.heap [] := M
  have hN := hok.2.2
  refine lv_iload_n hx hb d_M_emit_0 rfl (lv_at hl 1 rfl) ?_
  refine lv_if_lt (tgt := 19) hx hb d_M_emit_1 (by decide) (fun c9 => absurd c9 hok.1) (fun _ => ?_)
  refine lv_iload_n hx hb d_M_emit_4 rfl (lv_at hl 1 rfl) ?_
  refine lv_bipush hx hb d_M_emit_5 kb_18 ?_
  refine lv_icmp_gt (tgt := 19) hx hb d_M_emit_7 (by decide) (fun c9 => absurd c9 hok.2.1) (fun _ => ?_)
  refine lv_aload_n hx hb d_M_emit_10 rfl (lv_at hl 0 rfl) ?_
  refine gM_lines SF M d_M_emit_11 ?_
  refine lv_bipush hx hb d_M_emit_14 kb_32 ?_
  refine lv_icmp_lt (tgt := 21) hx hb d_M_emit_16 (by decide) (fun _ => ?_) (fun c9 => absurd (nI_lt hN (by decide) : nI N < nI 32) c9)
  refine lv_aload_n hx hb d_M_emit_21 rfl (lv_at hl 0 rfl) ?_
  refine gM_opOf SF M d_M_emit_22 ?_
  refine lv_aload_n hx hb d_M_emit_25 rfl (lv_at hl 0 rfl) ?_
  refine gM_lines SF M d_M_emit_26 ?_
  refine lv_iload_n hx hb d_M_emit_29 rfl (lv_at hl 1 rfl) ?_
  refine sM_opOf SF M N rfl hN d_M_emit_30 (fun H locs M => ?_)
  refine lv_aload_n hx hb d_M_emit_31 rfl (lv_at hl 0 rfl) ?_
  refine gM_dstOf SF M d_M_emit_32 ?_
  refine lv_aload_n hx hb d_M_emit_35 rfl (lv_at hl 0 rfl) ?_
  refine gM_lines SF M d_M_emit_36 ?_
  refine lv_iload_n hx hb d_M_emit_39 rfl (lv_at hl 2 rfl) ?_
  refine lv_bipush hx hb d_M_emit_40 kb_7 ?_
  refine lv_iand hx hb d_M_emit_42 ?_
  refine sM_dstOf SF M N rfl hN d_M_emit_43 (fun H locs M => ?_)
  refine lv_aload_n hx hb d_M_emit_44 rfl (lv_at hl 0 rfl) ?_
  refine gM_aOf SF M d_M_emit_45 ?_
  refine lv_aload_n hx hb d_M_emit_48 rfl (lv_at hl 0 rfl) ?_
  refine gM_lines SF M d_M_emit_49 ?_
  refine lv_iload_n hx hb d_M_emit_52 rfl (lv_at hl 3 rfl) ?_
  refine sM_aOf SF M N rfl hN d_M_emit_53 (fun H locs M => ?_)
  refine lv_aload_n hx hb d_M_emit_54 rfl (lv_at hl 0 rfl) ?_
  refine gM_bOf SF M d_M_emit_55 ?_
  refine lv_aload_n hx hb d_M_emit_58 rfl (lv_at hl 0 rfl) ?_
  refine gM_lines SF M d_M_emit_59 ?_
  refine lv_iload hx hb d_M_emit_62 (lv_at hl 4 rfl) ?_
  refine sM_bOf SF M N rfl hN d_M_emit_64 (fun H locs M => ?_)
  refine lv_aload_n hx hb d_M_emit_65 rfl (lv_at hl 0 rfl) ?_
  refine lv_dup hx hb d_M_emit_66 rfl ?_
  refine gM_lines SF M d_M_emit_67 ?_
  refine lv_iconst hx hb d_M_emit_70 ki_1 ?_
  refine lv_iadd hx hb d_M_emit_71 ?_
  rw [nI_1]
  refine pM_lines SF M d_M_emit_72 (fun H locs M => ?_)
  refine lv_aload_n hx hb d_M_emit_75 rfl (lv_at hl 0 rfl) ?_
  refine gM_lines SF M d_M_emit_76 ?_
  exact retI SF hlk hr () (rfl) M d_M_emit_79
set_option maxHeartbeats 4000000 in
set_option maxRecDepth 100000 in
theorem c_emit_no (l : Launch) (D : va_G) (h : Nat → Nat) (cs : Nat → ClassId) (nx : Int32) (O Dd Aa Bb : Nat → Int32) (u : RU) (N : Nat) (op dst a b : Int32) (hN32 : N ≤ 32) (hno : ¬ emOK op N) : CtI l y_M_emit b_M_emit 5 .int (rmm 0 0) D (tysM cs) [.ref (h 0), .int op, .int dst, .int a, .int b] (mU h cs (nI N) nx O Dd Aa Bb u) (fun (z : Int32) (_ : Unit) => z = -1) (fun _ => mU h cs (nI N) nx O Dd Aa Bb u) := by
  refine CtI.of R_M (by decide) rfl (Nat.le_of_ble_eq_true rfl) ?_
  intro p e s m args below meth c A ls SF hlk hr M hl
  have hx := SF.1
  have hb := SF.2.1
  have hl : lv_has ls 5 [(0, .ref (h 0)), (1, .int op), (2, .int dst), (3, .int a), (4, .int b)] := hl
  have M : WW D (tysM cs) A s (mW h cs (nI N) nx (bI u.2.2.1) u.2.2.2.1 O Dd Aa Bb (bOf u.1) (fOf u.2.1) (u.2.2.2.2 0) (u.2.2.2.2 1) (u.2.2.2.2 2) (u.2.2.2.2 3) (u.2.2.2.2 4)) s.heap [] := M
  refine lv_iload_n hx hb d_M_emit_0 rfl (lv_at hl 1 rfl) ?_
  refine lv_if_lt (tgt := 19) hx hb d_M_emit_1 (by decide) (fun c1 => ?_) (fun c1 => ?_)
  · refine lv_iconst hx hb d_M_emit_19 ki_m1 ?_
    exact retI SF hlk hr () (rfl) M d_M_emit_20
  · refine lv_iload_n hx hb d_M_emit_4 rfl (lv_at hl 1 rfl) ?_
    refine lv_bipush hx hb d_M_emit_5 kb_18 ?_
    refine lv_icmp_gt (tgt := 19) hx hb d_M_emit_7 (by decide) (fun c2 => ?_) (fun c2 => ?_)
    · refine lv_iconst hx hb d_M_emit_19 ki_m1 ?_
      exact retI SF hlk hr () (rfl) M d_M_emit_20
    · have hN : 32 ≤ N := Nat.not_lt.mp (fun q9 => hno ⟨c1, c2, q9⟩)
      refine lv_aload_n hx hb d_M_emit_10 rfl (lv_at hl 0 rfl) ?_
      refine gM_lines SF M d_M_emit_11 ?_
      refine lv_bipush hx hb d_M_emit_14 kb_32 ?_
      refine lv_icmp_lt (tgt := 21) hx hb d_M_emit_16 (by decide) (fun c9 => absurd c9 (nI_nlt hN (by omega) : ¬ nI N < nI 32)) (fun _ => ?_)
      refine lv_iconst hx hb d_M_emit_19 ki_m1 ?_
      exact retI SF hlk hr () (rfl) M d_M_emit_20
set_option maxHeartbeats 4000000 in
set_option maxRecDepth 100000 in
theorem c_set (l : Launch) (D : va_G) (h : Nat → Nat) (cs : Nat → ClassId) (ln nx : Int32) (O Dd Aa Bb : Nat → Int32) (u : RU) (i v : Int32) (V : Nat → Int32) (hRel : Rel u.1 V) : CtV l y_M_set b_M_set 3 (rmm 2 45) D (tysM cs) [.ref (h 0), .int i, .int v] (mU h cs ln nx O Dd Aa Bb u) (fun u2 : RU => Rel u2.1 (upd V (r7 i) (wrapF v))) (fun u2 => mU h cs ln nx O Dd Aa Bb u2) := by
  refine CtV.of R_M (by decide) rfl (Nat.le_of_ble_eq_true rfl) ?_
  intro p e s m args below meth c A ls SF hlk hr M hl
  have hx := SF.1
  have hb := SF.2.1
  have hl : lv_has ls 3 [(0, .ref (h 0)), (1, .int i), (2, .int v)] := hl
  have M : WW D (tysM cs) A s (mW h cs ln nx (bI u.2.2.1) u.2.2.2.1 O Dd Aa Bb (bOf u.1) (fOf u.2.1) (u.2.2.2.2 0) (u.2.2.2.2 1) (u.2.2.2.2 2) (u.2.2.2.2 3) (u.2.2.2.2 4)) s.heap [] := M
  refine lv_aload_n hx hb d_M_set_0 rfl (lv_at hl 0 rfl) ?_
  refine lv_bipush hx hb d_M_set_1 kb_8 ?_
  refine lv_iload_n hx hb d_M_set_3 rfl (lv_at hl 2 rfl) ?_
  refine ccV SF M (c_loadConstant l D h cs ln nx (bI u.2.2.1) u.2.2.2.1 O Dd Aa Bb (u.2.2.2.2 0) (u.2.2.2.2 1) (u.2.2.2.2 2) (u.2.2.2.2 3) (u.2.2.2.2 4) u.1 (fOf u.2.1) 8 v (by decide)) g_M_51 hd_M_loadConstant ⟨Nat.le_of_ble_eq_true rfl, Nat.le_of_ble_eq_true rfl⟩ (ci := 0) rfl rfl hl.1 rfl (Nat.le_of_ble_eq_true rfl) d_M_set_4 ⟨Nat.zero_le _, Nat.zero_le _⟩ (fun x H locs hu M => ?_)
  refine lv_aload_n hx hb d_M_set_7 rfl (lv_at hl 0 rfl) ?_
  refine lv_iload_n hx hb d_M_set_8 rfl (lv_at hl 1 rfl) ?_
  refine lv_bipush hx hb d_M_set_9 kb_7 ?_
  refine lv_iand hx hb d_M_set_11 ?_
  rw [ix7]
  refine lv_bipush hx hb d_M_set_12 kb_8 ?_
  refine ccV SF M (c_widen l D h cs ln nx (bI u.2.2.1) u.2.2.2.1 O Dd Aa Bb (u.2.2.2.2 0) (u.2.2.2.2 1) (u.2.2.2.2 2) (u.2.2.2.2 3) (u.2.2.2.2 4) (upR u.1 8 v.toBitVec) u.2.1 (r7 i) 8 (Nat.lt_of_lt_of_le (r7_lt i) (by decide)) (by decide)) g_M_55 hd_M_widen ⟨Nat.le_of_ble_eq_true rfl, Nat.le_of_ble_eq_true rfl⟩ (ci := 0) rfl rfl hl.1 rfl (Nat.le_of_ble_eq_true rfl) d_M_set_14 ⟨Nat.zero_le _, Nat.zero_le _⟩ (fun x H locs hu M => ?_)
  exact retV SF hlk hr (upR (upR u.1 8 v.toBitVec) (r7 i) (wdF (upR u.1 8 v.toBitVec 8)), wdF (upR u.1 8 v.toBitVec 8), u.2.2.1, u.2.2.2.1, u.2.2.2.2) (rel_set hRel (r7_lt i) v) M d_M_set_17
set_option maxHeartbeats 4000000 in
set_option maxRecDepth 100000 in
theorem c_get (l : Launch) (D : va_G) (h : Nat → Nat) (cs : Nat → ClassId) (ln nx : Int32) (O Dd Aa Bb : Nat → Int32) (u : RU) (i : Int32) (V : Nat → Int32) (hRel : Rel u.1 V) (hV : rngV V) : CtI l y_M_get b_M_get 3 .int (rmm 1 23) D (tysM cs) [.ref (h 0), .int i] (mU h cs ln nx O Dd Aa Bb u) (fun (z : Int32) (_ : Unit) => z = V (r7 i)) (fun _ => mU h cs ln nx O Dd Aa Bb u) := by
  refine CtI.of R_M (by decide) rfl (Nat.le_of_ble_eq_true rfl) ?_
  intro p e s m args below meth c A ls SF hlk hr M hl
  have hx := SF.1
  have hb := SF.2.1
  have hl : lv_has ls 3 [(0, .ref (h 0)), (1, .int i)] := hl
  have M : WW D (tysM cs) A s (mW h cs ln nx (bI u.2.2.1) u.2.2.2.1 O Dd Aa Bb (bOf u.1) (fOf u.2.1) (u.2.2.2.2 0) (u.2.2.2.2 1) (u.2.2.2.2 2) (u.2.2.2.2 3) (u.2.2.2.2 4)) s.heap [] := M
  refine lv_aload_n hx hb d_M_get_0 rfl (lv_at hl 0 rfl) ?_
  refine lv_iload_n hx hb d_M_get_1 rfl (lv_at hl 1 rfl) ?_
  refine lv_bipush hx hb d_M_get_2 kb_7 ?_
  refine lv_iand hx hb d_M_get_4 ?_
  rw [ix7]
  refine ccI SF M (c_unsigned l D h cs ln nx (bI u.2.2.1) u.2.2.2.1 O Dd Aa Bb (u.2.2.2.2 0) (u.2.2.2.2 1) (u.2.2.2.2 2) (u.2.2.2.2 3) (u.2.2.2.2 4) u.1 (fOf u.2.1) (r7 i) (Nat.lt_of_lt_of_le (r7_lt i) (by decide))) g_M_58 hd_M_unsigned ⟨Nat.le_of_ble_eq_true rfl, Nat.le_of_ble_eq_true rfl⟩ (ci := 0) rfl rfl hl.1 rfl (Nat.le_of_ble_eq_true rfl) d_M_get_5 ⟨Nat.zero_le _, Nat.zero_le _⟩ (fun r x H locs hu M => ?_)
  rw [hRel _ (r7_lt i)] at hu
  have hg := get_eq (hV _ (r7_lt i)).1 (hV _ (r7_lt i)).2
  rw [← hu] at hg
  refine lv_istore_n (lv' := [(2, .int r), (0, .ref (h 0)), (1, .int i)]) hx hb d_M_get_8 rfl hl (by decide) rfl (fun ls hl => ?_)
  refine lv_iload_n hx hb d_M_get_9 rfl (lv_at hl 0 rfl) ?_
  refine lv_ldc hx hb SF.2.2.2.1 (SF.2.2.2.2 _ kc_M_62) d_M_get_10 ?_
  refine lv_icmp_lt (tgt := 22) hx hb d_M_get_12 (by decide) (fun c9 => ?_) (fun c9 => ?_)
  · refine lv_iload_n hx hb d_M_get_22 rfl (lv_at hl 0 rfl) ?_
    rw [if_pos c9] at hg
    exact retI SF hlk hr () (hg) M d_M_get_23
  · refine lv_iload_n hx hb d_M_get_15 rfl (lv_at hl 0 rfl) ?_
    refine lv_ldc hx hb SF.2.2.2.1 (SF.2.2.2.2 _ kc_M_63) d_M_get_16 ?_
    refine lv_isub hx hb d_M_get_18 ?_
    refine lv_goto (tgt := 23) hx hb d_M_get_19 (by decide) ?_
    rw [if_neg c9] at hg
    exact retI SF hlk hr () (hg) M d_M_get_23
section MTotal
variable {p : Program} {l : Launch} {e : Env} {R : Room} {s : State} {m : MethodId} {args : Array Value} {below : List Frame} {meth : Method} {c : Code} {cells slots : Nat} {Q : State → Prop}
variable {D : va_G} {A : Nat → Prop} {h : Nat → Nat} {cs : Nat → ClassId}
variable {ln nx : Int32} {O Dd Aa Bb : Nat → Int32} {u : RU} {V : Nat → Int32}
set_option maxHeartbeats 4000000 in
set_option maxRecDepth 100000 in
theorem lp_total (SF : CallFix p m c b_M_total 3 s args mt_tbl R_M) (hR : 1 ≤ R.frames ∧ 23 ≤ R.locals) (hRel : Rel u.1 V) (hV : rngV V)
    (kx : ∀ (H : Heap) (locs : List Loc) (ls : Array Slot), WW D (tysM cs) A s (mU h cs ln nx O Dd Aa Bb u) H locs → lv_has ls 3 [(0, .ref (h 0)), (1, .int (totF V 8)), (2, .int (nI 8))] → W p l e R s m args below meth c H locs 0 0 Q (F0 m 24 ls [])) :
    ∀ (n i : Nat), i + n = 8 → ∀ (H : Heap) (locs : List Loc) (ls : Array Slot), WW D (tysM cs) A s (mU h cs ln nx O Dd Aa Bb u) H locs → lv_has ls 3 [(0, .ref (h 0)), (1, .int (totF V i)), (2, .int (nI i))] → W p l e R s m args below meth c H locs 0 0 Q (F0 m 4 ls []) := by
  have hx := SF.1
  have hb := SF.2.1
  intro n
  induction n with
  | zero =>
    intro i hi H locs ls M hl
    obtain rfl : i = 8 := by omega
    refine lv_iload_n hx hb d_M_total_4 rfl (lv_at hl 2 rfl) ?_
    refine lv_bipush hx hb d_M_total_5 kb_8 ?_
    refine lv_icmp_ge (tgt := 24) hx hb d_M_total_7 (by decide) (fun _ => ?_) (fun c9 => absurd (nI_le (Nat.le_refl 8) (by decide) : nI 8 ≤ nI 8) c9)
    exact kx H locs ls M hl
  | succ n ih =>
    intro i hi H locs ls M hl
    refine lv_iload_n hx hb d_M_total_4 rfl (lv_at hl 2 rfl) ?_
    refine lv_bipush hx hb d_M_total_5 kb_8 ?_
    refine lv_icmp_ge (tgt := 24) hx hb d_M_total_7 (by decide) (fun c9 => absurd c9 (nI_ge (by omega) (by decide) : ¬ nI 8 ≤ nI i)) (fun _ => ?_)
    refine lv_iload_n hx hb d_M_total_10 rfl (lv_at hl 1 rfl) ?_
    refine lv_aload_n hx hb d_M_total_11 rfl (lv_at hl 0 rfl) ?_
    refine lv_iload_n hx hb d_M_total_12 rfl (lv_at hl 2 rfl) ?_
    refine ccI SF M (c_unsigned l D h cs ln nx (bI u.2.2.1) u.2.2.2.1 O Dd Aa Bb (u.2.2.2.2 0) (u.2.2.2.2 1) (u.2.2.2.2 2) (u.2.2.2.2 3) (u.2.2.2.2 4) u.1 (fOf u.2.1) i (by omega)) g_M_58 hd_M_unsigned hR (ci := 0) rfl rfl hl.1 rfl (Nat.le_of_ble_eq_true rfl) d_M_total_13 ⟨Nat.zero_le _, Nat.zero_le _⟩ (fun r x H locs hu M => ?_)
    rw [hRel i (by omega), plainF_eq (hV i (by omega)).1 (hV i (by omega)).2] at hu
    subst hu
    refine lv_iadd hx hb d_M_total_16 ?_
    refine lv_istore_n (lv' := [(1, .int (totF V (i + 1))), (0, .ref (h 0)), (2, .int (nI i))]) hx hb d_M_total_17 rfl hl (by decide) rfl (fun ls hl => ?_)
    refine lv_iinc (v := nI (i + 1)) (lv' := [(2, .int (nI (i + 1))), (1, .int (totF V (i + 1))), (0, .ref (h 0))]) hx hb d_M_total_18 hl (k := 2) rfl (nI_1 _) (by decide) rfl (fun ls hl => ?_)
    refine lv_goto (tgt := 4) hx hb d_M_total_21 (by decide) ?_
    exact ih (i + 1) (by omega) H locs ls M (lv_sub hl [2, 1, 0] rfl)
end MTotal
set_option maxHeartbeats 4000000 in
set_option maxRecDepth 100000 in
theorem c_total (l : Launch) (D : va_G) (h : Nat → Nat) (cs : Nat → ClassId) (ln nx : Int32) (O Dd Aa Bb : Nat → Int32) (u : RU) (V : Nat → Int32) (hRel : Rel u.1 V) (hV : rngV V) : CtI l y_M_total b_M_total 3 .int (rmm 1 23) D (tysM cs) [.ref (h 0)] (mU h cs ln nx O Dd Aa Bb u) (fun (z : Int32) (_ : Unit) => z = totF V 8) (fun _ => mU h cs ln nx O Dd Aa Bb u) := by
  refine CtI.of R_M (by decide) rfl (Nat.le_of_ble_eq_true rfl) ?_
  intro p e s m args below meth c A ls SF hlk hr M hl
  have hx := SF.1
  have hb := SF.2.1
  have hl : lv_has ls 3 [(0, .ref (h 0))] := hl
  refine lv_iconst hx hb d_M_total_0 ki_0 ?_
  refine lv_istore_n (lv' := [(1, .int 0), (0, .ref (h 0))]) hx hb d_M_total_1 rfl hl (by decide) rfl (fun ls hl => ?_)
  refine lv_iconst hx hb d_M_total_2 ki_0 ?_
  refine lv_istore_n (lv' := [(2, .int 0), (1, .int 0), (0, .ref (h 0))]) hx hb d_M_total_3 rfl hl (by decide) rfl (fun ls hl => ?_)
  refine lp_total (u := u) (V := V) SF ⟨Nat.le_of_ble_eq_true rfl, Nat.le_of_ble_eq_true rfl⟩ hRel hV (fun H locs ls M hl => ?_) 8 0 rfl _ _ ls M (lv_sub hl [2, 1, 0] rfl)
  refine lv_iload_n hx hb d_M_total_24 rfl (lv_at hl 1 rfl) ?_
  exact retI SF hlk hr () (rfl) M d_M_total_25
set_option maxHeartbeats 4000000 in
set_option maxRecDepth 100000 in
/-- carryOut(j) -/
theorem c_carryOut (l : Launch) (D : va_G) (h : Nat → Nat) (cs : Nat → ClassId) (ln nx : Int32) (O Dd Aa Bb : Nat → Int32) (u : RU) (j o d : Nat) (V : Nat → Int32) (hj : j < 32) (eo : O j = nI o) (ho : o ≤ 18) (ed : Dd j = nI d) (hd : d < 8) (hRel : Rel u.1 V) (hV : rngV V) : CtV l y_M_carryOut b_M_carryOut 6 (rmm 4 96) D (tysM cs) [.ref (h 0), .int (nI j)] (mU h cs ln nx O Dd Aa Bb u) (fun u2 : RU => Rel u2.1 (lnV o d V (V (r7 (Aa j))) (V (r7 (Bb j))) (Aa j) (Bb j))) (fun u2 => mU h cs ln (nI (lnN o (V (r7 (Aa j))) (Bb j) j)) O Dd Aa Bb u2) := by
  refine CtV.of R_M (by decide) rfl (Nat.le_of_ble_eq_true rfl) ?_
  intro p e s m args below meth c A ls SF hlk hr M hl
  have hx := SF.1
  have hb := SF.2.1
  have hl : lv_has ls 6 [(0, .ref (h 0)), (1, .int (nI j))] := hl
  have M : WW D (tysM cs) A s (mW h cs ln nx (bI u.2.2.1) u.2.2.2.1 O Dd Aa Bb (bOf u.1) (fOf u.2.1) (u.2.2.2.2 0) (u.2.2.2.2 1) (u.2.2.2.2 2) (u.2.2.2.2 3) (u.2.2.2.2 4)) s.heap [] := M
  refine lv_aload_n hx hb d_M_carryOut_0 rfl (lv_at hl 0 rfl) ?_
  refine gM_opOf SF M d_M_carryOut_1 ?_
  refine lv_iload_n hx hb d_M_carryOut_4 rfl (lv_at hl 1 rfl) ?_
  refine aM_opOf SF M j rfl hj d_M_carryOut_5 ?_
  rw [eo]
  refine lv_istore_n (lv' := [(2, .int (nI o)), (0, .ref (h 0)), (1, .int (nI j))]) hx hb d_M_carryOut_6 rfl hl (by decide) rfl (fun ls hl => ?_)
  refine lv_iload_n hx hb d_M_carryOut_7 rfl (lv_at hl 0 rfl) ?_
  refine lv_bipush hx hb d_M_carryOut_8 kb_17 ?_
  refine lv_icmp_lt (tgt := 102) hx hb d_M_carryOut_10 (by decide) (fun c17 => ?_) (fun c17 => ?_)
  · have ho16 : o ≤ 16 := Nat.lt_succ_iff.mp ((nI_ltI (b := 17) (by omega) (by decide)).mp c17)
    refine lv_aload_n hx hb d_M_carryOut_102 rfl (lv_at hl 1 rfl) ?_
    refine lv_iload_n hx hb d_M_carryOut_103 rfl (lv_at hl 2 rfl) ?_
    refine ccV SF M (c_translate l D h cs ln nx (bI u.2.2.1) u.2.2.2.1 O Dd Aa Bb (bOf u.1) (fOf u.2.1) (u.2.2.2.2 0) (u.2.2.2.2 1) (u.2.2.2.2 2) (u.2.2.2.2 3) (u.2.2.2.2 4) j o d hj eo ho16 ed) g_M_72 hd_M_translate ⟨Nat.le_of_ble_eq_true rfl, Nat.le_of_ble_eq_true rfl⟩ (ci := 0) rfl rfl hl.1 rfl (Nat.le_of_ble_eq_true rfl) d_M_carryOut_104 ⟨Nat.zero_le _, Nat.zero_le _⟩ (fun μ H locs hH M => ?_)
    refine lv_aload_n hx hb d_M_carryOut_107 rfl (lv_at hl 1 rfl) ?_
    refine ccV SF M (c_performAll l D h cs ln nx O Dd Aa Bb (μ 0) (μ 1) (μ 2) (μ 3) (μ 4) u.1 u.2.1 u.2.2.1 (progOf o d (r7 (Aa j)) (r7 (Bb j)) (r15 (Bb j)) (Aa j)) (prog_len ho16 _) hH (prog_ok ho16 hd (r7_lt _) (r7_lt _) (r15_lt _) _)) g_M_75 hd_M_performAll ⟨Nat.le_of_ble_eq_true rfl, Nat.le_of_ble_eq_true rfl⟩ (ci := 0) rfl rfl hl.1 rfl (Nat.le_of_ble_eq_true rfl) d_M_carryOut_108 ⟨Nat.zero_le _, Nat.zero_le _⟩ (fun B2 H locs hu M => ?_)
    refine lv_aload_n hx hb d_M_carryOut_111 rfl (lv_at hl 1 rfl) ?_
    refine lv_iload_n hx hb d_M_carryOut_112 rfl (lv_at hl 2 rfl) ?_
    refine lv_iconst hx hb d_M_carryOut_113 ki_1 ?_
    refine lv_iadd hx hb d_M_carryOut_114 ?_
    rw [nI_1]
    refine pM_nextLine SF M d_M_carryOut_115 (fun H locs M => ?_)
    have e1 : j + 1 = lnN o (V (r7 (Aa j))) (Bb j) j := by rw [lnN, if_neg (by omega), if_neg (by omega)]
    refine retV SF hlk hr ((skl 0 (progOf o d (r7 (Aa j)) (r7 (Bb j)) (r15 (Bb j)) (Aa j)) (u.1, u.2.2.1)).1, B2, (skl 0 (progOf o d (r7 (Aa j)) (r7 (Bb j)) (r15 (Bb j)) (Aa j)) (u.1, u.2.2.1)).2, nI (progOf o d (r7 (Aa j)) (r7 (Bb j)) (r15 (Bb j)) (Aa j)).length, μ) ?_ ?_ d_M_carryOut_118
    · show Rel (skl 0 (progOf o d (r7 (Aa j)) (r7 (Bb j)) (r15 (Bb j)) (Aa j)) (u.1, u.2.2.1)).1 _
      rw [lnV, if_neg (by omega)]
      exact law_line hRel hV ho16 hd (r7_lt _) (r7_lt _) (r15_lt _) _ _
    · rw [← e1]
      exact M
  · have ho17 : 17 ≤ o := Nat.not_lt.mp (fun q9 => c17 (nI_lt (b := 17) q9 (by decide)))
    refine lv_aload_n hx hb d_M_carryOut_13 rfl (lv_at hl 1 rfl) ?_
    refine lv_aload_n hx hb d_M_carryOut_14 rfl (lv_at hl 1 rfl) ?_
    refine gM_aOf SF M d_M_carryOut_15 ?_
    refine lv_iload_n hx hb d_M_carryOut_18 rfl (lv_at hl 2 rfl) ?_
    refine aM_aOf SF M j rfl hj d_M_carryOut_19 ?_
    refine lv_bipush hx hb d_M_carryOut_20 kb_7 ?_
    refine lv_iand hx hb d_M_carryOut_22 ?_
    rw [ix7]
    refine ccI SF M (c_isZero l D h cs ln nx (bI u.2.2.1) u.2.2.2.1 O Dd Aa Bb (u.2.2.2.2 0) (u.2.2.2.2 1) (u.2.2.2.2 2) (u.2.2.2.2 3) (u.2.2.2.2 4) u.1 (fOf u.2.1) (r7 (Aa j)) (Nat.lt_of_lt_of_le (r7_lt _) (by decide))) g_M_68 hd_M_isZero ⟨Nat.le_of_ble_eq_true rfl, Nat.le_of_ble_eq_true rfl⟩ (ci := 0) rfl rfl hl.1 rfl (Nat.le_of_ble_eq_true rfl) d_M_carryOut_23 ⟨Nat.zero_le _, Nat.zero_le _⟩ (fun r z H locs hu M => ?_)
    have hz : decide (u.1 (r7 (Aa j)) = 0) = decide ((V (r7 (Aa j))) = 0) := by rw [decide_eq_decide]; exact rel_zero hRel (r7_lt _)
    rw [hz] at hu
    generalize hzb : decide ((V (r7 (Aa j))) = 0) = zb at hu
    subst hu
    refine lv_istore_n (lv' := [(3, .int (bI zb)), (2, .int (nI o)), (0, .ref (h 0)), (1, .int (nI j))]) hx hb d_M_carryOut_26 rfl hl (by decide) rfl (fun ls hl => ?_)
    refine lv_iload_n hx hb d_M_carryOut_27 rfl (lv_at hl 3 rfl) ?_
    refine lv_iconst hx hb d_M_carryOut_28 ki_1 ?_
    refine lv_iadd hx hb d_M_carryOut_29 ?_
    rw [nI_1]
    refine lv_istore (lv' := [(4, .int (nI (j + 1))), (3, .int (bI zb)), (2, .int (nI o)), (0, .ref (h 0)), (1, .int (nI j))]) hx hb d_M_carryOut_30 hl (by decide) rfl (fun ls hl => ?_)
    have eV : V = lnV o d V (V (r7 (Aa j))) (V (r7 (Bb j))) (Aa j) (Bb j) := by rw [lnV, if_pos (by omega)]
    have hfin : ∀ (H : Heap) (locs : List Loc) (ls : Array Slot) (n : Nat), n = lnN o (V (r7 (Aa j))) (Bb j) j → WW D (tysM cs) A s (mW h cs ln (nI n) (bI u.2.2.1) u.2.2.2.1 O Dd Aa Bb (bOf u.1) (fOf u.2.1) (u.2.2.2.2 0) (u.2.2.2.2 1) (u.2.2.2.2 2) (u.2.2.2.2 3) (u.2.2.2.2 4)) H locs → W p l e (rmm 4 96) s m args below meth c H locs 0 0 (MQ below (va_Qv (fun u2 : RU => Rel u2.1 (lnV o d V (V (r7 (Aa j))) (V (r7 (Bb j))) (Aa j) (Bb j))) (CtB D (tysM cs) A (fun u2 => mU h cs ln (nI (lnN o (V (r7 (Aa j))) (Bb j) j)) O Dd Aa Bb u2)) A) args s 0 0 A) (F0 m 101 ls []) := by
      intro H locs ls n hn M
      refine retV SF hlk hr u ?_ ?_ d_M_carryOut_101
      · rw [← eV]
        exact hRel
      · rw [← hn]
        exact M
    have key : o = 17 ∨ o = 18 := by omega
    rcases key with rfl | rfl <;> cases zb
    · have hxz : ¬ (V (r7 (Aa j))) = 0 := of_decide_eq_false hzb
      refine lv_iload_n hx hb d_M_carryOut_32 rfl (lv_at hl 2 rfl) ?_
      refine lv_bipush hx hb d_M_carryOut_33 kb_17 ?_
      refine lv_icmp_ne (tgt := 59) hx hb d_M_carryOut_35 (by decide) (fun c9 => absurd (by decide : (nI 17) = 17) c9) (fun _ => ?_)
      refine lv_iload_n hx hb d_M_carryOut_38 rfl (lv_at hl 1 rfl) ?_
      refine lv_if_eq (tgt := 59) hx hb d_M_carryOut_39 (by decide) (fun _ => ?_) (fun c9 => absurd (rfl : (0 : Int32) = 0) c9)
      refine lv_iload_n hx hb d_M_carryOut_59 rfl (lv_at hl 2 rfl) ?_
      refine lv_bipush hx hb d_M_carryOut_60 kb_18 ?_
      refine lv_icmp_ne (tgt := 95) hx hb d_M_carryOut_62 (by decide) (fun _ => ?_) (fun c9 => absurd c9 (by decide : ¬ (nI 17) = 18))
      refine lv_aload_n hx hb d_M_carryOut_95 rfl (lv_at hl 3 rfl) ?_
      refine lv_iload hx hb d_M_carryOut_96 (lv_at hl 0 rfl) ?_
      refine pM_nextLine SF M d_M_carryOut_98 (fun H locs M => ?_)
      exact hfin H locs ls _ (by rw [lnN, if_pos rfl, if_neg hxz]) M
    · have hxz : (V (r7 (Aa j))) = 0 := of_decide_eq_true hzb
      refine lv_iload_n hx hb d_M_carryOut_32 rfl (lv_at hl 2 rfl) ?_
      refine lv_bipush hx hb d_M_carryOut_33 kb_17 ?_
      refine lv_icmp_ne (tgt := 59) hx hb d_M_carryOut_35 (by decide) (fun c9 => absurd (by decide : (nI 17) = 17) c9) (fun _ => ?_)
      refine lv_iload_n hx hb d_M_carryOut_38 rfl (lv_at hl 1 rfl) ?_
      refine lv_if_eq (tgt := 59) hx hb d_M_carryOut_39 (by decide) (fun c9 => absurd c9 (by decide : ¬ (1 : Int32) = 0)) (fun _ => ?_)
      refine lv_iload hx hb d_M_carryOut_42 (lv_at hl 0 rfl) ?_
      refine lv_aload_n hx hb d_M_carryOut_44 rfl (lv_at hl 3 rfl) ?_
      refine gM_bOf SF M d_M_carryOut_45 ?_
      refine lv_iload_n hx hb d_M_carryOut_48 rfl (lv_at hl 4 rfl) ?_
      refine aM_bOf SF M j rfl hj d_M_carryOut_49 ?_
      refine lv_bipush hx hb d_M_carryOut_50 kb_7 ?_
      refine lv_iand hx hb d_M_carryOut_52 ?_
      refine lv_iadd hx hb d_M_carryOut_53 ?_
      rw [ix7, nI_add]
      refine lv_istore (lv' := [(4, .int (nI (j + 1 + r7 (Bb j)))), (3, .int (bI true)), (2, .int (nI 17)), (0, .ref (h 0)), (1, .int (nI j))]) hx hb d_M_carryOut_54 hl (by decide) rfl (fun ls hl => ?_)
      refine lv_goto (tgt := 95) hx hb d_M_carryOut_56 (by decide) ?_
      refine lv_aload_n hx hb d_M_carryOut_95 rfl (lv_at hl 3 rfl) ?_
      refine lv_iload hx hb d_M_carryOut_96 (lv_at hl 0 rfl) ?_
      refine pM_nextLine SF M d_M_carryOut_98 (fun H locs M => ?_)
      exact hfin H locs ls _ (by rw [lnN, if_pos rfl, if_pos hxz]) M
    · have hxz : ¬ (V (r7 (Aa j))) = 0 := of_decide_eq_false hzb
      refine lv_iload_n hx hb d_M_carryOut_32 rfl (lv_at hl 2 rfl) ?_
      refine lv_bipush hx hb d_M_carryOut_33 kb_17 ?_
      refine lv_icmp_ne (tgt := 59) hx hb d_M_carryOut_35 (by decide) (fun _ => ?_) (fun c9 => absurd c9 (by decide : ¬ (nI 18) = 17))
      refine lv_iload_n hx hb d_M_carryOut_59 rfl (lv_at hl 2 rfl) ?_
      refine lv_bipush hx hb d_M_carryOut_60 kb_18 ?_
      refine lv_icmp_ne (tgt := 95) hx hb d_M_carryOut_62 (by decide) (fun c9 => absurd (by decide : (nI 18) = 18) c9) (fun _ => ?_)
      refine lv_iload_n hx hb d_M_carryOut_65 rfl (lv_at hl 1 rfl) ?_
      refine lv_if_ne (tgt := 95) hx hb d_M_carryOut_66 (by decide) (fun c9 => absurd (rfl : (0 : Int32) = 0) c9) (fun _ => ?_)
      have hr31 := r31_lt (Bb j)
      refine lv_iload_n hx hb d_M_carryOut_69 rfl (lv_at hl 4 rfl) ?_
      refine lv_aload_n hx hb d_M_carryOut_70 rfl (lv_at hl 3 rfl) ?_
      refine gM_bOf SF M d_M_carryOut_71 ?_
      refine lv_iload_n hx hb d_M_carryOut_74 rfl (lv_at hl 4 rfl) ?_
      refine aM_bOf SF M j rfl hj d_M_carryOut_75 ?_
      refine lv_bipush hx hb d_M_carryOut_76 kb_31 ?_
      refine lv_iand hx hb d_M_carryOut_78 ?_
      refine lv_isub hx hb d_M_carryOut_79 ?_
      rw [ix31]
      refine lv_istore (lv' := [(5, .int (nI j - nI (r31 (Bb j)))), (4, .int (nI (j + 1))), (3, .int (bI false)), (2, .int (nI 18)), (0, .ref (h 0)), (1, .int (nI j))]) hx hb d_M_carryOut_80 hl (by decide) rfl (fun ls hl => ?_)
      refine lv_iload hx hb d_M_carryOut_82 (lv_at hl 0 rfl) ?_
      refine lv_if_ge (tgt := 91) hx hb d_M_carryOut_84 (by decide) (fun cb => ?_) (fun cb => ?_)
      · have hle : r31 (Bb j) ≤ j := Nat.not_lt.mp (fun q9 => absurd (Int32.lt_iff_toInt_lt.mp (pk_sneg (by omega) q9)) (Int.not_lt.mpr (Int32.le_iff_toInt_le.mp cb)))
        refine lv_iload hx hb d_M_carryOut_91 (lv_at hl 0 rfl) ?_
        rw [pk_sub hle]
        refine lv_istore (lv' := [(4, .int (nI (j - r31 (Bb j)))), (5, .int (nI j - nI (r31 (Bb j)))), (3, .int (bI false)), (2, .int (nI 18)), (0, .ref (h 0)), (1, .int (nI j))]) hx hb d_M_carryOut_93 hl (by decide) rfl (fun ls hl => ?_)
        refine lv_aload_n hx hb d_M_carryOut_95 rfl (lv_at hl 4 rfl) ?_
        refine lv_iload hx hb d_M_carryOut_96 (lv_at hl 0 rfl) ?_
        refine pM_nextLine SF M d_M_carryOut_98 (fun H locs M => ?_)
        exact hfin H locs ls _ (by rw [lnN, if_neg (by decide), if_pos rfl, if_neg hxz]) M
      · have hle : j < r31 (Bb j) := Nat.not_le.mp (fun q9 => cb (by rw [pk_sub q9]; exact nI_pos' (by omega)))
        refine lv_iconst hx hb d_M_carryOut_87 ki_0 ?_
        refine lv_goto (tgt := 93) hx hb d_M_carryOut_88 (by decide) ?_
        refine lv_istore (lv' := [(4, .int 0), (5, .int (nI j - nI (r31 (Bb j)))), (3, .int (bI false)), (2, .int (nI 18)), (0, .ref (h 0)), (1, .int (nI j))]) hx hb d_M_carryOut_93 hl (by decide) rfl (fun ls hl => ?_)
        refine lv_aload_n hx hb d_M_carryOut_95 rfl (lv_at hl 4 rfl) ?_
        refine lv_iload hx hb d_M_carryOut_96 (lv_at hl 0 rfl) ?_
        refine pM_nextLine SF M d_M_carryOut_98 (fun H locs M => ?_)
        exact hfin H locs ls 0 (by rw [lnN, if_neg (by decide), if_pos rfl, if_neg hxz, Nat.sub_eq_zero_of_le (Nat.le_of_lt hle)]) M
    · have hxz : (V (r7 (Aa j))) = 0 := of_decide_eq_true hzb
      refine lv_iload_n hx hb d_M_carryOut_32 rfl (lv_at hl 2 rfl) ?_
      refine lv_bipush hx hb d_M_carryOut_33 kb_17 ?_
      refine lv_icmp_ne (tgt := 59) hx hb d_M_carryOut_35 (by decide) (fun _ => ?_) (fun c9 => absurd c9 (by decide : ¬ (nI 18) = 17))
      refine lv_iload_n hx hb d_M_carryOut_59 rfl (lv_at hl 2 rfl) ?_
      refine lv_bipush hx hb d_M_carryOut_60 kb_18 ?_
      refine lv_icmp_ne (tgt := 95) hx hb d_M_carryOut_62 (by decide) (fun c9 => absurd (by decide : (nI 18) = 18) c9) (fun _ => ?_)
      refine lv_iload_n hx hb d_M_carryOut_65 rfl (lv_at hl 1 rfl) ?_
      refine lv_if_ne (tgt := 95) hx hb d_M_carryOut_66 (by decide) (fun _ => ?_) (fun c9 => absurd c9 (by decide : ¬ (1 : Int32) = 0))
      refine lv_aload_n hx hb d_M_carryOut_95 rfl (lv_at hl 3 rfl) ?_
      refine lv_iload hx hb d_M_carryOut_96 (lv_at hl 0 rfl) ?_
      refine pM_nextLine SF M d_M_carryOut_98 (fun H locs M => ?_)
      exact hfin H locs ls _ (by rw [lnN, if_neg (by decide), if_pos rfl, if_pos hxz]) M
section MRun
variable {p : Program} {l : Launch} {e : Env} {R : Room} {s : State} {m : MethodId} {args : Array Value} {below : List Frame} {meth : Method} {c : Code} {cells slots : Nat} {Q : State → Prop}
variable {D : va_G} {A : Nat → Prop} {h : Nat → Nat} {cs : Nat → ClassId}
variable {O Dd Aa Bb : Nat → Int32}
set_option maxHeartbeats 4000000 in
set_option maxRecDepth 100000 in
theorem lp_run (SF : CallFix p m c b_M_run 5 s args mt_tbl R_M) (hR : 5 ≤ R.frames ∧ 121 ≤ R.locals) {b : Int32} {N lim cf : Nat} {qf : Nat × (Nat → Int32)} (hN : N ≤ 32) (hlim : lim ≤ 60) (hok : okP O Dd N)
    (kx : ∀ (u : RU) (H : Heap) (locs : List Loc) (ls : Array Slot), Rel u.1 qf.2 → WW D (tysM cs) A s (mU h cs (nI N) (nI qf.1) O Dd Aa Bb u) H locs → W p l e R s m args below meth c H locs 0 0 Q (F0 m 61 ls [.int (nI cf)])) :
    ∀ (n d j : Nat) (V : Nat → Int32) (u : RU), d + n = lim → j ≤ 40 → rngV V → Rel u.1 V → d + (rnF O Dd Aa Bb N n (j, V)).1 = cf → (rnF O Dd Aa Bb N n (j, V)).2 = qf → ∀ (H : Heap) (locs : List Loc) (ls : Array Slot), WW D (tysM cs) A s (mU h cs (nI N) (nI j) O Dd Aa Bb u) H locs → lv_has ls 5 [(0, .ref (h 0)), (1, .int b), (2, .int (nI lim)), (3, .int (nI d)), (4, .int (nI d))] → W p l e R s m args below meth c H locs 0 0 Q (F0 m 26 ls []) := by
  have hx := SF.1
  have hb := SF.2.1
  intro n
  induction n with
  | zero =>
    intro d j V u hd hj hV hRel h1 h2 H locs ls M hl
    rw [rnF_0] at h1 h2
    subst h1
    subst h2
    obtain rfl : d = lim := by omega
    refine lv_iload hx hb d_M_run_26 (lv_at hl 4 rfl) ?_
    refine lv_iload_n hx hb d_M_run_28 rfl (lv_at hl 2 rfl) ?_
    refine lv_icmp_ge (tgt := 60) hx hb d_M_run_29 (by decide) (fun _ => ?_) (fun c9 => absurd (nI_le (Nat.le_refl d) (by omega) : nI d ≤ nI d) c9)
    refine lv_iload_n hx hb d_M_run_60 rfl (lv_at hl 3 rfl) ?_
    exact kx u H locs ls hRel M
  | succ n ih =>
    intro d j V u hd hj hV hRel h1 h2 H locs ls M hl
    refine lv_iload hx hb d_M_run_26 (lv_at hl 4 rfl) ?_
    refine lv_iload_n hx hb d_M_run_28 rfl (lv_at hl 2 rfl) ?_
    refine lv_icmp_ge (tgt := 60) hx hb d_M_run_29 (by decide) (fun c9 => absurd c9 (nI_ge (by omega) (by omega) : ¬ nI lim ≤ nI d)) (fun _ => ?_)
    refine lv_aload_n hx hb d_M_run_32 rfl (lv_at hl 0 rfl) ?_
    refine gM_nextLine SF M d_M_run_33 ?_
    refine lv_aload_n hx hb d_M_run_36 rfl (lv_at hl 0 rfl) ?_
    refine gM_lines SF M d_M_run_37 ?_
    rcases Nat.lt_or_ge j N with hjN | hjN
    · refine lv_icmp_ge (tgt := 60) hx hb d_M_run_40 (by decide) (fun c9 => absurd c9 (nI_ge hjN (by omega) : ¬ nI N ≤ nI j)) (fun _ => ?_)
      rw [rnF_go (q := (j, V)) hjN] at h1 h2
      obtain ⟨⟨o, ho, eo⟩, dd, hdd, ed⟩ := hok j hjN
      rw [stF_of ho hdd eo ed] at h1 h2
      refine lv_aload_n hx hb d_M_run_43 rfl (lv_at hl 0 rfl) ?_
      refine lv_aload_n hx hb d_M_run_44 rfl (lv_at hl 0 rfl) ?_
      refine gM_nextLine SF M d_M_run_45 ?_
      refine ccV SF M (c_carryOut l D h cs (nI N) (nI j) O Dd Aa Bb u j o dd V (by omega) eo ho ed hdd hRel hV) g_M_64 hd_M_carryOut hR (ci := 0) rfl rfl hl.1 rfl (Nat.le_of_ble_eq_true rfl) d_M_run_48 ⟨Nat.zero_le _, Nat.zero_le _⟩ (fun u2 H locs hu M => ?_)
      refine lv_iinc (v := nI (d + 1)) (lv' := [(3, .int (nI (d + 1))), (0, .ref (h 0)), (1, .int b), (2, .int (nI lim)), (4, .int (nI d))]) hx hb d_M_run_51 hl (k := 3) rfl (nI_1 _) (by decide) rfl (fun ls hl => ?_)
      refine lv_iinc (v := nI (d + 1)) (lv' := [(4, .int (nI (d + 1))), (3, .int (nI (d + 1))), (0, .ref (h 0)), (1, .int b), (2, .int (nI lim))]) hx hb d_M_run_54 hl (k := 4) rfl (nI_1 _) (by decide) rfl (fun ls hl => ?_)
      refine lv_goto (tgt := 26) hx hb d_M_run_57 (by decide) ?_
      exact ih (d + 1) _ _ u2 (by omega) (lnN_le _ _ _ (by omega)) (lnV_rng hV _ _ _ _ _ _) hu (by omega) h2 H locs ls M (lv_sub hl [2, 3, 4, 1, 0] rfl)
    · refine lv_icmp_ge (tgt := 60) hx hb d_M_run_40 (by decide) (fun _ => ?_) (fun c9 => absurd (nI_le hjN (by omega) : nI N ≤ nI j) c9)
      rw [rnF_no (q := (j, V)) (Nat.not_lt.mpr hjN)] at h1 h2
      subst h1
      subst h2
      refine lv_iload_n hx hb d_M_run_60 rfl (lv_at hl 3 rfl) ?_
      exact kx u H locs ls hRel M
end MRun
set_option maxHeartbeats 4000000 in
set_option maxRecDepth 100000 in
/-- run(b) -/
theorem c_run (l : Launch) (D : va_G) (h : Nat → Nat) (cs : Nat → ClassId) (b : Int32) (V O Dd Aa Bb : Nat → Int32) (u : RU) (N j : Nat) (hN : N ≤ 32) (hj : j ≤ 40) (hok : okP O Dd N) (hRel : Rel u.1 V) (hV : rngV V) : CtI l y_M_run b_M_run 5 .int (rmm 5 121) D (tysM cs) [.ref (h 0), .int b] (mU h cs (nI N) (nI j) O Dd Aa Bb u) (fun (z : Int32) (u2 : RU) => z = nI (rnF O Dd Aa Bb N (limN b) (j, V)).1 ∧ Rel u2.1 (rnF O Dd Aa Bb N (limN b) (j, V)).2.2) (fun u2 => mU h cs (nI N) (nI (rnF O Dd Aa Bb N (limN b) (j, V)).2.1) O Dd Aa Bb u2) := by
  refine CtI.of R_M (by decide) rfl (Nat.le_of_ble_eq_true rfl) ?_
  intro p e s m args below meth c A ls SF hlk hr M hl
  have hx := SF.1
  have hb := SF.2.1
  have hl : lv_has ls 5 [(0, .ref (h 0)), (1, .int b)] := hl
  have hj0 : ∀ z : Int32, z = nI (limN b) → W p l e (rmm 5 121) s m args below meth c s.heap [] 0 0 (MQ below (va_Qi (fun (z : Int32) (u2 : RU) => z = nI (rnF O Dd Aa Bb N (limN b) (j, V)).1 ∧ Rel u2.1 (rnF O Dd Aa Bb N (limN b) (j, V)).2.2) (CtB D (tysM cs) A (fun u2 => mU h cs (nI N) (nI (rnF O Dd Aa Bb N (limN b) (j, V)).2.1) O Dd Aa Bb u2)) A) args s 0 0 A) (F0 m 20 ls [.int z]) := by
    intro z ez
    subst ez
    refine lv_istore_n (lv' := [(2, .int (nI (limN b))), (0, .ref (h 0)), (1, .int b)]) hx hb d_M_run_20 rfl hl (by decide) rfl (fun ls hl => ?_)
    refine lv_iconst hx hb d_M_run_21 ki_0 ?_
    refine lv_istore_n (lv' := [(3, .int 0), (2, .int (nI (limN b))), (0, .ref (h 0)), (1, .int b)]) hx hb d_M_run_22 rfl hl (by decide) rfl (fun ls hl => ?_)
    refine lv_iconst hx hb d_M_run_23 ki_0 ?_
    refine lv_istore (lv' := [(4, .int 0), (3, .int 0), (2, .int (nI (limN b))), (0, .ref (h 0)), (1, .int b)]) hx hb d_M_run_24 hl (by decide) rfl (fun ls hl => ?_)
    refine lp_run (N := N) (lim := limN b) SF ⟨Nat.le_of_ble_eq_true rfl, Nat.le_of_ble_eq_true rfl⟩ hN (limN_le b) hok (fun u2 H locs ls hu M => ?_) (limN b) 0 j V u (Nat.zero_add _) hj hV hRel rfl rfl _ _ ls M (lv_sub hl [3, 4, 2, 1, 0] rfl)
    exact retI SF hlk hr u2 ⟨by rw [Nat.zero_add], hu⟩ M d_M_run_61
  refine lv_iload_n hx hb d_M_run_0 rfl (lv_at hl 1 rfl) ?_
  refine lv_if_ge (tgt := 8) hx hb d_M_run_1 (by decide) (fun c0 => ?_) (fun c0 => ?_)
  · refine lv_iload_n hx hb d_M_run_8 rfl (lv_at hl 1 rfl) ?_
    refine lv_bipush hx hb d_M_run_9 kb_60 ?_
    refine lv_icmp_le (tgt := 19) hx hb d_M_run_11 (by decide) (fun c60 => ?_) (fun c60 => ?_)
    · refine lv_iload_n hx hb d_M_run_19 rfl (lv_at hl 1 rfl) ?_
      exact hj0 _ (limN_a c0 c60)
    · refine lv_bipush hx hb d_M_run_14 kb_60 ?_
      refine lv_goto (tgt := 20) hx hb d_M_run_16 (by decide) ?_
      exact hj0 _ (limN_b c0 c60)
  · refine lv_iconst hx hb d_M_run_4 ki_0 ?_
    refine lv_goto (tgt := 20) hx hb d_M_run_5 (by decide) ?_
    exact hj0 _ (limN_c c0)
end
section
set_option maxHeartbeats 4000000 in
set_option maxRecDepth 100000 in
/-- M(): the arrays come, all zero -/
theorem c_M_init (l : Launch) (D : va_G) (h0 sz : Nat) : Met l y_M_init w_M_init ({ frames := 1, cells := 11, slots := 1408, locals := 12 }) (CtP D [] [.ref h0] [(h0, .inr (0, [.int 0, .int 0, .null, .null, .null, .null, .null, .null, .int 0, .int 0, .null, .null, .null, .null, .null]))] sz) (va_Qv (fun u : (Nat → Nat) × (Nat → ClassId) => u.1 0 = h0) (fun u t => va_P D classes (mW u.1 u.2 0 0 0 0 (fun _ => 0) (fun _ => 0) (fun _ => 0) (fun _ => 0) (fun _ => 0) (fun _ => 0) (fun _ => 0) (fun _ => 0) (fun _ => 0) (fun _ => 0) (fun _ => 0)) t.heap ∧ va_K D classes (tysM u.2) t ∧ va_D (va_A [(h0, .inr (0, [.int 0, .int 0, .null, .null, .null, .null, .null, .null, .int 0, .int 0, .null, .null, .null, .null, .null]))] sz) (mW u.1 u.2 0 0 0 0 (fun _ => 0) (fun _ => 0) (fun _ => 0) (fun _ => 0) (fun _ => 0) (fun _ => 0) (fun _ => 0) (fun _ => 0) (fun _ => 0) (fun _ => 0) (fun _ => 0))) (va_A [(h0, .inr (0, [.int 0, .int 0, .null, .null, .null, .null, .null, .null, .int 0, .int 0, .null, .null, .null, .null, .null]))] sz)) 11 1408 (va_A [(h0, .inr (0, [.int 0, .int 0, .null, .null, .null, .null, .null, .null, .int 0, .int 0, .null, .null, .null, .null, .null]))] sz) := by
  refine Met.ofW (cc := b_M_init) (maxL := 1) (ret := none) (by decide) rfl ?_
  intro p e s m args below meth c s₁ B hml hv
  obtain ⟨rfl, hsz, hP, hK, hD0⟩ := hv
  have hx := B.exec
  have hb := B.bytes
  have hr := B.returns
  have hts0 := atoms_spec (ws := w_M_init) B.pre
  have hts : ∀ w ∈ mt_tbl, w.before #[.ref h0] s = true := fun w hw => hts0 w (List.mem_cons_of_mem _ hw)
  have hown : s.vm.findClass R_M = some m.cls := findClass_of_methodNamed B.named
  have hlocks := B.notSynchronized
  have hin : meth.name = "<init>" := (name_of_methodNamed B.named B.method).1
  subst hsz
  have hD := hD0.self (sz := s.heap.size)
  generalize hAe : va_A [(h0, .inr (0, [.int 0, .int 0, .null, .null, .null, .null, .null, .null, .int 0, .int 0, .null, .null, .null, .null, .null]))] s.heap.size = A at hD ⊢
  have hA : ∀ q : Nat, s.heap.size ≤ q → A q := fun q h => by rw [← hAe]; exact Or.inr h
  have hS : va_S A s.heap s.heap [] := va_S.rf
  have hP : va_P D classes [(h0, .inr (0, [.int 0, .int 0, .null, .null, .null, .null, .null, .null, .int 0, .int 0, .null, .null, .null, .null, .null]))] s.heap := hP
  have hl := lv_entry ([.ref h0]) (n := 1) (Nat.le_of_ble_eq_true rfl)
  rw [lg_entry_eq]
  generalize (lg_sl ([.ref h0]) ++ List.replicate (1 - (lg_sl ([.ref h0])).length) Slot.unset).toArray = ls at hl ⊢
  have hl : lv_has ls 1 [(0, .ref h0)] := hl
  refine lv_aload_n hx hb d_M_init_0 rfl (lv_at hl 0 rfl) ?_
  refine W.objInit hx hb hown (hts _ ml_M_1) (hts _ im_obj) (hts _ wc_obj) rfl (by rw [hml]; exact hl.1) rfl d_M_init_1 (Nat.le_of_ble_eq_true rfl) (Nat.le_of_ble_eq_true rfl) ?_
  refine W.eq (g2 := F0 m 4 ls []) rfl ?_
  refine lv_aload_n hx hb d_M_init_4 rfl (lv_at hl 0 rfl) ?_
  refine lv_bipush hx hb d_M_init_5 kb_32 ?_
  refine va_newa (a0 := (32, .inl (fun _ => 0))) (N' := 32) (ty := .int) (atype := .int) hx hb (hts _ ac_int) rfl hK hP hD hS hA (fun _ => rfl) (by decide) (by decide) (by decide) (Nat.le_of_ble_eq_true rfl) (Nat.le_of_ble_eq_true rfl) d_M_init_7 (fun q1 c1 H hK hP hD hS => ?_)
  have hK : va_K D classes [(c1, .int)] s := hK
  have hP : va_P D classes [(h0, .inr (0, [.int 0, .int 0, .null, .null, .null, .null, .null, .null, .int 0, .int 0, .null, .null, .null, .null, .null])), (q1, .inl (c1, 32, .inl (fun _ => 0)))] H := hP
  have hD : va_D A [(h0, .inr (0, [.int 0, .int 0, .null, .null, .null, .null, .null, .null, .int 0, .int 0, .null, .null, .null, .null, .null])), (q1, .inl (c1, 32, .inl (fun _ => 0)))] := hD
  refine W.widen (k := 1) (n := 32) (Nat.le_refl _) (Nat.le_refl _) ?_
  refine va_putF (D := D) (ci := 0) (v := .ref q1) (ty := .array .int) (C := R_M) (T := F_M) (N := 15) hx hb hts fi_M ft_M ft_M_ok fn_M hown hK hP hD hS 0 rfl rfl 2 (by decide) (hts _ fl_M_opOf) (fun _ h9 => h9) rfl hin rfl (by decide +kernel) rfl rfl (Nat.le_of_ble_eq_true rfl) d_M_init_9 (fun H locs hP hD hS => ?_)
  have hP : va_P D classes [(h0, .inr (0, [.int 0, .int 0, .ref q1, .null, .null, .null, .null, .null, .int 0, .int 0, .null, .null, .null, .null, .null])), (q1, .inl (c1, 32, .inl (fun _ => 0)))] H := hP
  have hD : va_D A [(h0, .inr (0, [.int 0, .int 0, .ref q1, .null, .null, .null, .null, .null, .int 0, .int 0, .null, .null, .null, .null, .null])), (q1, .inl (c1, 32, .inl (fun _ => 0)))] := hD
  refine lv_aload_n hx hb d_M_init_12 rfl (lv_at hl 0 rfl) ?_
  refine lv_bipush hx hb d_M_init_13 kb_32 ?_
  refine va_newa (a0 := (32, .inl (fun _ => 0))) (N' := 32) (ty := .int) (atype := .int) hx hb (hts _ ac_int) rfl hK hP hD hS hA (fun _ => rfl) (by decide) (by decide) (by decide) (Nat.le_of_ble_eq_true rfl) (Nat.le_of_ble_eq_true rfl) d_M_init_15 (fun q2 c2 H hK hP hD hS => ?_)
  have hK : va_K D classes [(c1, .int), (c2, .int)] s := hK
  have hP : va_P D classes [(h0, .inr (0, [.int 0, .int 0, .ref q1, .null, .null, .null, .null, .null, .int 0, .int 0, .null, .null, .null, .null, .null])), (q1, .inl (c1, 32, .inl (fun _ => 0))), (q2, .inl (c2, 32, .inl (fun _ => 0)))] H := hP
  have hD : va_D A [(h0, .inr (0, [.int 0, .int 0, .ref q1, .null, .null, .null, .null, .null, .int 0, .int 0, .null, .null, .null, .null, .null])), (q1, .inl (c1, 32, .inl (fun _ => 0))), (q2, .inl (c2, 32, .inl (fun _ => 0)))] := hD
  refine W.widen (k := 2) (n := 64) (Nat.le_refl _) (Nat.le_refl _) ?_
  refine va_putF (D := D) (ci := 0) (v := .ref q2) (ty := .array .int) (C := R_M) (T := F_M) (N := 15) hx hb hts fi_M ft_M ft_M_ok fn_M hown hK hP hD hS 0 rfl rfl 3 (by decide) (hts _ fl_M_dstOf) (fun _ h9 => h9) rfl hin rfl (by decide +kernel) rfl rfl (Nat.le_of_ble_eq_true rfl) d_M_init_17 (fun H locs hP hD hS => ?_)
  have hP : va_P D classes [(h0, .inr (0, [.int 0, .int 0, .ref q1, .ref q2, .null, .null, .null, .null, .int 0, .int 0, .null, .null, .null, .null, .null])), (q1, .inl (c1, 32, .inl (fun _ => 0))), (q2, .inl (c2, 32, .inl (fun _ => 0)))] H := hP
  have hD : va_D A [(h0, .inr (0, [.int 0, .int 0, .ref q1, .ref q2, .null, .null, .null, .null, .int 0, .int 0, .null, .null, .null, .null, .null])), (q1, .inl (c1, 32, .inl (fun _ => 0))), (q2, .inl (c2, 32, .inl (fun _ => 0)))] := hD
  refine lv_aload_n hx hb d_M_init_20 rfl (lv_at hl 0 rfl) ?_
  refine lv_bipush hx hb d_M_init_21 kb_32 ?_
  refine va_newa (a0 := (32, .inl (fun _ => 0))) (N' := 32) (ty := .int) (atype := .int) hx hb (hts _ ac_int) rfl hK hP hD hS hA (fun _ => rfl) (by decide) (by decide) (by decide) (Nat.le_of_ble_eq_true rfl) (Nat.le_of_ble_eq_true rfl) d_M_init_23 (fun q3 c3 H hK hP hD hS => ?_)
  have hK : va_K D classes [(c1, .int), (c2, .int), (c3, .int)] s := hK
  have hP : va_P D classes [(h0, .inr (0, [.int 0, .int 0, .ref q1, .ref q2, .null, .null, .null, .null, .int 0, .int 0, .null, .null, .null, .null, .null])), (q1, .inl (c1, 32, .inl (fun _ => 0))), (q2, .inl (c2, 32, .inl (fun _ => 0))), (q3, .inl (c3, 32, .inl (fun _ => 0)))] H := hP
  have hD : va_D A [(h0, .inr (0, [.int 0, .int 0, .ref q1, .ref q2, .null, .null, .null, .null, .int 0, .int 0, .null, .null, .null, .null, .null])), (q1, .inl (c1, 32, .inl (fun _ => 0))), (q2, .inl (c2, 32, .inl (fun _ => 0))), (q3, .inl (c3, 32, .inl (fun _ => 0)))] := hD
  refine W.widen (k := 3) (n := 96) (Nat.le_refl _) (Nat.le_refl _) ?_
  refine va_putF (D := D) (ci := 0) (v := .ref q3) (ty := .array .int) (C := R_M) (T := F_M) (N := 15) hx hb hts fi_M ft_M ft_M_ok fn_M hown hK hP hD hS 0 rfl rfl 4 (by decide) (hts _ fl_M_aOf) (fun _ h9 => h9) rfl hin rfl (by decide +kernel) rfl rfl (Nat.le_of_ble_eq_true rfl) d_M_init_25 (fun H locs hP hD hS => ?_)
  have hP : va_P D classes [(h0, .inr (0, [.int 0, .int 0, .ref q1, .ref q2, .ref q3, .null, .null, .null, .int 0, .int 0, .null, .null, .null, .null, .null])), (q1, .inl (c1, 32, .inl (fun _ => 0))), (q2, .inl (c2, 32, .inl (fun _ => 0))), (q3, .inl (c3, 32, .inl (fun _ => 0)))] H := hP
  have hD : va_D A [(h0, .inr (0, [.int 0, .int 0, .ref q1, .ref q2, .ref q3, .null, .null, .null, .int 0, .int 0, .null, .null, .null, .null, .null])), (q1, .inl (c1, 32, .inl (fun _ => 0))), (q2, .inl (c2, 32, .inl (fun _ => 0))), (q3, .inl (c3, 32, .inl (fun _ => 0)))] := hD
  refine lv_aload_n hx hb d_M_init_28 rfl (lv_at hl 0 rfl) ?_
  refine lv_bipush hx hb d_M_init_29 kb_32 ?_
  refine va_newa (a0 := (32, .inl (fun _ => 0))) (N' := 32) (ty := .int) (atype := .int) hx hb (hts _ ac_int) rfl hK hP hD hS hA (fun _ => rfl) (by decide) (by decide) (by decide) (Nat.le_of_ble_eq_true rfl) (Nat.le_of_ble_eq_true rfl) d_M_init_31 (fun q4 c4 H hK hP hD hS => ?_)
  have hK : va_K D classes [(c1, .int), (c2, .int), (c3, .int), (c4, .int)] s := hK
  have hP : va_P D classes [(h0, .inr (0, [.int 0, .int 0, .ref q1, .ref q2, .ref q3, .null, .null, .null, .int 0, .int 0, .null, .null, .null, .null, .null])), (q1, .inl (c1, 32, .inl (fun _ => 0))), (q2, .inl (c2, 32, .inl (fun _ => 0))), (q3, .inl (c3, 32, .inl (fun _ => 0))), (q4, .inl (c4, 32, .inl (fun _ => 0)))] H := hP
  have hD : va_D A [(h0, .inr (0, [.int 0, .int 0, .ref q1, .ref q2, .ref q3, .null, .null, .null, .int 0, .int 0, .null, .null, .null, .null, .null])), (q1, .inl (c1, 32, .inl (fun _ => 0))), (q2, .inl (c2, 32, .inl (fun _ => 0))), (q3, .inl (c3, 32, .inl (fun _ => 0))), (q4, .inl (c4, 32, .inl (fun _ => 0)))] := hD
  refine W.widen (k := 4) (n := 128) (Nat.le_refl _) (Nat.le_refl _) ?_
  refine va_putF (D := D) (ci := 0) (v := .ref q4) (ty := .array .int) (C := R_M) (T := F_M) (N := 15) hx hb hts fi_M ft_M ft_M_ok fn_M hown hK hP hD hS 0 rfl rfl 5 (by decide) (hts _ fl_M_bOf) (fun _ h9 => h9) rfl hin rfl (by decide +kernel) rfl rfl (Nat.le_of_ble_eq_true rfl) d_M_init_33 (fun H locs hP hD hS => ?_)
  have hP : va_P D classes [(h0, .inr (0, [.int 0, .int 0, .ref q1, .ref q2, .ref q3, .ref q4, .null, .null, .int 0, .int 0, .null, .null, .null, .null, .null])), (q1, .inl (c1, 32, .inl (fun _ => 0))), (q2, .inl (c2, 32, .inl (fun _ => 0))), (q3, .inl (c3, 32, .inl (fun _ => 0))), (q4, .inl (c4, 32, .inl (fun _ => 0)))] H := hP
  have hD : va_D A [(h0, .inr (0, [.int 0, .int 0, .ref q1, .ref q2, .ref q3, .ref q4, .null, .null, .int 0, .int 0, .null, .null, .null, .null, .null])), (q1, .inl (c1, 32, .inl (fun _ => 0))), (q2, .inl (c2, 32, .inl (fun _ => 0))), (q3, .inl (c3, 32, .inl (fun _ => 0))), (q4, .inl (c4, 32, .inl (fun _ => 0)))] := hD
  refine lv_aload_n hx hb d_M_init_36 rfl (lv_at hl 0 rfl) ?_
  refine lv_sipush hx hb d_M_init_37 ks_448 ?_
  refine va_newa (a0 := (448, .inl (fun _ => 0))) (N' := 448) (ty := .boolean) (atype := .boolean) hx hb (hts _ ac_bool) rfl hK hP hD hS hA (fun _ => rfl) (by decide) (by decide) (by decide) (Nat.le_of_ble_eq_true rfl) (Nat.le_of_ble_eq_true rfl) d_M_init_40 (fun q5 c5 H hK hP hD hS => ?_)
  have hK : va_K D classes [(c1, .int), (c2, .int), (c3, .int), (c4, .int), (c5, .boolean)] s := hK
  have hP : va_P D classes [(h0, .inr (0, [.int 0, .int 0, .ref q1, .ref q2, .ref q3, .ref q4, .null, .null, .int 0, .int 0, .null, .null, .null, .null, .null])), (q1, .inl (c1, 32, .inl (fun _ => 0))), (q2, .inl (c2, 32, .inl (fun _ => 0))), (q3, .inl (c3, 32, .inl (fun _ => 0))), (q4, .inl (c4, 32, .inl (fun _ => 0))), (q5, .inl (c5, 448, .inl (fun _ => 0)))] H := hP
  have hD : va_D A [(h0, .inr (0, [.int 0, .int 0, .ref q1, .ref q2, .ref q3, .ref q4, .null, .null, .int 0, .int 0, .null, .null, .null, .null, .null])), (q1, .inl (c1, 32, .inl (fun _ => 0))), (q2, .inl (c2, 32, .inl (fun _ => 0))), (q3, .inl (c3, 32, .inl (fun _ => 0))), (q4, .inl (c4, 32, .inl (fun _ => 0))), (q5, .inl (c5, 448, .inl (fun _ => 0)))] := hD
  refine W.widen (k := 5) (n := 576) (Nat.le_refl _) (Nat.le_refl _) ?_
  refine va_putF (D := D) (ci := 0) (v := .ref q5) (ty := .array .boolean) (C := R_M) (T := F_M) (N := 15) hx hb hts fi_M ft_M ft_M_ok fn_M hown hK hP hD hS 0 rfl rfl 6 (by decide) (hts _ fl_M_bit) (fun _ h9 => h9) rfl hin rfl (by decide +kernel) rfl rfl (Nat.le_of_ble_eq_true rfl) d_M_init_42 (fun H locs hP hD hS => ?_)
  have hP : va_P D classes [(h0, .inr (0, [.int 0, .int 0, .ref q1, .ref q2, .ref q3, .ref q4, .ref q5, .null, .int 0, .int 0, .null, .null, .null, .null, .null])), (q1, .inl (c1, 32, .inl (fun _ => 0))), (q2, .inl (c2, 32, .inl (fun _ => 0))), (q3, .inl (c3, 32, .inl (fun _ => 0))), (q4, .inl (c4, 32, .inl (fun _ => 0))), (q5, .inl (c5, 448, .inl (fun _ => 0)))] H := hP
  have hD : va_D A [(h0, .inr (0, [.int 0, .int 0, .ref q1, .ref q2, .ref q3, .ref q4, .ref q5, .null, .int 0, .int 0, .null, .null, .null, .null, .null])), (q1, .inl (c1, 32, .inl (fun _ => 0))), (q2, .inl (c2, 32, .inl (fun _ => 0))), (q3, .inl (c3, 32, .inl (fun _ => 0))), (q4, .inl (c4, 32, .inl (fun _ => 0))), (q5, .inl (c5, 448, .inl (fun _ => 0)))] := hD
  refine lv_aload_n hx hb d_M_init_45 rfl (lv_at hl 0 rfl) ?_
  refine lv_bipush hx hb d_M_init_46 kb_32 ?_
  refine va_newa (a0 := (32, .inl (fun _ => 0))) (N' := 32) (ty := .boolean) (atype := .boolean) hx hb (hts _ ac_bool) rfl hK hP hD hS hA (fun _ => rfl) (by decide) (by decide) (by decide) (Nat.le_of_ble_eq_true rfl) (Nat.le_of_ble_eq_true rfl) d_M_init_48 (fun q6 c6 H hK hP hD hS => ?_)
  have hK : va_K D classes [(c1, .int), (c2, .int), (c3, .int), (c4, .int), (c5, .boolean), (c6, .boolean)] s := hK
  have hP : va_P D classes [(h0, .inr (0, [.int 0, .int 0, .ref q1, .ref q2, .ref q3, .ref q4, .ref q5, .null, .int 0, .int 0, .null, .null, .null, .null, .null])), (q1, .inl (c1, 32, .inl (fun _ => 0))), (q2, .inl (c2, 32, .inl (fun _ => 0))), (q3, .inl (c3, 32, .inl (fun _ => 0))), (q4, .inl (c4, 32, .inl (fun _ => 0))), (q5, .inl (c5, 448, .inl (fun _ => 0))), (q6, .inl (c6, 32, .inl (fun _ => 0)))] H := hP
  have hD : va_D A [(h0, .inr (0, [.int 0, .int 0, .ref q1, .ref q2, .ref q3, .ref q4, .ref q5, .null, .int 0, .int 0, .null, .null, .null, .null, .null])), (q1, .inl (c1, 32, .inl (fun _ => 0))), (q2, .inl (c2, 32, .inl (fun _ => 0))), (q3, .inl (c3, 32, .inl (fun _ => 0))), (q4, .inl (c4, 32, .inl (fun _ => 0))), (q5, .inl (c5, 448, .inl (fun _ => 0))), (q6, .inl (c6, 32, .inl (fun _ => 0)))] := hD
  refine W.widen (k := 6) (n := 608) (Nat.le_refl _) (Nat.le_refl _) ?_
  refine va_putF (D := D) (ci := 0) (v := .ref q6) (ty := .array .boolean) (C := R_M) (T := F_M) (N := 15) hx hb hts fi_M ft_M ft_M_ok fn_M hown hK hP hD hS 0 rfl rfl 7 (by decide) (hts _ fl_M_fresh) (fun _ h9 => h9) rfl hin rfl (by decide +kernel) rfl rfl (Nat.le_of_ble_eq_true rfl) d_M_init_50 (fun H locs hP hD hS => ?_)
  have hP : va_P D classes [(h0, .inr (0, [.int 0, .int 0, .ref q1, .ref q2, .ref q3, .ref q4, .ref q5, .ref q6, .int 0, .int 0, .null, .null, .null, .null, .null])), (q1, .inl (c1, 32, .inl (fun _ => 0))), (q2, .inl (c2, 32, .inl (fun _ => 0))), (q3, .inl (c3, 32, .inl (fun _ => 0))), (q4, .inl (c4, 32, .inl (fun _ => 0))), (q5, .inl (c5, 448, .inl (fun _ => 0))), (q6, .inl (c6, 32, .inl (fun _ => 0)))] H := hP
  have hD : va_D A [(h0, .inr (0, [.int 0, .int 0, .ref q1, .ref q2, .ref q3, .ref q4, .ref q5, .ref q6, .int 0, .int 0, .null, .null, .null, .null, .null])), (q1, .inl (c1, 32, .inl (fun _ => 0))), (q2, .inl (c2, 32, .inl (fun _ => 0))), (q3, .inl (c3, 32, .inl (fun _ => 0))), (q4, .inl (c4, 32, .inl (fun _ => 0))), (q5, .inl (c5, 448, .inl (fun _ => 0))), (q6, .inl (c6, 32, .inl (fun _ => 0)))] := hD
  refine lv_aload_n hx hb d_M_init_53 rfl (lv_at hl 0 rfl) ?_
  refine lv_sipush hx hb d_M_init_54 ks_160 ?_
  refine va_newa (a0 := (160, .inl (fun _ => 0))) (N' := 160) (ty := .int) (atype := .int) hx hb (hts _ ac_int) rfl hK hP hD hS hA (fun _ => rfl) (by decide) (by decide) (by decide) (Nat.le_of_ble_eq_true rfl) (Nat.le_of_ble_eq_true rfl) d_M_init_57 (fun q7 c7 H hK hP hD hS => ?_)
  have hK : va_K D classes [(c1, .int), (c2, .int), (c3, .int), (c4, .int), (c5, .boolean), (c6, .boolean), (c7, .int)] s := hK
  have hP : va_P D classes [(h0, .inr (0, [.int 0, .int 0, .ref q1, .ref q2, .ref q3, .ref q4, .ref q5, .ref q6, .int 0, .int 0, .null, .null, .null, .null, .null])), (q1, .inl (c1, 32, .inl (fun _ => 0))), (q2, .inl (c2, 32, .inl (fun _ => 0))), (q3, .inl (c3, 32, .inl (fun _ => 0))), (q4, .inl (c4, 32, .inl (fun _ => 0))), (q5, .inl (c5, 448, .inl (fun _ => 0))), (q6, .inl (c6, 32, .inl (fun _ => 0))), (q7, .inl (c7, 160, .inl (fun _ => 0)))] H := hP
  have hD : va_D A [(h0, .inr (0, [.int 0, .int 0, .ref q1, .ref q2, .ref q3, .ref q4, .ref q5, .ref q6, .int 0, .int 0, .null, .null, .null, .null, .null])), (q1, .inl (c1, 32, .inl (fun _ => 0))), (q2, .inl (c2, 32, .inl (fun _ => 0))), (q3, .inl (c3, 32, .inl (fun _ => 0))), (q4, .inl (c4, 32, .inl (fun _ => 0))), (q5, .inl (c5, 448, .inl (fun _ => 0))), (q6, .inl (c6, 32, .inl (fun _ => 0))), (q7, .inl (c7, 160, .inl (fun _ => 0)))] := hD
  refine W.widen (k := 7) (n := 768) (Nat.le_refl _) (Nat.le_refl _) ?_
  refine va_putF (D := D) (ci := 0) (v := .ref q7) (ty := .array .int) (C := R_M) (T := F_M) (N := 15) hx hb hts fi_M ft_M ft_M_ok fn_M hown hK hP hD hS 0 rfl rfl 10 (by decide) (hts _ fl_M_kind) (fun _ h9 => h9) rfl hin rfl (by decide +kernel) rfl rfl (Nat.le_of_ble_eq_true rfl) d_M_init_59 (fun H locs hP hD hS => ?_)
  have hP : va_P D classes [(h0, .inr (0, [.int 0, .int 0, .ref q1, .ref q2, .ref q3, .ref q4, .ref q5, .ref q6, .int 0, .int 0, .ref q7, .null, .null, .null, .null])), (q1, .inl (c1, 32, .inl (fun _ => 0))), (q2, .inl (c2, 32, .inl (fun _ => 0))), (q3, .inl (c3, 32, .inl (fun _ => 0))), (q4, .inl (c4, 32, .inl (fun _ => 0))), (q5, .inl (c5, 448, .inl (fun _ => 0))), (q6, .inl (c6, 32, .inl (fun _ => 0))), (q7, .inl (c7, 160, .inl (fun _ => 0)))] H := hP
  have hD : va_D A [(h0, .inr (0, [.int 0, .int 0, .ref q1, .ref q2, .ref q3, .ref q4, .ref q5, .ref q6, .int 0, .int 0, .ref q7, .null, .null, .null, .null])), (q1, .inl (c1, 32, .inl (fun _ => 0))), (q2, .inl (c2, 32, .inl (fun _ => 0))), (q3, .inl (c3, 32, .inl (fun _ => 0))), (q4, .inl (c4, 32, .inl (fun _ => 0))), (q5, .inl (c5, 448, .inl (fun _ => 0))), (q6, .inl (c6, 32, .inl (fun _ => 0))), (q7, .inl (c7, 160, .inl (fun _ => 0)))] := hD
  refine lv_aload_n hx hb d_M_init_62 rfl (lv_at hl 0 rfl) ?_
  refine lv_sipush hx hb d_M_init_63 ks_160 ?_
  refine va_newa (a0 := (160, .inl (fun _ => 0))) (N' := 160) (ty := .int) (atype := .int) hx hb (hts _ ac_int) rfl hK hP hD hS hA (fun _ => rfl) (by decide) (by decide) (by decide) (Nat.le_of_ble_eq_true rfl) (Nat.le_of_ble_eq_true rfl) d_M_init_66 (fun q8 c8 H hK hP hD hS => ?_)
  have hK : va_K D classes [(c1, .int), (c2, .int), (c3, .int), (c4, .int), (c5, .boolean), (c6, .boolean), (c7, .int), (c8, .int)] s := hK
  have hP : va_P D classes [(h0, .inr (0, [.int 0, .int 0, .ref q1, .ref q2, .ref q3, .ref q4, .ref q5, .ref q6, .int 0, .int 0, .ref q7, .null, .null, .null, .null])), (q1, .inl (c1, 32, .inl (fun _ => 0))), (q2, .inl (c2, 32, .inl (fun _ => 0))), (q3, .inl (c3, 32, .inl (fun _ => 0))), (q4, .inl (c4, 32, .inl (fun _ => 0))), (q5, .inl (c5, 448, .inl (fun _ => 0))), (q6, .inl (c6, 32, .inl (fun _ => 0))), (q7, .inl (c7, 160, .inl (fun _ => 0))), (q8, .inl (c8, 160, .inl (fun _ => 0)))] H := hP
  have hD : va_D A [(h0, .inr (0, [.int 0, .int 0, .ref q1, .ref q2, .ref q3, .ref q4, .ref q5, .ref q6, .int 0, .int 0, .ref q7, .null, .null, .null, .null])), (q1, .inl (c1, 32, .inl (fun _ => 0))), (q2, .inl (c2, 32, .inl (fun _ => 0))), (q3, .inl (c3, 32, .inl (fun _ => 0))), (q4, .inl (c4, 32, .inl (fun _ => 0))), (q5, .inl (c5, 448, .inl (fun _ => 0))), (q6, .inl (c6, 32, .inl (fun _ => 0))), (q7, .inl (c7, 160, .inl (fun _ => 0))), (q8, .inl (c8, 160, .inl (fun _ => 0)))] := hD
  refine W.widen (k := 8) (n := 928) (Nat.le_refl _) (Nat.le_refl _) ?_
  refine va_putF (D := D) (ci := 0) (v := .ref q8) (ty := .array .int) (C := R_M) (T := F_M) (N := 15) hx hb hts fi_M ft_M ft_M_ok fn_M hown hK hP hD hS 0 rfl rfl 11 (by decide) (hts _ fl_M_to) (fun _ h9 => h9) rfl hin rfl (by decide +kernel) rfl rfl (Nat.le_of_ble_eq_true rfl) d_M_init_68 (fun H locs hP hD hS => ?_)
  have hP : va_P D classes [(h0, .inr (0, [.int 0, .int 0, .ref q1, .ref q2, .ref q3, .ref q4, .ref q5, .ref q6, .int 0, .int 0, .ref q7, .ref q8, .null, .null, .null])), (q1, .inl (c1, 32, .inl (fun _ => 0))), (q2, .inl (c2, 32, .inl (fun _ => 0))), (q3, .inl (c3, 32, .inl (fun _ => 0))), (q4, .inl (c4, 32, .inl (fun _ => 0))), (q5, .inl (c5, 448, .inl (fun _ => 0))), (q6, .inl (c6, 32, .inl (fun _ => 0))), (q7, .inl (c7, 160, .inl (fun _ => 0))), (q8, .inl (c8, 160, .inl (fun _ => 0)))] H := hP
  have hD : va_D A [(h0, .inr (0, [.int 0, .int 0, .ref q1, .ref q2, .ref q3, .ref q4, .ref q5, .ref q6, .int 0, .int 0, .ref q7, .ref q8, .null, .null, .null])), (q1, .inl (c1, 32, .inl (fun _ => 0))), (q2, .inl (c2, 32, .inl (fun _ => 0))), (q3, .inl (c3, 32, .inl (fun _ => 0))), (q4, .inl (c4, 32, .inl (fun _ => 0))), (q5, .inl (c5, 448, .inl (fun _ => 0))), (q6, .inl (c6, 32, .inl (fun _ => 0))), (q7, .inl (c7, 160, .inl (fun _ => 0))), (q8, .inl (c8, 160, .inl (fun _ => 0)))] := hD
  refine lv_aload_n hx hb d_M_init_71 rfl (lv_at hl 0 rfl) ?_
  refine lv_sipush hx hb d_M_init_72 ks_160 ?_
  refine va_newa (a0 := (160, .inl (fun _ => 0))) (N' := 160) (ty := .int) (atype := .int) hx hb (hts _ ac_int) rfl hK hP hD hS hA (fun _ => rfl) (by decide) (by decide) (by decide) (Nat.le_of_ble_eq_true rfl) (Nat.le_of_ble_eq_true rfl) d_M_init_75 (fun q9 c9 H hK hP hD hS => ?_)
  have hK : va_K D classes [(c1, .int), (c2, .int), (c3, .int), (c4, .int), (c5, .boolean), (c6, .boolean), (c7, .int), (c8, .int), (c9, .int)] s := hK
  have hP : va_P D classes [(h0, .inr (0, [.int 0, .int 0, .ref q1, .ref q2, .ref q3, .ref q4, .ref q5, .ref q6, .int 0, .int 0, .ref q7, .ref q8, .null, .null, .null])), (q1, .inl (c1, 32, .inl (fun _ => 0))), (q2, .inl (c2, 32, .inl (fun _ => 0))), (q3, .inl (c3, 32, .inl (fun _ => 0))), (q4, .inl (c4, 32, .inl (fun _ => 0))), (q5, .inl (c5, 448, .inl (fun _ => 0))), (q6, .inl (c6, 32, .inl (fun _ => 0))), (q7, .inl (c7, 160, .inl (fun _ => 0))), (q8, .inl (c8, 160, .inl (fun _ => 0))), (q9, .inl (c9, 160, .inl (fun _ => 0)))] H := hP
  have hD : va_D A [(h0, .inr (0, [.int 0, .int 0, .ref q1, .ref q2, .ref q3, .ref q4, .ref q5, .ref q6, .int 0, .int 0, .ref q7, .ref q8, .null, .null, .null])), (q1, .inl (c1, 32, .inl (fun _ => 0))), (q2, .inl (c2, 32, .inl (fun _ => 0))), (q3, .inl (c3, 32, .inl (fun _ => 0))), (q4, .inl (c4, 32, .inl (fun _ => 0))), (q5, .inl (c5, 448, .inl (fun _ => 0))), (q6, .inl (c6, 32, .inl (fun _ => 0))), (q7, .inl (c7, 160, .inl (fun _ => 0))), (q8, .inl (c8, 160, .inl (fun _ => 0))), (q9, .inl (c9, 160, .inl (fun _ => 0)))] := hD
  refine W.widen (k := 9) (n := 1088) (Nat.le_refl _) (Nat.le_refl _) ?_
  refine va_putF (D := D) (ci := 0) (v := .ref q9) (ty := .array .int) (C := R_M) (T := F_M) (N := 15) hx hb hts fi_M ft_M ft_M_ok fn_M hown hK hP hD hS 0 rfl rfl 12 (by decide) (hts _ fl_M_from) (fun _ h9 => h9) rfl hin rfl (by decide +kernel) rfl rfl (Nat.le_of_ble_eq_true rfl) d_M_init_77 (fun H locs hP hD hS => ?_)
  have hP : va_P D classes [(h0, .inr (0, [.int 0, .int 0, .ref q1, .ref q2, .ref q3, .ref q4, .ref q5, .ref q6, .int 0, .int 0, .ref q7, .ref q8, .ref q9, .null, .null])), (q1, .inl (c1, 32, .inl (fun _ => 0))), (q2, .inl (c2, 32, .inl (fun _ => 0))), (q3, .inl (c3, 32, .inl (fun _ => 0))), (q4, .inl (c4, 32, .inl (fun _ => 0))), (q5, .inl (c5, 448, .inl (fun _ => 0))), (q6, .inl (c6, 32, .inl (fun _ => 0))), (q7, .inl (c7, 160, .inl (fun _ => 0))), (q8, .inl (c8, 160, .inl (fun _ => 0))), (q9, .inl (c9, 160, .inl (fun _ => 0)))] H := hP
  have hD : va_D A [(h0, .inr (0, [.int 0, .int 0, .ref q1, .ref q2, .ref q3, .ref q4, .ref q5, .ref q6, .int 0, .int 0, .ref q7, .ref q8, .ref q9, .null, .null])), (q1, .inl (c1, 32, .inl (fun _ => 0))), (q2, .inl (c2, 32, .inl (fun _ => 0))), (q3, .inl (c3, 32, .inl (fun _ => 0))), (q4, .inl (c4, 32, .inl (fun _ => 0))), (q5, .inl (c5, 448, .inl (fun _ => 0))), (q6, .inl (c6, 32, .inl (fun _ => 0))), (q7, .inl (c7, 160, .inl (fun _ => 0))), (q8, .inl (c8, 160, .inl (fun _ => 0))), (q9, .inl (c9, 160, .inl (fun _ => 0)))] := hD
  refine lv_aload_n hx hb d_M_init_80 rfl (lv_at hl 0 rfl) ?_
  refine lv_sipush hx hb d_M_init_81 ks_160 ?_
  refine va_newa (a0 := (160, .inl (fun _ => 0))) (N' := 160) (ty := .int) (atype := .int) hx hb (hts _ ac_int) rfl hK hP hD hS hA (fun _ => rfl) (by decide) (by decide) (by decide) (Nat.le_of_ble_eq_true rfl) (Nat.le_of_ble_eq_true rfl) d_M_init_84 (fun q10 c10 H hK hP hD hS => ?_)
  have hK : va_K D classes [(c1, .int), (c2, .int), (c3, .int), (c4, .int), (c5, .boolean), (c6, .boolean), (c7, .int), (c8, .int), (c9, .int), (c10, .int)] s := hK
  have hP : va_P D classes [(h0, .inr (0, [.int 0, .int 0, .ref q1, .ref q2, .ref q3, .ref q4, .ref q5, .ref q6, .int 0, .int 0, .ref q7, .ref q8, .ref q9, .null, .null])), (q1, .inl (c1, 32, .inl (fun _ => 0))), (q2, .inl (c2, 32, .inl (fun _ => 0))), (q3, .inl (c3, 32, .inl (fun _ => 0))), (q4, .inl (c4, 32, .inl (fun _ => 0))), (q5, .inl (c5, 448, .inl (fun _ => 0))), (q6, .inl (c6, 32, .inl (fun _ => 0))), (q7, .inl (c7, 160, .inl (fun _ => 0))), (q8, .inl (c8, 160, .inl (fun _ => 0))), (q9, .inl (c9, 160, .inl (fun _ => 0))), (q10, .inl (c10, 160, .inl (fun _ => 0)))] H := hP
  have hD : va_D A [(h0, .inr (0, [.int 0, .int 0, .ref q1, .ref q2, .ref q3, .ref q4, .ref q5, .ref q6, .int 0, .int 0, .ref q7, .ref q8, .ref q9, .null, .null])), (q1, .inl (c1, 32, .inl (fun _ => 0))), (q2, .inl (c2, 32, .inl (fun _ => 0))), (q3, .inl (c3, 32, .inl (fun _ => 0))), (q4, .inl (c4, 32, .inl (fun _ => 0))), (q5, .inl (c5, 448, .inl (fun _ => 0))), (q6, .inl (c6, 32, .inl (fun _ => 0))), (q7, .inl (c7, 160, .inl (fun _ => 0))), (q8, .inl (c8, 160, .inl (fun _ => 0))), (q9, .inl (c9, 160, .inl (fun _ => 0))), (q10, .inl (c10, 160, .inl (fun _ => 0)))] := hD
  refine W.widen (k := 10) (n := 1248) (Nat.le_refl _) (Nat.le_refl _) ?_
  refine va_putF (D := D) (ci := 0) (v := .ref q10) (ty := .array .int) (C := R_M) (T := F_M) (N := 15) hx hb hts fi_M ft_M ft_M_ok fn_M hown hK hP hD hS 0 rfl rfl 13 (by decide) (hts _ fl_M_other) (fun _ h9 => h9) rfl hin rfl (by decide +kernel) rfl rfl (Nat.le_of_ble_eq_true rfl) d_M_init_86 (fun H locs hP hD hS => ?_)
  have hP : va_P D classes [(h0, .inr (0, [.int 0, .int 0, .ref q1, .ref q2, .ref q3, .ref q4, .ref q5, .ref q6, .int 0, .int 0, .ref q7, .ref q8, .ref q9, .ref q10, .null])), (q1, .inl (c1, 32, .inl (fun _ => 0))), (q2, .inl (c2, 32, .inl (fun _ => 0))), (q3, .inl (c3, 32, .inl (fun _ => 0))), (q4, .inl (c4, 32, .inl (fun _ => 0))), (q5, .inl (c5, 448, .inl (fun _ => 0))), (q6, .inl (c6, 32, .inl (fun _ => 0))), (q7, .inl (c7, 160, .inl (fun _ => 0))), (q8, .inl (c8, 160, .inl (fun _ => 0))), (q9, .inl (c9, 160, .inl (fun _ => 0))), (q10, .inl (c10, 160, .inl (fun _ => 0)))] H := hP
  have hD : va_D A [(h0, .inr (0, [.int 0, .int 0, .ref q1, .ref q2, .ref q3, .ref q4, .ref q5, .ref q6, .int 0, .int 0, .ref q7, .ref q8, .ref q9, .ref q10, .null])), (q1, .inl (c1, 32, .inl (fun _ => 0))), (q2, .inl (c2, 32, .inl (fun _ => 0))), (q3, .inl (c3, 32, .inl (fun _ => 0))), (q4, .inl (c4, 32, .inl (fun _ => 0))), (q5, .inl (c5, 448, .inl (fun _ => 0))), (q6, .inl (c6, 32, .inl (fun _ => 0))), (q7, .inl (c7, 160, .inl (fun _ => 0))), (q8, .inl (c8, 160, .inl (fun _ => 0))), (q9, .inl (c9, 160, .inl (fun _ => 0))), (q10, .inl (c10, 160, .inl (fun _ => 0)))] := hD
  refine lv_aload_n hx hb d_M_init_89 rfl (lv_at hl 0 rfl) ?_
  refine lv_sipush hx hb d_M_init_90 ks_160 ?_
  refine va_newa (a0 := (160, .inl (fun _ => 0))) (N' := 160) (ty := .int) (atype := .int) hx hb (hts _ ac_int) rfl hK hP hD hS hA (fun _ => rfl) (by decide) (by decide) (by decide) (Nat.le_of_ble_eq_true rfl) (Nat.le_of_ble_eq_true rfl) d_M_init_93 (fun q11 c11 H hK hP hD hS => ?_)
  have hK : va_K D classes [(c1, .int), (c2, .int), (c3, .int), (c4, .int), (c5, .boolean), (c6, .boolean), (c7, .int), (c8, .int), (c9, .int), (c10, .int), (c11, .int)] s := hK
  have hP : va_P D classes [(h0, .inr (0, [.int 0, .int 0, .ref q1, .ref q2, .ref q3, .ref q4, .ref q5, .ref q6, .int 0, .int 0, .ref q7, .ref q8, .ref q9, .ref q10, .null])), (q1, .inl (c1, 32, .inl (fun _ => 0))), (q2, .inl (c2, 32, .inl (fun _ => 0))), (q3, .inl (c3, 32, .inl (fun _ => 0))), (q4, .inl (c4, 32, .inl (fun _ => 0))), (q5, .inl (c5, 448, .inl (fun _ => 0))), (q6, .inl (c6, 32, .inl (fun _ => 0))), (q7, .inl (c7, 160, .inl (fun _ => 0))), (q8, .inl (c8, 160, .inl (fun _ => 0))), (q9, .inl (c9, 160, .inl (fun _ => 0))), (q10, .inl (c10, 160, .inl (fun _ => 0))), (q11, .inl (c11, 160, .inl (fun _ => 0)))] H := hP
  have hD : va_D A [(h0, .inr (0, [.int 0, .int 0, .ref q1, .ref q2, .ref q3, .ref q4, .ref q5, .ref q6, .int 0, .int 0, .ref q7, .ref q8, .ref q9, .ref q10, .null])), (q1, .inl (c1, 32, .inl (fun _ => 0))), (q2, .inl (c2, 32, .inl (fun _ => 0))), (q3, .inl (c3, 32, .inl (fun _ => 0))), (q4, .inl (c4, 32, .inl (fun _ => 0))), (q5, .inl (c5, 448, .inl (fun _ => 0))), (q6, .inl (c6, 32, .inl (fun _ => 0))), (q7, .inl (c7, 160, .inl (fun _ => 0))), (q8, .inl (c8, 160, .inl (fun _ => 0))), (q9, .inl (c9, 160, .inl (fun _ => 0))), (q10, .inl (c10, 160, .inl (fun _ => 0))), (q11, .inl (c11, 160, .inl (fun _ => 0)))] := hD
  refine W.widen (k := 11) (n := 1408) (Nat.le_refl _) (Nat.le_refl _) ?_
  refine va_putF (D := D) (ci := 0) (v := .ref q11) (ty := .array .int) (C := R_M) (T := F_M) (N := 15) hx hb hts fi_M ft_M ft_M_ok fn_M hown hK hP hD hS 0 rfl rfl 14 (by decide) (hts _ fl_M_skip) (fun _ h9 => h9) rfl hin rfl (by decide +kernel) rfl rfl (Nat.le_of_ble_eq_true rfl) d_M_init_95 (fun H locs hP hD hS => ?_)
  have hP : va_P D classes [(h0, .inr (0, [.int 0, .int 0, .ref q1, .ref q2, .ref q3, .ref q4, .ref q5, .ref q6, .int 0, .int 0, .ref q7, .ref q8, .ref q9, .ref q10, .ref q11])), (q1, .inl (c1, 32, .inl (fun _ => 0))), (q2, .inl (c2, 32, .inl (fun _ => 0))), (q3, .inl (c3, 32, .inl (fun _ => 0))), (q4, .inl (c4, 32, .inl (fun _ => 0))), (q5, .inl (c5, 448, .inl (fun _ => 0))), (q6, .inl (c6, 32, .inl (fun _ => 0))), (q7, .inl (c7, 160, .inl (fun _ => 0))), (q8, .inl (c8, 160, .inl (fun _ => 0))), (q9, .inl (c9, 160, .inl (fun _ => 0))), (q10, .inl (c10, 160, .inl (fun _ => 0))), (q11, .inl (c11, 160, .inl (fun _ => 0)))] H := hP
  have hD : va_D A [(h0, .inr (0, [.int 0, .int 0, .ref q1, .ref q2, .ref q3, .ref q4, .ref q5, .ref q6, .int 0, .int 0, .ref q7, .ref q8, .ref q9, .ref q10, .ref q11])), (q1, .inl (c1, 32, .inl (fun _ => 0))), (q2, .inl (c2, 32, .inl (fun _ => 0))), (q3, .inl (c3, 32, .inl (fun _ => 0))), (q4, .inl (c4, 32, .inl (fun _ => 0))), (q5, .inl (c5, 448, .inl (fun _ => 0))), (q6, .inl (c6, 32, .inl (fun _ => 0))), (q7, .inl (c7, 160, .inl (fun _ => 0))), (q8, .inl (c8, 160, .inl (fun _ => 0))), (q9, .inl (c9, 160, .inl (fun _ => 0))), (q10, .inl (c10, 160, .inl (fun _ => 0))), (q11, .inl (c11, 160, .inl (fun _ => 0)))] := hD
  exact W.vret hx hb hr (fun t ht hW => ⟨⟨((fun k => match k with | 0 => h0 | 1 => q1 | 2 => q2 | 3 => q3 | 4 => q4 | 5 => q5 | 6 => q6 | 7 => q7 | 8 => q8 | 9 => q9 | 10 => q10 | _ => q11), (fun k => match k with | 1 => c1 | 2 => c2 | 3 => c3 | 4 => c4 | 5 => c5 | 6 => c6 | 7 => c7 | 8 => c8 | 9 => c9 | 10 => c10 | _ => c11)), rfl, rfl, by rw [ht]; exact hP, va_K.moved hW.alike hK, hD⟩, hS.F ht⟩) hS.2.2 d_M_init_98
set_option maxHeartbeats 4000000 in
set_option maxRecDepth 100000 in
/-- T(): the arrays come, all zero -/
theorem c_T_init (l : Launch) (D : va_G) (h0 sz : Nat) : Met l y_T_init w_T_init ({ frames := 1, cells := 5, slots := 136, locals := 12 }) (CtP D [] [.ref h0] [(h0, .inr (1, [.null, .int 0, .null, .null, .null, .null, .int 0]))] sz) (va_Qv (fun u : (Nat → Nat) × (Nat → ClassId) => u.1 0 = h0) (fun u t => va_P D classes (tW u.1 u.2 0 0 (fun _ => 0) (fun _ => 0) (fun _ => 0) (fun _ => 0) (fun _ => 0)) t.heap ∧ va_K D classes (tysT u.2) t ∧ va_D (va_A [(h0, .inr (1, [.null, .int 0, .null, .null, .null, .null, .int 0]))] sz) (tW u.1 u.2 0 0 (fun _ => 0) (fun _ => 0) (fun _ => 0) (fun _ => 0) (fun _ => 0))) (va_A [(h0, .inr (1, [.null, .int 0, .null, .null, .null, .null, .int 0]))] sz)) 5 136 (va_A [(h0, .inr (1, [.null, .int 0, .null, .null, .null, .null, .int 0]))] sz) := by
  refine Met.ofW (cc := b_T_init) (maxL := 1) (ret := none) (by decide) rfl ?_
  intro p e s m args below meth c s₁ B hml hv
  obtain ⟨rfl, hsz, hP, hK, hD0⟩ := hv
  have hx := B.exec
  have hb := B.bytes
  have hr := B.returns
  have hts0 := atoms_spec (ws := w_T_init) B.pre
  have hts : ∀ w ∈ mt_tbl, w.before #[.ref h0] s = true := fun w hw => hts0 w (List.mem_cons_of_mem _ hw)
  have hown : s.vm.findClass R_T = some m.cls := findClass_of_methodNamed B.named
  have hlocks := B.notSynchronized
  have hin : meth.name = "<init>" := (name_of_methodNamed B.named B.method).1
  subst hsz
  have hD := hD0.self (sz := s.heap.size)
  generalize hAe : va_A [(h0, .inr (1, [.null, .int 0, .null, .null, .null, .null, .int 0]))] s.heap.size = A at hD ⊢
  have hA : ∀ q : Nat, s.heap.size ≤ q → A q := fun q h => by rw [← hAe]; exact Or.inr h
  have hS : va_S A s.heap s.heap [] := va_S.rf
  have hP : va_P D classes [(h0, .inr (1, [.null, .int 0, .null, .null, .null, .null, .int 0]))] s.heap := hP
  have hl := lv_entry ([.ref h0]) (n := 1) (Nat.le_of_ble_eq_true rfl)
  rw [lg_entry_eq]
  generalize (lg_sl ([.ref h0]) ++ List.replicate (1 - (lg_sl ([.ref h0])).length) Slot.unset).toArray = ls at hl ⊢
  have hl : lv_has ls 1 [(0, .ref h0)] := hl
  refine lv_aload_n hx hb d_T_init_0 rfl (lv_at hl 0 rfl) ?_
  refine W.objInit hx hb hown (hts _ ml_T_1) (hts _ im_obj) (hts _ wc_obj) rfl (by rw [hml]; exact hl.1) rfl d_T_init_1 (Nat.le_of_ble_eq_true rfl) (Nat.le_of_ble_eq_true rfl) ?_
  refine W.eq (g2 := F0 m 4 ls []) rfl ?_
  refine lv_aload_n hx hb d_T_init_4 rfl (lv_at hl 0 rfl) ?_
  refine lv_bipush hx hb d_T_init_5 kb_8 ?_
  refine va_newa (a0 := (8, .inl (fun _ => 0))) (N' := 8) (ty := .int) (atype := .int) hx hb (hts _ ac_int) rfl hK hP hD hS hA (fun _ => rfl) (by decide) (by decide) (by decide) (Nat.le_of_ble_eq_true rfl) (Nat.le_of_ble_eq_true rfl) d_T_init_7 (fun q1 c1 H hK hP hD hS => ?_)
  have hK : va_K D classes [(c1, .int)] s := hK
  have hP : va_P D classes [(h0, .inr (1, [.null, .int 0, .null, .null, .null, .null, .int 0])), (q1, .inl (c1, 8, .inl (fun _ => 0)))] H := hP
  have hD : va_D A [(h0, .inr (1, [.null, .int 0, .null, .null, .null, .null, .int 0])), (q1, .inl (c1, 8, .inl (fun _ => 0)))] := hD
  refine W.widen (k := 1) (n := 8) (Nat.le_refl _) (Nat.le_refl _) ?_
  refine va_putF (D := D) (ci := 1) (v := .ref q1) (ty := .array .int) (C := R_T) (T := F_T) (N := 7) hx hb hts fi_T ft_T ft_T_ok fn_T hown hK hP hD hS 0 rfl rfl 0 (by decide) (hts _ fl_T_variable) (fun _ h9 => h9) rfl hin rfl (by decide +kernel) rfl rfl (Nat.le_of_ble_eq_true rfl) d_T_init_9 (fun H locs hP hD hS => ?_)
  have hP : va_P D classes [(h0, .inr (1, [.ref q1, .int 0, .null, .null, .null, .null, .int 0])), (q1, .inl (c1, 8, .inl (fun _ => 0)))] H := hP
  have hD : va_D A [(h0, .inr (1, [.ref q1, .int 0, .null, .null, .null, .null, .int 0])), (q1, .inl (c1, 8, .inl (fun _ => 0)))] := hD
  refine lv_aload_n hx hb d_T_init_12 rfl (lv_at hl 0 rfl) ?_
  refine lv_bipush hx hb d_T_init_13 kb_32 ?_
  refine va_newa (a0 := (32, .inl (fun _ => 0))) (N' := 32) (ty := .int) (atype := .int) hx hb (hts _ ac_int) rfl hK hP hD hS hA (fun _ => rfl) (by decide) (by decide) (by decide) (Nat.le_of_ble_eq_true rfl) (Nat.le_of_ble_eq_true rfl) d_T_init_15 (fun q2 c2 H hK hP hD hS => ?_)
  have hK : va_K D classes [(c1, .int), (c2, .int)] s := hK
  have hP : va_P D classes [(h0, .inr (1, [.ref q1, .int 0, .null, .null, .null, .null, .int 0])), (q1, .inl (c1, 8, .inl (fun _ => 0))), (q2, .inl (c2, 32, .inl (fun _ => 0)))] H := hP
  have hD : va_D A [(h0, .inr (1, [.ref q1, .int 0, .null, .null, .null, .null, .int 0])), (q1, .inl (c1, 8, .inl (fun _ => 0))), (q2, .inl (c2, 32, .inl (fun _ => 0)))] := hD
  refine W.widen (k := 2) (n := 40) (Nat.le_refl _) (Nat.le_refl _) ?_
  refine va_putF (D := D) (ci := 1) (v := .ref q2) (ty := .array .int) (C := R_T) (T := F_T) (N := 7) hx hb hts fi_T ft_T ft_T_ok fn_T hown hK hP hD hS 0 rfl rfl 2 (by decide) (hts _ fl_T_op) (fun _ h9 => h9) rfl hin rfl (by decide +kernel) rfl rfl (Nat.le_of_ble_eq_true rfl) d_T_init_17 (fun H locs hP hD hS => ?_)
  have hP : va_P D classes [(h0, .inr (1, [.ref q1, .int 0, .ref q2, .null, .null, .null, .int 0])), (q1, .inl (c1, 8, .inl (fun _ => 0))), (q2, .inl (c2, 32, .inl (fun _ => 0)))] H := hP
  have hD : va_D A [(h0, .inr (1, [.ref q1, .int 0, .ref q2, .null, .null, .null, .int 0])), (q1, .inl (c1, 8, .inl (fun _ => 0))), (q2, .inl (c2, 32, .inl (fun _ => 0)))] := hD
  refine lv_aload_n hx hb d_T_init_20 rfl (lv_at hl 0 rfl) ?_
  refine lv_bipush hx hb d_T_init_21 kb_32 ?_
  refine va_newa (a0 := (32, .inl (fun _ => 0))) (N' := 32) (ty := .int) (atype := .int) hx hb (hts _ ac_int) rfl hK hP hD hS hA (fun _ => rfl) (by decide) (by decide) (by decide) (Nat.le_of_ble_eq_true rfl) (Nat.le_of_ble_eq_true rfl) d_T_init_23 (fun q3 c3 H hK hP hD hS => ?_)
  have hK : va_K D classes [(c1, .int), (c2, .int), (c3, .int)] s := hK
  have hP : va_P D classes [(h0, .inr (1, [.ref q1, .int 0, .ref q2, .null, .null, .null, .int 0])), (q1, .inl (c1, 8, .inl (fun _ => 0))), (q2, .inl (c2, 32, .inl (fun _ => 0))), (q3, .inl (c3, 32, .inl (fun _ => 0)))] H := hP
  have hD : va_D A [(h0, .inr (1, [.ref q1, .int 0, .ref q2, .null, .null, .null, .int 0])), (q1, .inl (c1, 8, .inl (fun _ => 0))), (q2, .inl (c2, 32, .inl (fun _ => 0))), (q3, .inl (c3, 32, .inl (fun _ => 0)))] := hD
  refine W.widen (k := 3) (n := 72) (Nat.le_refl _) (Nat.le_refl _) ?_
  refine va_putF (D := D) (ci := 1) (v := .ref q3) (ty := .array .int) (C := R_T) (T := F_T) (N := 7) hx hb hts fi_T ft_T ft_T_ok fn_T hown hK hP hD hS 0 rfl rfl 3 (by decide) (hts _ fl_T_dst) (fun _ h9 => h9) rfl hin rfl (by decide +kernel) rfl rfl (Nat.le_of_ble_eq_true rfl) d_T_init_25 (fun H locs hP hD hS => ?_)
  have hP : va_P D classes [(h0, .inr (1, [.ref q1, .int 0, .ref q2, .ref q3, .null, .null, .int 0])), (q1, .inl (c1, 8, .inl (fun _ => 0))), (q2, .inl (c2, 32, .inl (fun _ => 0))), (q3, .inl (c3, 32, .inl (fun _ => 0)))] H := hP
  have hD : va_D A [(h0, .inr (1, [.ref q1, .int 0, .ref q2, .ref q3, .null, .null, .int 0])), (q1, .inl (c1, 8, .inl (fun _ => 0))), (q2, .inl (c2, 32, .inl (fun _ => 0))), (q3, .inl (c3, 32, .inl (fun _ => 0)))] := hD
  refine lv_aload_n hx hb d_T_init_28 rfl (lv_at hl 0 rfl) ?_
  refine lv_bipush hx hb d_T_init_29 kb_32 ?_
  refine va_newa (a0 := (32, .inl (fun _ => 0))) (N' := 32) (ty := .int) (atype := .int) hx hb (hts _ ac_int) rfl hK hP hD hS hA (fun _ => rfl) (by decide) (by decide) (by decide) (Nat.le_of_ble_eq_true rfl) (Nat.le_of_ble_eq_true rfl) d_T_init_31 (fun q4 c4 H hK hP hD hS => ?_)
  have hK : va_K D classes [(c1, .int), (c2, .int), (c3, .int), (c4, .int)] s := hK
  have hP : va_P D classes [(h0, .inr (1, [.ref q1, .int 0, .ref q2, .ref q3, .null, .null, .int 0])), (q1, .inl (c1, 8, .inl (fun _ => 0))), (q2, .inl (c2, 32, .inl (fun _ => 0))), (q3, .inl (c3, 32, .inl (fun _ => 0))), (q4, .inl (c4, 32, .inl (fun _ => 0)))] H := hP
  have hD : va_D A [(h0, .inr (1, [.ref q1, .int 0, .ref q2, .ref q3, .null, .null, .int 0])), (q1, .inl (c1, 8, .inl (fun _ => 0))), (q2, .inl (c2, 32, .inl (fun _ => 0))), (q3, .inl (c3, 32, .inl (fun _ => 0))), (q4, .inl (c4, 32, .inl (fun _ => 0)))] := hD
  refine W.widen (k := 4) (n := 104) (Nat.le_refl _) (Nat.le_refl _) ?_
  refine va_putF (D := D) (ci := 1) (v := .ref q4) (ty := .array .int) (C := R_T) (T := F_T) (N := 7) hx hb hts fi_T ft_T ft_T_ok fn_T hown hK hP hD hS 0 rfl rfl 4 (by decide) (hts _ fl_T_left) (fun _ h9 => h9) rfl hin rfl (by decide +kernel) rfl rfl (Nat.le_of_ble_eq_true rfl) d_T_init_33 (fun H locs hP hD hS => ?_)
  have hP : va_P D classes [(h0, .inr (1, [.ref q1, .int 0, .ref q2, .ref q3, .ref q4, .null, .int 0])), (q1, .inl (c1, 8, .inl (fun _ => 0))), (q2, .inl (c2, 32, .inl (fun _ => 0))), (q3, .inl (c3, 32, .inl (fun _ => 0))), (q4, .inl (c4, 32, .inl (fun _ => 0)))] H := hP
  have hD : va_D A [(h0, .inr (1, [.ref q1, .int 0, .ref q2, .ref q3, .ref q4, .null, .int 0])), (q1, .inl (c1, 8, .inl (fun _ => 0))), (q2, .inl (c2, 32, .inl (fun _ => 0))), (q3, .inl (c3, 32, .inl (fun _ => 0))), (q4, .inl (c4, 32, .inl (fun _ => 0)))] := hD
  refine lv_aload_n hx hb d_T_init_36 rfl (lv_at hl 0 rfl) ?_
  refine lv_bipush hx hb d_T_init_37 kb_32 ?_
  refine va_newa (a0 := (32, .inl (fun _ => 0))) (N' := 32) (ty := .int) (atype := .int) hx hb (hts _ ac_int) rfl hK hP hD hS hA (fun _ => rfl) (by decide) (by decide) (by decide) (Nat.le_of_ble_eq_true rfl) (Nat.le_of_ble_eq_true rfl) d_T_init_39 (fun q5 c5 H hK hP hD hS => ?_)
  have hK : va_K D classes [(c1, .int), (c2, .int), (c3, .int), (c4, .int), (c5, .int)] s := hK
  have hP : va_P D classes [(h0, .inr (1, [.ref q1, .int 0, .ref q2, .ref q3, .ref q4, .null, .int 0])), (q1, .inl (c1, 8, .inl (fun _ => 0))), (q2, .inl (c2, 32, .inl (fun _ => 0))), (q3, .inl (c3, 32, .inl (fun _ => 0))), (q4, .inl (c4, 32, .inl (fun _ => 0))), (q5, .inl (c5, 32, .inl (fun _ => 0)))] H := hP
  have hD : va_D A [(h0, .inr (1, [.ref q1, .int 0, .ref q2, .ref q3, .ref q4, .null, .int 0])), (q1, .inl (c1, 8, .inl (fun _ => 0))), (q2, .inl (c2, 32, .inl (fun _ => 0))), (q3, .inl (c3, 32, .inl (fun _ => 0))), (q4, .inl (c4, 32, .inl (fun _ => 0))), (q5, .inl (c5, 32, .inl (fun _ => 0)))] := hD
  refine W.widen (k := 5) (n := 136) (Nat.le_refl _) (Nat.le_refl _) ?_
  refine va_putF (D := D) (ci := 1) (v := .ref q5) (ty := .array .int) (C := R_T) (T := F_T) (N := 7) hx hb hts fi_T ft_T ft_T_ok fn_T hown hK hP hD hS 0 rfl rfl 5 (by decide) (hts _ fl_T_right) (fun _ h9 => h9) rfl hin rfl (by decide +kernel) rfl rfl (Nat.le_of_ble_eq_true rfl) d_T_init_41 (fun H locs hP hD hS => ?_)
  have hP : va_P D classes [(h0, .inr (1, [.ref q1, .int 0, .ref q2, .ref q3, .ref q4, .ref q5, .int 0])), (q1, .inl (c1, 8, .inl (fun _ => 0))), (q2, .inl (c2, 32, .inl (fun _ => 0))), (q3, .inl (c3, 32, .inl (fun _ => 0))), (q4, .inl (c4, 32, .inl (fun _ => 0))), (q5, .inl (c5, 32, .inl (fun _ => 0)))] H := hP
  have hD : va_D A [(h0, .inr (1, [.ref q1, .int 0, .ref q2, .ref q3, .ref q4, .ref q5, .int 0])), (q1, .inl (c1, 8, .inl (fun _ => 0))), (q2, .inl (c2, 32, .inl (fun _ => 0))), (q3, .inl (c3, 32, .inl (fun _ => 0))), (q4, .inl (c4, 32, .inl (fun _ => 0))), (q5, .inl (c5, 32, .inl (fun _ => 0)))] := hD
  exact W.vret hx hb hr (fun t ht hW => ⟨⟨((fun k => match k with | 0 => h0 | 1 => q1 | 2 => q2 | 3 => q3 | 4 => q4 | _ => q5), (fun k => match k with | 1 => c1 | 2 => c2 | 3 => c3 | 4 => c4 | _ => c5)), rfl, rfl, by rw [ht]; exact hP, va_K.moved hW.alike hK, hD⟩, hS.F ht⟩) hS.2.2 d_T_init_44
end
section
/-! two worlds side by side: calls on one of them -/
theorem P_l {D : va_G} {w1 w2 : va_W} {H : Heap} (h : va_P D classes (w1 ++ w2) H) : va_P D classes w1 H := fun k q hk => h k q (by
  rw [List.getElem?_append_left (List.getElem?_eq_some_iff.mp hk).1]
  exact hk)
theorem P_r {D : va_G} {w1 w2 : va_W} {H : Heap} (h : va_P D classes (w1 ++ w2) H) : va_P D classes w2 H := fun k q hk => h (w1.length + k) q (by
  rw [List.getElem?_append_right (Nat.le_add_right _ _), Nat.add_sub_cancel_left]
  exact hk)
theorem D_l {A : Nat → Prop} {w1 w2 : va_W} (h : va_D A (w1 ++ w2)) : va_D A w1 := ⟨fun i j p q hi hj e => h.1 i j p q (by
  rw [List.getElem?_append_left (List.getElem?_eq_some_iff.mp hi).1]
  exact hi) (by
  rw [List.getElem?_append_left (List.getElem?_eq_some_iff.mp hj).1]
  exact hj) e, fun k q hk => h.2 k q (by
  rw [List.getElem?_append_left (List.getElem?_eq_some_iff.mp hk).1]
  exact hk)⟩
theorem D_r {A : Nat → Prop} {w1 w2 : va_W} (h : va_D A (w1 ++ w2)) : va_D A w2 := ⟨fun i j p q hi hj e => Nat.add_left_cancel (h.1 (w1.length + i) (w1.length + j) p q (by
  rw [List.getElem?_append_right (Nat.le_add_right _ _), Nat.add_sub_cancel_left]
  exact hi) (by
  rw [List.getElem?_append_right (Nat.le_add_right _ _), Nat.add_sub_cancel_left]
  exact hj) e), fun k q hk => h.2 (w1.length + k) q (by
  rw [List.getElem?_append_right (Nat.le_add_right _ _), Nat.add_sub_cancel_left]
  exact hk)⟩
theorem D_x {A : Nat → Prop} {w1 w2 : va_W} (h : va_D A (w1 ++ w2)) : ∀ (i j : Nat) (p q : Nat × va_E), w1[i]? = some p → w2[j]? = some q → p.1 ≠ q.1 := fun i j p q hi hj e => by
  have hl := (List.getElem?_eq_some_iff.mp hi).1
  have hij := h.1 i (w1.length + j) p q (by
    rw [List.getElem?_append_left hl]
    exact hi) (by
    rw [List.getElem?_append_right (Nat.le_add_right _ _), Nat.add_sub_cancel_left]
    exact hj) e
  omega
theorem K_l {D : va_G} {t1 t2 : List (ClassId × FieldType)} {U : State} (h : va_K D classes (t1 ++ t2) U) : va_K D classes t1 U := ⟨h.1, fun k q hk => h.2 k q (by
  rw [List.getElem?_append_left (List.getElem?_eq_some_iff.mp hk).1]
  exact hk)⟩
theorem K_r {D : va_G} {t1 t2 : List (ClassId × FieldType)} {U : State} (h : va_K D classes (t1 ++ t2) U) : va_K D classes t2 U := ⟨h.1, fun k q hk => h.2 (t1.length + k) q (by
  rw [List.getElem?_append_right (Nat.le_add_right _ _), Nat.add_sub_cancel_left]
  exact hk)⟩
theorem WW.swap {D : va_G} {t1 t2 : List (ClassId × FieldType)} {A : Nat → Prop} {s : State} {w1 w2 : va_W} {H : Heap} {locs : List Loc} (M : WW D (t1 ++ t2) A s (w1 ++ w2) H locs) : WW D (t2 ++ t1) A s (w2 ++ w1) H locs :=
  ⟨(K_r M.1).app (K_l M.1), va_P.app (P_r M.2.1) (P_l M.2.1), va_D.app (D_r M.2.2.1) (D_l M.2.2.1) (fun i j p q hi hj e => D_x M.2.2.1 j i q p hj hi e.symm), M.2.2.2.1, M.2.2.2.2⟩
theorem fr_join {D : va_G} {A : Nat → Prop} {Wr W0 W1 : va_W} {H H1 : Heap} (hP : va_P D classes (Wr ++ W0) H) (hD : va_D A (Wr ++ W0)) (hk : ∀ q : Nat, q < H.size → ¬ va_A W0 H.size q → H1[q]? = H[q]?) (hF : ∀ q, va_A W0 H.size q → A q) (hP1 : va_P D classes W1 H1) (hD1 : va_D (va_A W0 H.size) W1) : va_P D classes (Wr ++ W1) H1 ∧ va_D A (Wr ++ W1) := by
  have apart : ∀ (k : Nat) (q : Nat × va_E), Wr[k]? = some q → q.1 < H.size ∧ ¬ va_A W0 H.size q.1 := by
    intro k q hq
    have hl := (P_l hP k q hq).lt
    refine ⟨hl, fun h => ?_⟩
    rcases h with ⟨k2, e, h⟩ | h
    · exact D_x hD k k2 q (q.1, e) hq h rfl
    · omega
  refine ⟨va_P.app (fun k q hq => (P_l hP k q hq).kept (hk q.1 (apart k q hq).1 (apart k q hq).2)) hP1, va_D.app (D_l hD) (hD1.weaken (fun k q _ h => hF q.1 h)) (fun i j x y hx hy hxy => ?_)⟩
  exact (apart i x hx).2 (by rw [hxy]; exact hD1.2 j y hy)
section RowsF
variable {p : Program} {l : Launch} {e : Env} {R : Room} {s : State} {m : MethodId} {args : Array Value} {below : List Frame} {meth : Method} {c : Code} {H : Heap} {locs : List Loc} {cells slots : Nat} {Q : State → Prop}
variable {cc : ByteArray} {nL pc : Nat} {ls : Array Slot} {rest : List Value} {own : String} {D : va_G} {tysC tysR : List (ClassId × FieldType)} {A : Nat → Prop}
theorem WW.freeR {Wr W0 : va_W} {tys : List (ClassId × FieldType)} (M : WW D tys A s (Wr ++ W0) H locs) : ∀ q, va_A W0 H.size q → A q := fun q h => by
  rcases h with ⟨k, e, h⟩ | h
  · exact (D_r M.2.2.1).2 k (q, e) h
  · exact M.2.2.2.2 q (Nat.le_trans M.2.2.2.1.1 h)
theorem frV {S : Type} {post : S → Prop} {F : S → va_W} {y : MethodName} {b : ByteArray} {n f k idx ci N a0 : Nat} {C : String} {fs : List Value} {T : u_T} {As st0 : List Value} {W0 Wr : va_W} (SF : CallFix p m c cc nL s args mt_tbl own) (M : WW D (tysR ++ tysC) A s (Wr ++ W0) H locs)
    (hC : CtV l y b n (rmm f k) D tysC (.ref a0 :: As) W0 post F) (hG : GoodIn mt_tbl (wsV own idx C y (.code y b n none :: mt_tbl))) (hd : y.cls = C ∧ y.cls ≠ "java/lang/invoke/MethodHandle" ∧ y.cls ≠ "java/lang/invoke/VarHandle" ∧ (parseMethodDescriptor y.desc).map (fun d => d.parameters.length) = some As.length)
    (hR : f + 1 ≤ R.frames ∧ 8 + (n + 11) + k ≤ R.locals) (hc : classes[ci]? = some (C, T, N)) (he : W0[0]? = some (a0, .inr (ci, fs))) (hls : ls.size = nL) (hst : st0 = As.reverse ++ .ref a0 :: rest) (hrm : (rest.map fun v => v.category).sum ≤ 8) (hdg : decode cc pc = .ok (.invokevirtual idx, 3)) (hcs : cells ≤ R.cells ∧ slots ≤ R.slots)
    (kk : ∀ (u : S) (H1 : Heap) (locs1 : List Loc), post u → WW D (tysR ++ tysC) A s (Wr ++ F u) H1 locs1 → W p l e R s m args below meth c H1 locs1 cells slots Q (F0 m (pc + 3) ls rest)) : W p l e R s m args below meth c H locs cells slots Q (F0 m pc ls st0) := by
  have hFc := M.freeR
  obtain ⟨hK, hP, hD, hS, hA⟩ := M
  refine va_callv (va_runV (As := As) (rest := rest) SF (hC H.size) (cwV As.length SF.2.2.2.2 hG rfl rfl rfl hd hR) ⟨CtP.blind, va_recv (K_r hK) (P_r hP) (ci := ci) (q0 := 0) hc he, fun U hU hW => ⟨rfl, by rw [hU], by rw [hU]; exact P_r hP, va_K.moved hW.alike (K_r hK), (D_r hD).weaken (fun _ _ _ _ => trivial)⟩⟩ rfl rfl hls hst (lv_room hrm) hdg hcs) hS (fun q _ h => hFc q h) hFc (fun u t H1 locs1 ht hvm hw hB hz1 hk1 hS => ?_)
  obtain ⟨hP1, hK1, hD1⟩ := hB
  rw [ht] at hP1
  obtain ⟨hP2, hD2⟩ := fr_join hP hD hk1 hFc hP1 hD1
  exact kk u H1 locs1 hw ⟨hK, hP2, hD2, hS, hA⟩
theorem frI {S : Type} {post : Int32 → S → Prop} {F : S → va_W} {y : MethodName} {b : ByteArray} {ty : FieldType} {n f k idx ci N a0 : Nat} {C : String} {fs : List Value} {T : u_T} {As st0 : List Value} {W0 Wr : va_W} (SF : CallFix p m c cc nL s args mt_tbl own) (M : WW D (tysR ++ tysC) A s (Wr ++ W0) H locs)
    (hC : CtI l y b n ty (rmm f k) D tysC (.ref a0 :: As) W0 post F) (hG : GoodIn mt_tbl (wsV own idx C y (.code y b n (some ty) :: mt_tbl))) (hd : y.cls = C ∧ y.cls ≠ "java/lang/invoke/MethodHandle" ∧ y.cls ≠ "java/lang/invoke/VarHandle" ∧ (parseMethodDescriptor y.desc).map (fun d => d.parameters.length) = some As.length)
    (hR : f + 1 ≤ R.frames ∧ 8 + (n + 11) + k ≤ R.locals) (hc : classes[ci]? = some (C, T, N)) (he : W0[0]? = some (a0, .inr (ci, fs))) (hls : ls.size = nL) (hst : st0 = As.reverse ++ .ref a0 :: rest) (hrm : (rest.map fun v => v.category).sum ≤ 8) (hdg : decode cc pc = .ok (.invokevirtual idx, 3)) (hcs : cells ≤ R.cells ∧ slots ≤ R.slots)
    (kk : ∀ (r : Int32) (u : S) (H1 : Heap) (locs1 : List Loc), post r u → WW D (tysR ++ tysC) A s (Wr ++ F u) H1 locs1 → W p l e R s m args below meth c H1 locs1 cells slots Q (F0 m (pc + 3) ls (.int r :: rest))) : W p l e R s m args below meth c H locs cells slots Q (F0 m pc ls st0) := by
  have hFc := M.freeR
  obtain ⟨hK, hP, hD, hS, hA⟩ := M
  refine va_calli (va_runV (As := As) (rest := rest) SF (hC H.size) (cwV As.length SF.2.2.2.2 hG rfl rfl rfl hd hR) ⟨CtP.blind, va_recv (K_r hK) (P_r hP) (ci := ci) (q0 := 0) hc he, fun U hU hW => ⟨rfl, by rw [hU], by rw [hU]; exact P_r hP, va_K.moved hW.alike (K_r hK), (D_r hD).weaken (fun _ _ _ _ => trivial)⟩⟩ rfl rfl hls hst (lv_room hrm) hdg hcs) hS (fun q _ h => hFc q h) hFc (fun r u t H1 locs1 ht hvm hw hB hz1 hk1 hS => ?_)
  obtain ⟨hP1, hK1, hD1⟩ := hB
  rw [ht] at hP1
  obtain ⟨hP2, hD2⟩ := fr_join hP hD hk1 hFc hP1 hD1
  exact kk r u H1 locs1 hw ⟨hK, hP2, hD2, hS, hA⟩
/-- the script at place k -/
theorem sc_ld {ws : va_W} {tys : List (ClassId × FieldType)} {b L : Nat} {xs : Nat → Int32} (SF : CallFix p m c cc nL s args mt_tbl own) (hX : va_X b L xs s s.heap) (hbl : b < s.heap.size) (hbA : ¬ A b) (M : WW D tys A s ws H locs) (hL : L ≤ 2560) {i : Int32} (k : Nat) (hi : i = nI k) (hk : k < L) (hd : decode cc pc = .ok (.iaload, 1))
    (kk : W p l e R s m args below meth c H locs cells slots Q (F0 m (pc + 1) ls (.int (xs k) :: rest))) : W p l e R s m args below meth c H locs cells slots Q (F0 m pc ls (.int i :: .ref b :: rest)) := by
  subst hi
  refine va_sld SF.1 SF.2.1 hX hbl hbA M.2.2.2.1 (vp_in_nI hk (by omega)) hd ?_
  rw [nI_clamp (by omega)]
  exact kk
theorem sc_len {ws : va_W} {tys : List (ClassId × FieldType)} {b L : Nat} {xs : Nat → Int32} (SF : CallFix p m c cc nL s args mt_tbl own) (hX : va_X b L xs s s.heap) (hbl : b < s.heap.size) (hbA : ¬ A b) (M : WW D tys A s ws H locs) (hd : decode cc pc = .ok (.arraylength, 1))
    (kk : W p l e R s m args below meth c H locs cells slots Q (F0 m (pc + 1) ls (.int (nI L) :: rest))) : W p l e R s m args below meth c H locs cells slots Q (F0 m pc ls (.ref b :: rest)) :=
  va_slen SF.1 SF.2.1 hX hbl hbA M.2.2.2.1 hd kk
end RowsF
theorem k_inc5 (i : Nat) : nI i + Int32.ofInt 5 = nI (i + 5) := by rw [show Int32.ofInt 5 = nI 5 by decide, nI_add]
theorem mU_0 (h : Nat → Nat) (cs : Nat → ClassId) : mW h cs 0 0 0 0 (fun _ => 0) (fun _ => 0) (fun _ => 0) (fun _ => 0) (fun _ => 0) (fun _ => 0) (fun _ => 0) (fun _ => 0) (fun _ => 0) (fun _ => 0) (fun _ => 0) = mU h cs 0 0 (fun _ => 0) (fun _ => 0) (fun _ => 0) (fun _ => 0) (fun _ => 0, 0, false, 0, fun _ _ => 0) := by
  unfold mU
  dsimp only
  rw [bOf_0, fOf_0]
  rfl
theorem okP_0 (O Dd : Nat → Int32) : okP O Dd 0 := fun j hj => absurd hj (Nat.not_lt_zero j)
end
section
/-! THE CLAIM OUT OF ONE WALK OF THE LAW'S BODY. Your part is whole_start (and what it stands on); all else here is the same for every law, but numbers. -/
def R_law : String := "BitSerialMachineLaw"
def lw_P (b : Addr) (xs : List Int32) (args : Array Value) (s : State) : Prop := args = #[.ref b] ∧ s.IntsAt b xs ∧ xs.length ≤ 2560 ∧ (Jvm.Cond.and given_1 narrow_1).before args s = true
def lw_Q (_ : Array Value) (s : State) (o : Outcome) (t : State) : Prop := o = .returned (some (.int 1)) ∧ Framed s o t [] 18 1566
def lw_Z (below : List Frame) (a : Array Value) (s : State) : State → Prop := fun t => ∃ o, t.status = .running ∧ Ended t below o ∧ lw_Q a s o t
/-- the law's own end, with 1 on the stack, nothing written that was there before, its room as the claim has it -/
theorem lw_ret {p : Program} {l : Launch} {e : Env} {s : State} {m : MethodId} {below : List Frame} {meth : Method} {c : Code} {b : Nat} (hx : p.tables.exec = Jvm.exec) (hb : c.code = code) (hr : meth.sig.returnType = ret) (hlocks : meth.locks = false) {pc : Nat} {H : Heap} {ls : Array Slot} (hdg : decode code pc = .ok (.ireturn, 1)) : W p l e room_1 s m #[Value.ref b] below meth c H [] 18 1566 (lw_Z below #[Value.ref b] s) (F0 m pc ls [.int 1]) := by
  intro T hT X
  obtain ⟨fs, hret, hrun, hended, hW, hframe⟩ := X.leave (v := some (.int 1)) (hlocks := hlocks) (fun h => by rw [hr] at h; cases h)
  have hmeth' : T.vm.method? m = some meth := X.method'
  refine ⟨T.setFrames fs, ?_, .returned (some (.int 1)), hrun, hended, rfl, ⟨_, rfl⟩, hW, hframe⟩
  jvm_step X.here [X.here.top, hx, hb, hdg, hmeth', hr, ret, narrow_b1]
  (try refine ⟨rfl, ?_⟩); (try refine ⟨rfl, ?_⟩)
  first | (intro acts; rw [hret _ acts rfl rfl rfl]) | rw [hret _ _ rfl rfl rfl]
  exact Steps.refl _
/-- what holds at the law's entry: the machine, the code, the tables' words (any of lw_tbl by 'hts w (by decide +kernel)'), the script of L ints xs at the cell b, what the Statement gives of the start (any of its parts by flat_of_before) -/
def lw_At (p : Program) (s : State) (m : MethodId) (meth : Method) (c : Code) (b L : Nat) (xs : Nat → Int32) : Prop :=
  p.tables.exec = Jvm.exec ∧ c.code = code ∧ meth.sig.returnType = ret ∧ c.maxLocals = 4 ∧ s.vm.findClass R_law = some m.cls ∧ (∀ w ∈ lw_tbl, w.before #[Value.ref b] s = true) ∧ va_X b L xs s s.heap ∧ b < s.heap.size ∧ meth.locks = false ∧ (Jvm.Cond.and given_1 narrow_1).before #[Value.ref b] s = true
end
section
theorem rnF_bd {O Dd Aa Bb : Nat → Int32} {N : Nat} (hN : N ≤ 32) (hok : okP O Dd N) : ∀ (k : Nat) (q : Nat × (Nat → Int32)), q.1 ≤ 40 → rngV q.2 → (rnF O Dd Aa Bb N k q).2.1 ≤ 40 ∧ rngV (rnF O Dd Aa Bb N k q).2.2
  | 0, q, h1, h2 => ⟨h1, h2⟩
  | k + 1, q, h1, h2 => by
    by_cases c : q.1 < N
    · rw [rnF_go c]
      obtain ⟨⟨o, ho, eo⟩, d, hd, ed⟩ := hok q.1 c
      refine rnF_bd hN hok k (stF O Dd Aa Bb q) ?_ ?_
      · exact lnN_le _ _ _ (by omega)
      · exact lnV_rng h2 _ _ _ _ _ _
    · rw [rnF_no c]
      exact ⟨h1, h2⟩
set_option maxHeartbeats 4000000 in
set_option maxRecDepth 100000 in
/-- THE LAW'S LOOP: at its head the machine's registers hold the model's variables -/
theorem law_loop {p : Program} {l : Launch} {e : Env} {s : State} {m : MethodId} {below : List Frame} {meth : Method} {c : Code} {D : va_G} {hm ht : Nat → Nat} {cm ct : Nat → ClassId} {b L : Nat} {xs : Nat → Int32} (hL : L ≤ 2560) (C0 : lw_At p s m meth c b L xs) :
    ∀ (n i : Nat), L < i + n → i ≤ L + 5 → ∀ (N j : Nat) (V O Dd Aa Bb : Nat → Int32) (u : RU), N ≤ 32 → j ≤ 40 → okP O Dd N → Rel u.1 V → rngV V → ∀ (H : Heap) (locs : List Loc) (ls : Array Slot), WW D (tysT ct ++ tysM cm) (fun q : Nat => s.heap.size ≤ q) s (tW ht ct (nI N) (nI j) V O Dd Aa Bb ++ mU hm cm (nI N) (nI j) O Dd Aa Bb u) H locs → lv_has ls 4 [(0, .ref b), (1, .ref (hm 0)), (2, .ref (ht 0)), (3, .int (nI (i)))] → W p l e room_1 s m #[Value.ref b] below meth c H locs 18 1566 (lw_Z below #[Value.ref b] s) (F0 m 18 ls []) := by
  obtain ⟨hx, hb, hr, hml, hown, hts, hX, hbl, hlocks, hgv⟩ := C0
  have SF : CallFix p m c code 4 s #[Value.ref b] mt_tbl R_L := ⟨hx, hb, hml, hown, fun w hw => hts w (mt_sub hw)⟩
  have hbA : ¬ (fun q : Nat => s.heap.size ≤ q) b := Nat.not_le.mpr hbl
  have hend : ∀ (H : Heap) (locs : List Loc) (ls : Array Slot), va_S (fun q : Nat => s.heap.size ≤ q) s.heap H locs → W p l e room_1 s m #[Value.ref b] below meth c H locs 18 1566 (lw_Z below #[Value.ref b] s) (F0 m 264 ls []) := by
    intro H locs ls hS
    refine lv_iconst hx hb d_L_law_264 ki_1 ?_
    refine va_forget (fun q hq => hS.2.2 q hq) ?_
    exact lw_ret hx hb hr hlocks d_L_law_265
  intro n
  induction n with
  | zero =>
    intro i hi hi2 N j V O Dd Aa Bb u hN hj hok hRel hV H locs ls M hl
    refine lv_iload_n hx hb d_L_law_18 rfl (lv_at hl 3 rfl) ?_
    refine lv_aload_n hx hb d_L_law_19 rfl (lv_at hl 0 rfl) ?_
    refine sc_len SF hX hbl hbA M d_L_law_20 ?_
    refine lv_iconst hx hb d_L_law_21 ki_5 ?_
    refine lv_isub hx hb d_L_law_22 ?_
    have hcmp : nI L - 5 < nI (i) ↔ (L : Int) - 5 < i := by rw [Int32.lt_iff_toInt_lt, show (5 : Int32) = nI 5 from rfl, pk_sub_toInt (by omega) (by decide), nI_toInt (by omega)]; rfl
    refine lv_icmp_gt (tgt := 264) hx hb d_L_law_23 (by decide) (fun _ => ?_) (fun c9 => absurd (hcmp.mpr (by omega)) c9)
    exact hend H locs ls M.2.2.2.1
  | succ n ih =>
    intro i hi hi2 N j V O Dd Aa Bb u hN hj hok hRel hV H locs ls M hl
    refine lv_iload_n hx hb d_L_law_18 rfl (lv_at hl 3 rfl) ?_
    refine lv_aload_n hx hb d_L_law_19 rfl (lv_at hl 0 rfl) ?_
    refine sc_len SF hX hbl hbA M d_L_law_20 ?_
    refine lv_iconst hx hb d_L_law_21 ki_5 ?_
    refine lv_isub hx hb d_L_law_22 ?_
    have hcmp : nI L - 5 < nI (i) ↔ (L : Int) - 5 < i := by rw [Int32.lt_iff_toInt_lt, show (5 : Int32) = nI 5 from rfl, pk_sub_toInt (by omega) (by decide), nI_toInt (by omega)]; rfl
    refine lv_icmp_gt (tgt := 264) hx hb d_L_law_23 (by decide) (fun c23 => ?_) (fun c23 => ?_)
    · exact hend H locs ls M.2.2.2.1
    · have hiL : i + 5 ≤ L := by have := mt hcmp.mpr c23; omega
      have hnext : ∀ (N j : Nat) (V O Dd Aa Bb : Nat → Int32) (u : RU), N ≤ 32 → j ≤ 40 → okP O Dd N → Rel u.1 V → rngV V → ∀ (H : Heap) (locs : List Loc), WW D (tysT ct ++ tysM cm) (fun q : Nat => s.heap.size ≤ q) s (tW ht ct (nI N) (nI j) V O Dd Aa Bb ++ mU hm cm (nI N) (nI j) O Dd Aa Bb u) H locs → W p l e room_1 s m #[Value.ref b] below meth c H locs 18 1566 (lw_Z below #[Value.ref b] s) (F0 m 258 ls []) := by
        intro N j V O Dd Aa Bb u hN hj hok hRel hV H locs M
        refine lv_iinc (v := nI (i + 5)) (lv' := [(3, .int (nI (i + 5))), (0, .ref b), (1, .ref (hm 0)), (2, .ref (ht 0))]) hx hb d_L_law_258 hl (k := 3) rfl (k_inc5 i) (by decide) rfl (fun ls hl => ?_)
        refine lv_goto (tgt := 18) hx hb d_L_law_261 (by decide) ?_
        exact ih (i + 5) (by omega) (by omega) N j V O Dd Aa Bb u hN hj hok hRel hV H locs ls M (lv_sub hl [1, 2, 3, 0] rfl)
      refine lv_aload_n hx hb d_L_law_26 rfl (lv_at hl 0 rfl) ?_
      refine lv_iload_n hx hb d_L_law_27 rfl (lv_at hl 3 rfl) ?_
      refine sc_ld SF hX hbl hbA M hL (i) rfl (by omega) d_L_law_28 ?_
      refine lv_bipush hx hb d_L_law_29 kb_7 ?_
      refine lv_iand hx hb d_L_law_31 ?_
      rw [ix7]
      have hr8 := r7_lt (xs i)
      generalize r7 (xs i) = r at hr8 ⊢
      have key : r = 0 ∨ r = 1 ∨ r = 2 ∨ r = 3 ∨ r = 4 ∨ r = 5 ∨ r = 6 ∨ r = 7 := by omega
      rcases key with rfl | rfl | rfl | rfl | rfl | rfl | rfl | rfl
      · refine lv_tableIn (tgt := 80) hx hb d_L_law_32 (by decide) (by decide) (off := 48) (by decide) (by decide) ?_
        refine lv_aload_n hx hb d_L_law_80 rfl (lv_at hl 1 rfl) ?_
        refine lv_aload_n hx hb d_L_law_81 rfl (lv_at hl 0 rfl) ?_
        refine lv_iload_n hx hb d_L_law_82 rfl (lv_at hl 3 rfl) ?_
        refine lv_iconst hx hb d_L_law_83 ki_1 ?_
        refine lv_iadd hx hb d_L_law_84 ?_
        refine sc_ld SF hX hbl hbA M hL (i + 1) (nI_add i 1) (by omega) d_L_law_85 ?_
        refine lv_aload_n hx hb d_L_law_86 rfl (lv_at hl 0 rfl) ?_
        refine lv_iload_n hx hb d_L_law_87 rfl (lv_at hl 3 rfl) ?_
        refine lv_iconst hx hb d_L_law_88 ki_2 ?_
        refine lv_iadd hx hb d_L_law_89 ?_
        refine sc_ld SF hX hbl hbA M hL (i + 2) (nI_add i 2) (by omega) d_L_law_90 ?_
        refine lv_aload_n hx hb d_L_law_91 rfl (lv_at hl 0 rfl) ?_
        refine lv_iload_n hx hb d_L_law_92 rfl (lv_at hl 3 rfl) ?_
        refine lv_iconst hx hb d_L_law_93 ki_3 ?_
        refine lv_iadd hx hb d_L_law_94 ?_
        refine sc_ld SF hX hbl hbA M hL (i + 3) (nI_add i 3) (by omega) d_L_law_95 ?_
        refine lv_aload_n hx hb d_L_law_96 rfl (lv_at hl 0 rfl) ?_
        refine lv_iload_n hx hb d_L_law_97 rfl (lv_at hl 3 rfl) ?_
        refine lv_iconst hx hb d_L_law_98 ki_4 ?_
        refine lv_iadd hx hb d_L_law_99 ?_
        refine sc_ld SF hX hbl hbA M hL (i + 4) (nI_add i 4) (by omega) d_L_law_100 ?_
        by_cases hem : emOK (xs (i + 1)) N
        · refine frI SF M (c_emit_ok l D hm cm (nI j) O Dd Aa Bb u N (xs (i + 1)) (xs (i + 2)) (xs (i + 3)) (xs (i + 4)) hem) g_L_13 hd_M_emit ⟨Nat.le_of_ble_eq_true rfl, Nat.le_of_ble_eq_true rfl⟩ (ci := 0) rfl rfl hl.1 rfl (Nat.le_of_ble_eq_true rfl) d_L_law_101 ⟨Nat.le_of_ble_eq_true rfl, Nat.le_of_ble_eq_true rfl⟩ (fun r1 u1 H locs hu1 M => ?_)
          refine lv_aload_n hx hb d_L_law_104 rfl (lv_at hl 2 rfl) ?_
          refine lv_aload_n hx hb d_L_law_105 rfl (lv_at hl 0 rfl) ?_
          refine lv_iload_n hx hb d_L_law_106 rfl (lv_at hl 3 rfl) ?_
          refine lv_iconst hx hb d_L_law_107 ki_1 ?_
          refine lv_iadd hx hb d_L_law_108 ?_
          refine sc_ld SF hX hbl hbA M hL (i + 1) (nI_add i 1) (by omega) d_L_law_109 ?_
          refine lv_aload_n hx hb d_L_law_110 rfl (lv_at hl 0 rfl) ?_
          refine lv_iload_n hx hb d_L_law_111 rfl (lv_at hl 3 rfl) ?_
          refine lv_iconst hx hb d_L_law_112 ki_2 ?_
          refine lv_iadd hx hb d_L_law_113 ?_
          refine sc_ld SF hX hbl hbA M hL (i + 2) (nI_add i 2) (by omega) d_L_law_114 ?_
          refine lv_aload_n hx hb d_L_law_115 rfl (lv_at hl 0 rfl) ?_
          refine lv_iload_n hx hb d_L_law_116 rfl (lv_at hl 3 rfl) ?_
          refine lv_iconst hx hb d_L_law_117 ki_3 ?_
          refine lv_iadd hx hb d_L_law_118 ?_
          refine sc_ld SF hX hbl hbA M hL (i + 3) (nI_add i 3) (by omega) d_L_law_119 ?_
          refine lv_aload_n hx hb d_L_law_120 rfl (lv_at hl 0 rfl) ?_
          refine lv_iload_n hx hb d_L_law_121 rfl (lv_at hl 3 rfl) ?_
          refine lv_iconst hx hb d_L_law_122 ki_4 ?_
          refine lv_iadd hx hb d_L_law_123 ?_
          refine sc_ld SF hX hbl hbA M hL (i + 4) (nI_add i 4) (by omega) d_L_law_124 ?_
          refine frI SF M.swap (c_T_emit_ok l D ht ct (nI j) V O Dd Aa Bb N (xs (i + 1)) (xs (i + 2)) (xs (i + 3)) (xs (i + 4)) hem) g_L_17 hd_T_emit ⟨Nat.le_of_ble_eq_true rfl, Nat.le_of_ble_eq_true rfl⟩ (ci := 1) rfl rfl hl.1 rfl (Nat.le_of_ble_eq_true rfl) d_L_law_125 ⟨Nat.le_of_ble_eq_true rfl, Nat.le_of_ble_eq_true rfl⟩ (fun r2 u2 H locs hu2 M => ?_)
          have M := M.swap
          refine lv_icmp_eq (tgt := 258) hx hb d_L_law_128 (by decide) (fun _ => ?_) (fun c9 => absurd (hu1.trans hu2.symm) c9)
          exact hnext (N + 1) j V _ _ _ _ u hem.2.2 hj (okP_push hok hem) hRel hV H locs M
        · refine frI SF M (c_emit_no l D hm cm (nI j) O Dd Aa Bb u N (xs (i + 1)) (xs (i + 2)) (xs (i + 3)) (xs (i + 4)) hN hem) g_L_13 hd_M_emit ⟨Nat.le_of_ble_eq_true rfl, Nat.le_of_ble_eq_true rfl⟩ (ci := 0) rfl rfl hl.1 rfl (Nat.le_of_ble_eq_true rfl) d_L_law_101 ⟨Nat.le_of_ble_eq_true rfl, Nat.le_of_ble_eq_true rfl⟩ (fun r1 u1 H locs hu1 M => ?_)
          refine lv_aload_n hx hb d_L_law_104 rfl (lv_at hl 2 rfl) ?_
          refine lv_aload_n hx hb d_L_law_105 rfl (lv_at hl 0 rfl) ?_
          refine lv_iload_n hx hb d_L_law_106 rfl (lv_at hl 3 rfl) ?_
          refine lv_iconst hx hb d_L_law_107 ki_1 ?_
          refine lv_iadd hx hb d_L_law_108 ?_
          refine sc_ld SF hX hbl hbA M hL (i + 1) (nI_add i 1) (by omega) d_L_law_109 ?_
          refine lv_aload_n hx hb d_L_law_110 rfl (lv_at hl 0 rfl) ?_
          refine lv_iload_n hx hb d_L_law_111 rfl (lv_at hl 3 rfl) ?_
          refine lv_iconst hx hb d_L_law_112 ki_2 ?_
          refine lv_iadd hx hb d_L_law_113 ?_
          refine sc_ld SF hX hbl hbA M hL (i + 2) (nI_add i 2) (by omega) d_L_law_114 ?_
          refine lv_aload_n hx hb d_L_law_115 rfl (lv_at hl 0 rfl) ?_
          refine lv_iload_n hx hb d_L_law_116 rfl (lv_at hl 3 rfl) ?_
          refine lv_iconst hx hb d_L_law_117 ki_3 ?_
          refine lv_iadd hx hb d_L_law_118 ?_
          refine sc_ld SF hX hbl hbA M hL (i + 3) (nI_add i 3) (by omega) d_L_law_119 ?_
          refine lv_aload_n hx hb d_L_law_120 rfl (lv_at hl 0 rfl) ?_
          refine lv_iload_n hx hb d_L_law_121 rfl (lv_at hl 3 rfl) ?_
          refine lv_iconst hx hb d_L_law_122 ki_4 ?_
          refine lv_iadd hx hb d_L_law_123 ?_
          refine sc_ld SF hX hbl hbA M hL (i + 4) (nI_add i 4) (by omega) d_L_law_124 ?_
          refine frI SF M.swap (c_T_emit_no l D ht ct (nI j) V O Dd Aa Bb N (xs (i + 1)) (xs (i + 2)) (xs (i + 3)) (xs (i + 4)) hN hem) g_L_17 hd_T_emit ⟨Nat.le_of_ble_eq_true rfl, Nat.le_of_ble_eq_true rfl⟩ (ci := 1) rfl rfl hl.1 rfl (Nat.le_of_ble_eq_true rfl) d_L_law_125 ⟨Nat.le_of_ble_eq_true rfl, Nat.le_of_ble_eq_true rfl⟩ (fun r2 u2 H locs hu2 M => ?_)
          have M := M.swap
          refine lv_icmp_eq (tgt := 258) hx hb d_L_law_128 (by decide) (fun _ => ?_) (fun c9 => absurd (hu1.trans hu2.symm) c9)
          exact hnext N j V O Dd Aa Bb u hN hj hok hRel hV H locs M
      · refine lv_tableIn (tgt := 133) hx hb d_L_law_32 (by decide) (by decide) (off := 101) (by decide) (by decide) ?_
        refine lv_aload_n hx hb d_L_law_133 rfl (lv_at hl 1 rfl) ?_
        refine frV SF M (c_clear l D hm cm (nI N) (nI j) O Dd Aa Bb u) g_L_18 hd_M_clear ⟨Nat.le_of_ble_eq_true rfl, Nat.le_of_ble_eq_true rfl⟩ (ci := 0) rfl rfl hl.1 rfl (Nat.le_of_ble_eq_true rfl) d_L_law_134 ⟨Nat.le_of_ble_eq_true rfl, Nat.le_of_ble_eq_true rfl⟩ (fun u1 H locs hu1 M => ?_)
        refine lv_aload_n hx hb d_L_law_137 rfl (lv_at hl 2 rfl) ?_
        refine frV SF M.swap (c_T_clear l D ht ct (nI N) (nI j) V O Dd Aa Bb) g_L_21 hd_T_clear ⟨Nat.le_of_ble_eq_true rfl, Nat.le_of_ble_eq_true rfl⟩ (ci := 1) rfl rfl hl.1 rfl (Nat.le_of_ble_eq_true rfl) d_L_law_138 ⟨Nat.le_of_ble_eq_true rfl, Nat.le_of_ble_eq_true rfl⟩ (fun u2 H locs hu2 M => ?_)
        have M := M.swap
        refine lv_goto (tgt := 258) hx hb d_L_law_141 (by decide) ?_
        exact hnext 0 0 V O Dd Aa Bb u (by decide) (by decide) (okP_0 O Dd) hRel hV H locs M
      · refine lv_tableIn (tgt := 144) hx hb d_L_law_32 (by decide) (by decide) (off := 112) (by decide) (by decide) ?_
        refine lv_aload_n hx hb d_L_law_144 rfl (lv_at hl 1 rfl) ?_
        refine lv_aload_n hx hb d_L_law_145 rfl (lv_at hl 0 rfl) ?_
        refine lv_iload_n hx hb d_L_law_146 rfl (lv_at hl 3 rfl) ?_
        refine lv_iconst hx hb d_L_law_147 ki_1 ?_
        refine lv_iadd hx hb d_L_law_148 ?_
        refine sc_ld SF hX hbl hbA M hL (i + 1) (nI_add i 1) (by omega) d_L_law_149 ?_
        refine lv_aload_n hx hb d_L_law_150 rfl (lv_at hl 0 rfl) ?_
        refine lv_iload_n hx hb d_L_law_151 rfl (lv_at hl 3 rfl) ?_
        refine lv_iconst hx hb d_L_law_152 ki_2 ?_
        refine lv_iadd hx hb d_L_law_153 ?_
        refine sc_ld SF hX hbl hbA M hL (i + 2) (nI_add i 2) (by omega) d_L_law_154 ?_
        refine frV SF M (c_set l D hm cm (nI N) (nI j) O Dd Aa Bb u (xs (i + 1)) (xs (i + 2)) V hRel) g_L_22 hd_M_set ⟨Nat.le_of_ble_eq_true rfl, Nat.le_of_ble_eq_true rfl⟩ (ci := 0) rfl rfl hl.1 rfl (Nat.le_of_ble_eq_true rfl) d_L_law_155 ⟨Nat.le_of_ble_eq_true rfl, Nat.le_of_ble_eq_true rfl⟩ (fun u1 H locs hu1 M => ?_)
        refine lv_aload_n hx hb d_L_law_158 rfl (lv_at hl 2 rfl) ?_
        refine lv_aload_n hx hb d_L_law_159 rfl (lv_at hl 0 rfl) ?_
        refine lv_iload_n hx hb d_L_law_160 rfl (lv_at hl 3 rfl) ?_
        refine lv_iconst hx hb d_L_law_161 ki_1 ?_
        refine lv_iadd hx hb d_L_law_162 ?_
        refine sc_ld SF hX hbl hbA M hL (i + 1) (nI_add i 1) (by omega) d_L_law_163 ?_
        refine lv_aload_n hx hb d_L_law_164 rfl (lv_at hl 0 rfl) ?_
        refine lv_iload_n hx hb d_L_law_165 rfl (lv_at hl 3 rfl) ?_
        refine lv_iconst hx hb d_L_law_166 ki_2 ?_
        refine lv_iadd hx hb d_L_law_167 ?_
        refine sc_ld SF hX hbl hbA M hL (i + 2) (nI_add i 2) (by omega) d_L_law_168 ?_
        refine frV SF M.swap (c_T_set l D ht ct (nI N) (nI j) V O Dd Aa Bb (xs (i + 1)) (xs (i + 2))) g_L_26 hd_T_set ⟨Nat.le_of_ble_eq_true rfl, Nat.le_of_ble_eq_true rfl⟩ (ci := 1) rfl rfl hl.1 rfl (Nat.le_of_ble_eq_true rfl) d_L_law_169 ⟨Nat.le_of_ble_eq_true rfl, Nat.le_of_ble_eq_true rfl⟩ (fun u2 H locs hu2 M => ?_)
        have M := M.swap
        refine lv_goto (tgt := 258) hx hb d_L_law_172 (by decide) ?_
        exact hnext N j _ O Dd Aa Bb u1 hN hj hok hu1 (rngV_upd hV _ _) H locs M
      · refine lv_tableIn (tgt := 175) hx hb d_L_law_32 (by decide) (by decide) (off := 143) (by decide) (by decide) ?_
        refine lv_aload_n hx hb d_L_law_175 rfl (lv_at hl 1 rfl) ?_
        refine lv_aload_n hx hb d_L_law_176 rfl (lv_at hl 0 rfl) ?_
        refine lv_iload_n hx hb d_L_law_177 rfl (lv_at hl 3 rfl) ?_
        refine lv_iconst hx hb d_L_law_178 ki_1 ?_
        refine lv_iadd hx hb d_L_law_179 ?_
        refine sc_ld SF hX hbl hbA M hL (i + 1) (nI_add i 1) (by omega) d_L_law_180 ?_
        refine frI SF M (c_get l D hm cm (nI N) (nI j) O Dd Aa Bb u (xs (i + 1)) V hRel hV) g_L_27 hd_M_get ⟨Nat.le_of_ble_eq_true rfl, Nat.le_of_ble_eq_true rfl⟩ (ci := 0) rfl rfl hl.1 rfl (Nat.le_of_ble_eq_true rfl) d_L_law_181 ⟨Nat.le_of_ble_eq_true rfl, Nat.le_of_ble_eq_true rfl⟩ (fun r1 u1 H locs hu1 M => ?_)
        refine lv_aload_n hx hb d_L_law_184 rfl (lv_at hl 2 rfl) ?_
        refine lv_aload_n hx hb d_L_law_185 rfl (lv_at hl 0 rfl) ?_
        refine lv_iload_n hx hb d_L_law_186 rfl (lv_at hl 3 rfl) ?_
        refine lv_iconst hx hb d_L_law_187 ki_1 ?_
        refine lv_iadd hx hb d_L_law_188 ?_
        refine sc_ld SF hX hbl hbA M hL (i + 1) (nI_add i 1) (by omega) d_L_law_189 ?_
        refine frI SF M.swap (c_T_get l D ht ct (nI N) (nI j) V O Dd Aa Bb (xs (i + 1))) g_L_31 hd_T_get ⟨Nat.le_of_ble_eq_true rfl, Nat.le_of_ble_eq_true rfl⟩ (ci := 1) rfl rfl hl.1 rfl (Nat.le_of_ble_eq_true rfl) d_L_law_190 ⟨Nat.le_of_ble_eq_true rfl, Nat.le_of_ble_eq_true rfl⟩ (fun r2 u2 H locs hu2 M => ?_)
        have M := M.swap
        refine lv_icmp_eq (tgt := 258) hx hb d_L_law_193 (by decide) (fun _ => ?_) (fun c9 => absurd (hu1.trans hu2.symm) c9)
        exact hnext N j V O Dd Aa Bb u hN hj hok hRel hV H locs M
      · refine lv_tableIn (tgt := 198) hx hb d_L_law_32 (by decide) (by decide) (off := 166) (by decide) (by decide) ?_
        refine lv_aload_n hx hb d_L_law_198 rfl (lv_at hl 1 rfl) ?_
        refine frV SF M (c_rewind l D hm cm (nI N) (nI j) O Dd Aa Bb u) g_L_32 hd_M_rewind ⟨Nat.le_of_ble_eq_true rfl, Nat.le_of_ble_eq_true rfl⟩ (ci := 0) rfl rfl hl.1 rfl (Nat.le_of_ble_eq_true rfl) d_L_law_199 ⟨Nat.le_of_ble_eq_true rfl, Nat.le_of_ble_eq_true rfl⟩ (fun u1 H locs hu1 M => ?_)
        refine lv_aload_n hx hb d_L_law_202 rfl (lv_at hl 2 rfl) ?_
        refine frV SF M.swap (c_T_rewind l D ht ct (nI N) (nI j) V O Dd Aa Bb) g_L_35 hd_T_rewind ⟨Nat.le_of_ble_eq_true rfl, Nat.le_of_ble_eq_true rfl⟩ (ci := 1) rfl rfl hl.1 rfl (Nat.le_of_ble_eq_true rfl) d_L_law_203 ⟨Nat.le_of_ble_eq_true rfl, Nat.le_of_ble_eq_true rfl⟩ (fun u2 H locs hu2 M => ?_)
        have M := M.swap
        refine lv_goto (tgt := 258) hx hb d_L_law_206 (by decide) ?_
        exact hnext N 0 V O Dd Aa Bb u hN (by decide) hok hRel hV H locs M
      · refine lv_tableIn (tgt := 209) hx hb d_L_law_32 (by decide) (by decide) (off := 177) (by decide) (by decide) ?_
        refine lv_aload_n hx hb d_L_law_209 rfl (lv_at hl 1 rfl) ?_
        refine lv_aload_n hx hb d_L_law_210 rfl (lv_at hl 0 rfl) ?_
        refine lv_iload_n hx hb d_L_law_211 rfl (lv_at hl 3 rfl) ?_
        refine lv_iconst hx hb d_L_law_212 ki_1 ?_
        refine lv_iadd hx hb d_L_law_213 ?_
        refine sc_ld SF hX hbl hbA M hL (i + 1) (nI_add i 1) (by omega) d_L_law_214 ?_
        refine frI SF M (c_run l D hm cm (xs (i + 1)) V O Dd Aa Bb u N j hN hj hok hRel hV) g_L_36 hd_M_run ⟨Nat.le_of_ble_eq_true rfl, Nat.le_of_ble_eq_true rfl⟩ (ci := 0) rfl rfl hl.1 rfl (Nat.le_of_ble_eq_true rfl) d_L_law_215 ⟨Nat.le_of_ble_eq_true rfl, Nat.le_of_ble_eq_true rfl⟩ (fun r1 u1 H locs hu1 M => ?_)
        refine lv_aload_n hx hb d_L_law_218 rfl (lv_at hl 2 rfl) ?_
        refine lv_aload_n hx hb d_L_law_219 rfl (lv_at hl 0 rfl) ?_
        refine lv_iload_n hx hb d_L_law_220 rfl (lv_at hl 3 rfl) ?_
        refine lv_iconst hx hb d_L_law_221 ki_1 ?_
        refine lv_iadd hx hb d_L_law_222 ?_
        refine sc_ld SF hX hbl hbA M hL (i + 1) (nI_add i 1) (by omega) d_L_law_223 ?_
        refine frI SF M.swap (c_T_run l D ht ct (xs (i + 1)) V O Dd Aa Bb N j hN hj hok hV) g_L_39 hd_T_run ⟨Nat.le_of_ble_eq_true rfl, Nat.le_of_ble_eq_true rfl⟩ (ci := 1) rfl rfl hl.1 rfl (Nat.le_of_ble_eq_true rfl) d_L_law_224 ⟨Nat.le_of_ble_eq_true rfl, Nat.le_of_ble_eq_true rfl⟩ (fun r2 u2 H locs hu2 M => ?_)
        have M := M.swap
        refine lv_icmp_eq (tgt := 258) hx hb d_L_law_227 (by decide) (fun _ => ?_) (fun c9 => absurd (hu1.1.trans hu2.symm) c9)
        exact hnext N _ _ O Dd Aa Bb u1 hN (rnF_bd hN hok _ (j, V) hj hV).1 hok hu1.2 (rnF_bd hN hok _ (j, V) hj hV).2 H locs M
      · refine lv_tableIn (tgt := 232) hx hb d_L_law_32 (by decide) (by decide) (off := 200) (by decide) (by decide) ?_
        refine lv_aload_n hx hb d_L_law_232 rfl (lv_at hl 1 rfl) ?_
        refine frI SF M (c_next l D hm cm (nI N) (nI j) O Dd Aa Bb u) g_L_40 hd_M_next ⟨Nat.le_of_ble_eq_true rfl, Nat.le_of_ble_eq_true rfl⟩ (ci := 0) rfl rfl hl.1 rfl (Nat.le_of_ble_eq_true rfl) d_L_law_233 ⟨Nat.le_of_ble_eq_true rfl, Nat.le_of_ble_eq_true rfl⟩ (fun r1 u1 H locs hu1 M => ?_)
        refine lv_aload_n hx hb d_L_law_236 rfl (lv_at hl 2 rfl) ?_
        refine frI SF M.swap (c_T_next l D ht ct (nI N) (nI j) V O Dd Aa Bb) g_L_44 hd_T_next ⟨Nat.le_of_ble_eq_true rfl, Nat.le_of_ble_eq_true rfl⟩ (ci := 1) rfl rfl hl.1 rfl (Nat.le_of_ble_eq_true rfl) d_L_law_237 ⟨Nat.le_of_ble_eq_true rfl, Nat.le_of_ble_eq_true rfl⟩ (fun r2 u2 H locs hu2 M => ?_)
        have M := M.swap
        refine lv_icmp_eq (tgt := 258) hx hb d_L_law_240 (by decide) (fun _ => ?_) (fun c9 => absurd (hu1.trans hu2.symm) c9)
        exact hnext N j V O Dd Aa Bb u hN hj hok hRel hV H locs M
      · refine lv_tableIn (tgt := 245) hx hb d_L_law_32 (by decide) (by decide) (off := 213) (by decide) (by decide) ?_
        refine lv_aload_n hx hb d_L_law_245 rfl (lv_at hl 1 rfl) ?_
        refine frI SF M (c_total l D hm cm (nI N) (nI j) O Dd Aa Bb u V hRel hV) g_L_45 hd_M_total ⟨Nat.le_of_ble_eq_true rfl, Nat.le_of_ble_eq_true rfl⟩ (ci := 0) rfl rfl hl.1 rfl (Nat.le_of_ble_eq_true rfl) d_L_law_246 ⟨Nat.le_of_ble_eq_true rfl, Nat.le_of_ble_eq_true rfl⟩ (fun r1 u1 H locs hu1 M => ?_)
        refine lv_aload_n hx hb d_L_law_249 rfl (lv_at hl 2 rfl) ?_
        refine frI SF M.swap (c_T_total l D ht ct (nI N) (nI j) V O Dd Aa Bb) g_L_48 hd_T_total ⟨Nat.le_of_ble_eq_true rfl, Nat.le_of_ble_eq_true rfl⟩ (ci := 1) rfl rfl hl.1 rfl (Nat.le_of_ble_eq_true rfl) d_L_law_250 ⟨Nat.le_of_ble_eq_true rfl, Nat.le_of_ble_eq_true rfl⟩ (fun r2 u2 H locs hu2 M => ?_)
        have M := M.swap
        refine lv_icmp_eq (tgt := 258) hx hb d_L_law_253 (by decide) (fun _ => ?_) (fun c9 => absurd (hu1.trans hu2.symm) c9)
        exact hnext N j V O Dd Aa Bb u hN hj hok hRel hV H locs M
set_option maxHeartbeats 4000000 in
set_option maxRecDepth 100000 in
/-- THE LAW, from its entry -/
theorem whole_start {p : Program} {e : Env} {s : State} {m : MethodId} {below : List Frame} {meth : Method} {c : Code} (l : Launch) {b L : Nat} {xs : Nat → Int32} (hL : L ≤ 2560) (C0 : lw_At p s m meth c b L xs) : W p l e room_1 s m #[Value.ref b] below meth c s.heap [] 0 0 (lw_Z below #[Value.ref b] s) (entryFrame m ([Value.ref b] : List Value).toArray 4) := by
  obtain ⟨hx, hb, hr, hml, hown, hts1, hX, hbl, hlocks, hgv⟩ := id C0
  have hts : ∀ w ∈ mt_tbl, w.before #[Value.ref b] s = true := fun w hw => hts1 w (mt_sub hw)
  have hA : ∀ q : Nat, s.heap.size ≤ q → (fun q : Nat => s.heap.size ≤ q) q := fun _ h => h
  obtain ⟨c0, iS0, hKn0⟩ := u_known (C := R_M) (T := F_M) (N := 15) (n := 15) hts fi_M (hts _ it_M)
  obtain ⟨c1, iS1, hKn1⟩ := u_known (C := R_T) (T := F_T) (N := 7) (n := 7) hts fi_T (hts _ it_T)
  obtain ⟨D, hKc⟩ : ∃ (D : va_G), ∀ (k : Nat) (q : vw_C), classes[k]? = some q → u_Kn s q.1 q.2.1 q.2.2 (D.1 k) (D.2 k) := by
    refine ⟨(fun k => if k = 0 then c0 else c1, fun k => if k = 0 then iS0 else iS1), ?_⟩
    intro k q hq
    match k, hq with
    | 0, hq => cases hq; exact hKn0
    | 1, hq => cases hq; exact hKn1
    | k + 2, hq => simp [classes] at hq
  have hS : va_S (fun q : Nat => s.heap.size ≤ q) s.heap s.heap [] := va_S.rf
  have hK : va_K D classes [] s := ⟨hKc, fun k q h => by simp at h⟩
  have hP : va_P D classes [] s.heap := fun k q h => by simp at h
  have hD : va_D (fun q : Nat => s.heap.size ≤ q) [] := ⟨fun i j p q h => by simp at h, fun k q h => by simp at h⟩
  have hl := lv_entry ([.ref b]) (n := 4) (Nat.le_of_ble_eq_true rfl)
  rw [lg_entry_eq]
  generalize (lg_sl ([.ref b]) ++ List.replicate (4 - (lg_sl ([.ref b])).length) Slot.unset).toArray = ls at hl ⊢
  have hl : lv_has ls 4 [(0, .ref b)] := hl
  refine va_new (ci := 0) (fs := [.int 0, .int 0, .null, .null, .null, .null, .null, .null, .int 0, .int 0, .null, .null, .null, .null, .null]) (C := R_M) (T := F_M) (N := 15) hx hb hts fi_M ft_M ft_M_ok hown (hts _ cl_M) (hts _ it_M) (hts _ in_M) hK hP hD hS hA rfl (fun j hj => by rcases (show j = 0 ∨ j = 1 ∨ j = 2 ∨ j = 3 ∨ j = 4 ∨ j = 5 ∨ j = 6 ∨ j = 7 ∨ j = 8 ∨ j = 9 ∨ j = 10 ∨ j = 11 ∨ j = 12 ∨ j = 13 ∨ j = 14 by omega) with rfl | rfl | rfl | rfl | rfl | rfl | rfl | rfl | rfl | rfl | rfl | rfl | rfl | rfl | rfl <;> rfl) (Nat.le_of_ble_eq_true rfl) (Nat.le_of_ble_eq_true rfl) d_L_law_0 (fun q0 H hP hD hS => ?_)
  have hP : va_P D classes ([] ++ [(q0, .inr (0, [.int 0, .int 0, .null, .null, .null, .null, .null, .null, .int 0, .int 0, .null, .null, .null, .null, .null]))]) H := hP
  have hD : va_D (fun q : Nat => s.heap.size ≤ q) ([] ++ [(q0, .inr (0, [.int 0, .int 0, .null, .null, .null, .null, .null, .null, .int 0, .int 0, .null, .null, .null, .null, .null]))]) := hD
  refine W.widen (k := 1) (n := 15) (by omega) (by omega) ?_
  refine lv_dup hx hb d_L_law_3 rfl ?_
  have hPc := P_r hP
  have hDc := D_r hD
  have hKc := hK
  have hFc : ∀ q, va_A [(q0, .inr (0, [.int 0, .int 0, .null, .null, .null, .null, .null, .null, .int 0, .int 0, .null, .null, .null, .null, .null]))] H.size q → (fun q : Nat => s.heap.size ≤ q) q := fun q h => by
    rcases h with ⟨k, e, h⟩ | h
    · exact hDc.2 k (q, e) h
    · exact hA q (Nat.le_trans hS.1 h)
  refine va_callv (va_runI (As := []) (rest := [.ref q0]) ⟨hx, hb, hml, hown, hts⟩ (c_M_init l D q0 H.size) (cwI 0 hts g_M_init rfl rfl rfl (hts _ in_M) (hts _ ml_L_9) (hts _ im_M_init) rfl (by decide +kernel) ⟨Nat.le_of_ble_eq_true rfl, Nat.le_of_ble_eq_true rfl⟩) ⟨CtP.blind, fun U hU hW => ⟨rfl, by rw [hU], by rw [hU]; exact hPc, va_K.moved hW.alike hKc, hDc.weaken (fun _ _ _ _ => trivial)⟩⟩ rfl rfl hl.1 rfl (lv_room (Nat.le_of_ble_eq_true rfl)) d_L_law_4 ⟨Nat.le_of_ble_eq_true rfl, Nat.le_of_ble_eq_true rfl⟩) hS (fun q _ h => hFc q h) hFc (fun u1 t H1 locs ht hvm hw hB hz1 hk1 hS => ?_)
  obtain ⟨hP1, hK1, hD1⟩ := hB
  rw [ht] at hP1
  have hK1 := va_K.moved hvm.symm hK1
  obtain ⟨hP, hD⟩ := fr_join hP hD hk1 hFc hP1 hD1
  have hP : va_P D classes (mW u1.1 u1.2 0 0 0 0 (fun _ => 0) (fun _ => 0) (fun _ => 0) (fun _ => 0) (fun _ => 0) (fun _ => 0) (fun _ => 0) (fun _ => 0) (fun _ => 0) (fun _ => 0) (fun _ => 0)) H1 := hP
  have hD : va_D (fun q : Nat => s.heap.size ≤ q) (mW u1.1 u1.2 0 0 0 0 (fun _ => 0) (fun _ => 0) (fun _ => 0) (fun _ => 0) (fun _ => 0) (fun _ => 0) (fun _ => 0) (fun _ => 0) (fun _ => 0) (fun _ => 0) (fun _ => 0)) := hD
  refine W.widen (k := 12) (n := 1423) (Nat.le_of_ble_eq_true rfl) (Nat.le_of_ble_eq_true rfl) ?_
  refine lv_astore_n (lv' := [(1, .ref q0), (0, .ref b)]) hx hb d_L_law_7 rfl hl (by decide) rfl (fun ls hl => ?_)
  refine va_new (ci := 1) (fs := [.null, .int 0, .null, .null, .null, .null, .int 0]) (C := R_T) (T := F_T) (N := 7) hx hb hts fi_T ft_T ft_T_ok hown (hts _ cl_T) (hts _ it_T) (hts _ in_T) hK1 hP hD hS hA rfl (fun j hj => by rcases (show j = 0 ∨ j = 1 ∨ j = 2 ∨ j = 3 ∨ j = 4 ∨ j = 5 ∨ j = 6 by omega) with rfl | rfl | rfl | rfl | rfl | rfl | rfl <;> rfl) (Nat.le_of_ble_eq_true rfl) (Nat.le_of_ble_eq_true rfl) d_L_law_8 (fun q1 H hP hD hS => ?_)
  refine W.widen (k := 13) (n := 1430) (Nat.le_of_ble_eq_true rfl) (Nat.le_of_ble_eq_true rfl) ?_
  refine lv_dup hx hb d_L_law_11 rfl ?_
  have hPc := P_r hP
  have hDc := D_r hD
  have hKc := hK
  have hFc : ∀ q, va_A [(q1, .inr (1, [.null, .int 0, .null, .null, .null, .null, .int 0]))] H.size q → (fun q : Nat => s.heap.size ≤ q) q := fun q h => by
    rcases h with ⟨k, e, h⟩ | h
    · exact hDc.2 k (q, e) h
    · exact hA q (Nat.le_trans hS.1 h)
  refine va_callv (va_runI (As := []) (rest := [.ref q1]) ⟨hx, hb, hml, hown, hts⟩ (c_T_init l D q1 H.size) (cwI 0 hts g_T_init rfl rfl rfl (hts _ in_T) (hts _ ml_L_12) (hts _ im_T_init) rfl (by decide +kernel) ⟨Nat.le_of_ble_eq_true rfl, Nat.le_of_ble_eq_true rfl⟩) ⟨CtP.blind, fun U hU hW => ⟨rfl, by rw [hU], by rw [hU]; exact hPc, va_K.moved hW.alike hKc, hDc.weaken (fun _ _ _ _ => trivial)⟩⟩ rfl rfl hl.1 rfl (lv_room (Nat.le_of_ble_eq_true rfl)) d_L_law_12 ⟨Nat.le_of_ble_eq_true rfl, Nat.le_of_ble_eq_true rfl⟩) hS (fun q _ h => hFc q h) hFc (fun u2 t H2 locs ht hvm hw2 hB hz1 hk1 hS => ?_)
  obtain ⟨hP2, hK2, hD2⟩ := hB
  rw [ht] at hP2
  have hK2 := va_K.moved hvm.symm hK2
  obtain ⟨hP, hD⟩ := fr_join hP hD hk1 hFc hP2 hD2
  rw [mU_0] at hP hD
  refine W.widen (k := 18) (n := 1566) (Nat.le_of_ble_eq_true rfl) (Nat.le_of_ble_eq_true rfl) ?_
  refine lv_astore_n (lv' := [(2, .ref q1), (1, .ref q0), (0, .ref b)]) hx hb d_L_law_15 rfl hl (by decide) rfl (fun ls hl => ?_)
  refine lv_iconst hx hb d_L_law_16 ki_0 ?_
  refine lv_istore_n (lv' := [(3, .int 0), (2, .ref q1), (1, .ref q0), (0, .ref b)]) hx hb d_L_law_17 rfl hl (by decide) rfl (fun ls hl => ?_)
  have hM : WW D (tysM u1.2 ++ tysT u2.2) (fun q : Nat => s.heap.size ≤ q) s _ H2 locs := ⟨hK1.app hK2, hP, hD, hS, hA⟩
  have M := hM.swap
  try dsimp only at hw hw2
  subst hw
  subst hw2
  exact law_loop hL C0 (L + 1) 0 (by omega) (by omega) 0 0 _ _ _ _ _ _ (by decide) (by decide) (okP_0 _ _) rel_0 rng_0 H2 locs ls M (lv_sub hl [3, 2, 1, 0] rfl)
end
section
set_option maxHeartbeats 4000000 in
theorem lw_walk (l : Launch) (b : Addr) (xs : List Int32) : MetFree l x (headSpec (Jvm.Cond.code x code maxLocals ret :: tables_1) room_1) (lw_P b xs) (fun _ _ _ _ _ => True) lw_Q := by
  refine MetFree.of_bodyS (code := code) (maxLocals := maxLocals) (ret := ret) (by decide) ?_ ?_
  · intro args s m h hn
    obtain ⟨meth, c, h1, h2, h3, h4, h5, h6, -, -⟩ := Cond.code_spec hn (atoms_spec (ws := Jvm.Cond.code x code maxLocals ret :: tables_1) h _ List.mem_cons_self)
    exact ⟨meth, c, h1, h2, h3, h4, h5, h6⟩
  · intro p e s m args below meth c s₁ B hml0 hP _
    obtain ⟨rfl, hx, hbd, hgv⟩ := hP
    obtain ⟨scr, harrAt, hlist, hof, hsmall⟩ := hx
    obtain ⟨hcb, hkn, -, -⟩ := State.arrayAt?_spec harrAt
    have hown : s.vm.findClass R_law = some m.cls := findClass_of_methodNamed B.named
    have hts0 : ∀ c ∈ (Jvm.Cond.code x code maxLocals ret :: tables_1), c.before #[Value.ref b] s = true := atoms_spec (ws := Jvm.Cond.code x code maxLocals ret :: tables_1) B.pre
    have hts : ∀ w ∈ lw_tbl, w.before #[Value.ref b] s = true := k2_hts_sels lw_privs (fun w hw => hts0 w (List.mem_cons_of_mem _ hw)) lw_privs_ok
    have hml : c.maxLocals = 4 := B.maxLocals_eq (hts0 _ List.mem_cons_self)
    have X₀ : Stand p l e room_1 s m #[Value.ref b] below meth c s₁ [] 0 0 := Stand.of_body B
    have hh0 : s₁.heap = s.heap := by rw [B.state]; rfl
    have hsz : scr.slots.size = xs.length := by rw [← Array.length_toList, hlist, List.length_map]
    have hval : ∀ j : Nat, j < xs.length → scr.slots[j]? = some (.int (xs.getD j 0)) := fun j hj => by
      rw [← Array.getElem?_toList, hlist]
      simp [hj]
    have hbl : b < s.heap.size := (Array.getElem?_eq_some_iff.mp hcb).1
    have hX : va_X b xs.length (fun j => xs.getD j 0) s s.heap := ⟨scr, hcb, hof, hkn, hsz, hval⟩
    have K : W p l e room_1 s m #[Value.ref b] below meth c s₁.heap [] 0 0 (lw_Z below #[Value.ref b] s) (entryFrame m ([Value.ref b] : List Value).toArray 4) := by
      rw [hh0]
      exact whole_start l hbd ⟨B.exec, B.bytes, B.returns, hml, hown, hts, hX, hbl, B.notSynchronized, hgv⟩
    obtain ⟨t, a1, o, b1, b2, b3⟩ := K s₁ rfl X₀
    exact ⟨t, o, a1, b1, b2, b3⟩
theorem lw_pre_spec {args : Array Value} {s : State} (h : (Jvm.Cond.and given_1 narrow_1).before args s = true) (hr : rest_1_c.before args s = true) : ∃ (b : Addr) (xs : List Int32), lw_P b xs args s := by
  have hs := flat_of_before _ h
  have hq := flat_of_before _ hr
  have hc : (Cond.count 1).before args s = true := hs _ (by decide +kernel)
  have harr : (Cond.arrayOf (.arg 0) .int).before args s = true := hs _ (by decide +kernel)
  have hle : (Cond.le (.length (.arg 0)) (.int 2560)).before args s = true := hs _ (by decide +kernel)
  have hlen : (Cond.isInt (.length (.arg 0))).before args s = true := hq _ (by decide +kernel)
  have hall : (Cond.all (.arg 0) (.isInt (.elem (.arg 0) (.index 0)))).before args s = true := hq _ (by decide +kernel)
  obtain ⟨b, xs, hb, hx⟩ := State.ints_of_pre rfl harr hlen hall
  have hsm : xs.length < 2 ^ 31 := hx.choose_spec.2.2.2
  have hev : (Term.length (.arg 0)).eval args s none [] s = some (.int xs.length.toInt32) := hx.length_eval hb
  have hv := Cond.le_ints hev (show (Term.int 2560).eval args s none [] s = some (.int 2560) from rfl)
  have hd : xs.length.toInt32 ≤ 2560 := by
    simpa [Cond.before, Cond.holds, hv] using hle
  have hN : xs.length ≤ 2560 := (Int32.ofNat_le_ofNat hsm (by decide)).mp (show Int32.ofNat xs.length ≤ Int32.ofNat 2560 from hd)
  exact ⟨b, xs, Cond.one_arg hc (show args[0]? = some (.ref b) from hb), hx, hN, h⟩
theorem lw_comes (l : Launch) : Comes l x (Jvm.Cond.code x code maxLocals ret :: tables_1) room_1 (fun tb e args s => Calls_1 tb e args s ∧ rest_1 tb e args s ∧ Pre_1 tb e args s)
    (fun _ _ args s o t => lw_Q args s o t) := by
  intro p e ha hc hk s m args below hf hfit hheap happ hpre
  obtain ⟨b, xs, hP⟩ := lw_pre_spec hpre.2.2 hpre.2.1
  obtain ⟨k, o, h1, h2, h3, hQ⟩ := lw_walk l b xs p e ha hc hk s m args below hf ((Spec.applies_iff_loose hf).mp happ).1 hP trivial
  exact ⟨k, o, h1, h2, h3, hQ⟩
theorem lw_frame {s t : State} {o : Outcome} {args : Array Value} (h : Framed s o t [] 18 1566) :
    Framed s o t (fieldLocs frame_1_writes args s ++ arrayLocs frame_1_arrays args s ++ staticLocs frame_1_statics s) 18 1566 := h
theorem lw_limb (L : Cond) (hL : ∀ (args : Array Value) (s t : State), L.after args s (.returned (some (.int 1))) t = true) :
    ArmFor flags0 classFile x code maxLocals ret World_1 tables_1 room_1 Calls_1 rest_1 Pre_1
      (fun tb e a s o t => postC L tb e a s o t ∧ Framed s o t (fieldLocs frame_1_writes a s ++ arrayLocs frame_1_arrays a s ++ staticLocs frame_1_statics s) 18 1566) := by
  intro l _ _ _ p e ha hc hk s m args below hf hfit hheap happ hpre
  obtain ⟨k, o, h1, h2, h3, rfl, hF⟩ := lw_comes l p e ha hc hk s m args below hf hfit hheap happ hpre
  exact ⟨k, _, h1, h2, h3, hL args s _, lw_frame hF⟩
theorem i_vc : Claimed_1_1 ∧ Claimed_1_2 := ⟨lw_limb limb_1_1 (fun args s t => by simp [limb_1_1, Cond.after, Cond.holds, Cond.value]), lw_limb limb_1_2 (fun args s t => Cond.after_iff.mpr (by
  first | (rw [show limb_1_2 = Cond.eq .result (.int 1) from rfl, Cond.eq_ints (x := 1) (y := 1) rfl rfl]; simp; done) | (simp [limb_1_2, Cond.value, Term.eval]; done)))⟩
end
