section
-- ===== PART A: goes FIRST, ahead of the names: the tables' words, and 'selects' of the private methods out of them =====
/-- a private method of a class that the tables say can be made, by its rows of tables_1 -/
def lw_okq (q : MethodName × Nat) : Prop := (q.1.cls ≠ "java/lang/invoke/MethodHandle" ∧ q.1.cls ≠ "java/lang/invoke/VarHandle") ∧ Cond.instantiable q.1.cls q.2 ∈ tables_1 ∧ Cond.privateMethod q.1 ∈ tables_1 ∧ Cond.instanceMethod q.1 ∈ tables_1
theorem lw_p0 : lw_okq (⟨"PowerDesk", "reduce", "([I)V"⟩, 17) := ⟨⟨by decide +kernel, by decide +kernel⟩, List.mem_of_getElem? (i := 6) (by decide +kernel), List.mem_of_getElem? (i := 76) (by decide +kernel), List.mem_of_getElem? (i := 77) (by decide +kernel)⟩
theorem lw_p1 : lw_okq (⟨"PowerDesk", "split", "()V"⟩, 17) := ⟨⟨by decide +kernel, by decide +kernel⟩, List.mem_of_getElem? (i := 6) (by decide +kernel), List.mem_of_getElem? (i := 133) (by decide +kernel), List.mem_of_getElem? (i := 134) (by decide +kernel)⟩
theorem lw_p2 : lw_okq (⟨"PowerDesk", "powerOfTwos", "([I)V"⟩, 17) := ⟨⟨by decide +kernel, by decide +kernel⟩, List.mem_of_getElem? (i := 6) (by decide +kernel), List.mem_of_getElem? (i := 137) (by decide +kernel), List.mem_of_getElem? (i := 138) (by decide +kernel)⟩
theorem lw_p3 : lw_okq (⟨"PowerDesk", "cut", "([I)V"⟩, 17) := ⟨⟨by decide +kernel, by decide +kernel⟩, List.mem_of_getElem? (i := 6) (by decide +kernel), List.mem_of_getElem? (i := 141) (by decide +kernel), List.mem_of_getElem? (i := 142) (by decide +kernel)⟩
theorem lw_p4 : lw_okq (⟨"PowerDesk", "bits", "()I"⟩, 17) := ⟨⟨by decide +kernel, by decide +kernel⟩, List.mem_of_getElem? (i := 6) (by decide +kernel), List.mem_of_getElem? (i := 148) (by decide +kernel), List.mem_of_getElem? (i := 149) (by decide +kernel)⟩
theorem lw_p5 : lw_okq (⟨"PowerDesk", "bit", "(I)Z"⟩, 17) := ⟨⟨by decide +kernel, by decide +kernel⟩, List.mem_of_getElem? (i := 6) (by decide +kernel), List.mem_of_getElem? (i := 152) (by decide +kernel), List.mem_of_getElem? (i := 153) (by decide +kernel)⟩
theorem lw_p6 : lw_okq (⟨"PowerDesk", "powerOfOdd", "()V"⟩, 17) := ⟨⟨by decide +kernel, by decide +kernel⟩, List.mem_of_getElem? (i := 6) (by decide +kernel), List.mem_of_getElem? (i := 156) (by decide +kernel), List.mem_of_getElem? (i := 157) (by decide +kernel)⟩
theorem lw_p7 : lw_okq (⟨"PowerDesk", "twiceOdd", "([I)V"⟩, 17) := ⟨⟨by decide +kernel, by decide +kernel⟩, List.mem_of_getElem? (i := 6) (by decide +kernel), List.mem_of_getElem? (i := 160) (by decide +kernel), List.mem_of_getElem? (i := 161) (by decide +kernel)⟩
theorem lw_p8 : lw_okq (⟨"PowerDesk", "subtractOdd", "([I)V"⟩, 17) := ⟨⟨by decide +kernel, by decide +kernel⟩, List.mem_of_getElem? (i := 6) (by decide +kernel), List.mem_of_getElem? (i := 164) (by decide +kernel), List.mem_of_getElem? (i := 165) (by decide +kernel)⟩
theorem lw_p9 : lw_okq (⟨"PowerDesk", "together", "([I[I[I)V"⟩, 17) := ⟨⟨by decide +kernel, by decide +kernel⟩, List.mem_of_getElem? (i := 6) (by decide +kernel), List.mem_of_getElem? (i := 168) (by decide +kernel), List.mem_of_getElem? (i := 169) (by decide +kernel)⟩
theorem lw_p10 : lw_okq (⟨"PowerDesk", "join", "()V"⟩, 17) := ⟨⟨by decide +kernel, by decide +kernel⟩, List.mem_of_getElem? (i := 6) (by decide +kernel), List.mem_of_getElem? (i := 172) (by decide +kernel), List.mem_of_getElem? (i := 173) (by decide +kernel)⟩
theorem lw_p11 : lw_okq (⟨"PowerDeskModel", "fold", "([I)V"⟩, 6) := ⟨⟨by decide +kernel, by decide +kernel⟩, List.mem_of_getElem? (i := 176) (by decide +kernel), List.mem_of_getElem? (i := 209) (by decide +kernel), List.mem_of_getElem? (i := 210) (by decide +kernel)⟩
theorem lw_p12 : lw_okq (⟨"PowerDeskModel", "less", "([I)Z"⟩, 6) := ⟨⟨by decide +kernel, by decide +kernel⟩, List.mem_of_getElem? (i := 176) (by decide +kernel), List.mem_of_getElem? (i := 213) (by decide +kernel), List.mem_of_getElem? (i := 214) (by decide +kernel)⟩
theorem lw_p13 : lw_okq (⟨"PowerDeskModel", "minus", "([I)V"⟩, 6) := ⟨⟨by decide +kernel, by decide +kernel⟩, List.mem_of_getElem? (i := 176) (by decide +kernel), List.mem_of_getElem? (i := 217) (by decide +kernel), List.mem_of_getElem? (i := 218) (by decide +kernel)⟩
theorem lw_p14 : lw_okq (⟨"PowerDeskModel", "times", "([I[I)V"⟩, 6) := ⟨⟨by decide +kernel, by decide +kernel⟩, List.mem_of_getElem? (i := 176) (by decide +kernel), List.mem_of_getElem? (i := 233) (by decide +kernel), List.mem_of_getElem? (i := 234) (by decide +kernel)⟩
def lw_privs_1 : List (MethodName × Nat) := [(⟨"PowerDesk", "reduce", "([I)V"⟩, 17), (⟨"PowerDesk", "split", "()V"⟩, 17), (⟨"PowerDesk", "powerOfTwos", "([I)V"⟩, 17), (⟨"PowerDesk", "cut", "([I)V"⟩, 17), (⟨"PowerDesk", "bits", "()I"⟩, 17), (⟨"PowerDesk", "bit", "(I)Z"⟩, 17), (⟨"PowerDesk", "powerOfOdd", "()V"⟩, 17), (⟨"PowerDesk", "twiceOdd", "([I)V"⟩, 17), (⟨"PowerDesk", "subtractOdd", "([I)V"⟩, 17), (⟨"PowerDesk", "together", "([I[I[I)V"⟩, 17), (⟨"PowerDesk", "join", "()V"⟩, 17), (⟨"PowerDeskModel", "fold", "([I)V"⟩, 6), (⟨"PowerDeskModel", "less", "([I)Z"⟩, 6), (⟨"PowerDeskModel", "minus", "([I)V"⟩, 6), (⟨"PowerDeskModel", "times", "([I[I)V"⟩, 6)]
theorem lw_r1 : ∀ q ∈ lw_privs_1, lw_okq q := List.forall_mem_cons.mpr ⟨lw_p0, List.forall_mem_cons.mpr ⟨lw_p1, List.forall_mem_cons.mpr ⟨lw_p2, List.forall_mem_cons.mpr ⟨lw_p3, List.forall_mem_cons.mpr ⟨lw_p4, List.forall_mem_cons.mpr ⟨lw_p5, List.forall_mem_cons.mpr ⟨lw_p6, List.forall_mem_cons.mpr ⟨lw_p7, List.forall_mem_cons.mpr ⟨lw_p8, List.forall_mem_cons.mpr ⟨lw_p9, List.forall_mem_cons.mpr ⟨lw_p10, List.forall_mem_cons.mpr ⟨lw_p11, List.forall_mem_cons.mpr ⟨lw_p12, List.forall_mem_cons.mpr ⟨lw_p13, List.forall_mem_cons.mpr ⟨lw_p14, fun _ h => absurd h List.not_mem_nil⟩⟩⟩⟩⟩⟩⟩⟩⟩⟩⟩⟩⟩⟩⟩
def lw_privs : List (MethodName × Nat) := lw_privs_1
def lw_tbl : List Cond := k2_sels lw_privs ++ tables_1
theorem lw_privs_ok : ∀ q ∈ lw_privs, lw_okq q := lw_r1
end
section
/-- the words that a call hands on -/
def gtb : List Cond := lw_tbl.filter goodWord
theorem gt_of {c : Cond} {i : Nat} (h : lw_tbl[i]? = some c) (hg : goodWord c = true) : c ∈ gtb := List.mem_filter.mpr ⟨List.mem_of_getElem? h, hg⟩
theorem gt_in {w : Cond} (h : w ∈ gtb) : w ∈ lw_tbl := (List.mem_filter.mp h).1
def y_D_init : MethodName := ⟨"PowerDesk", "<init>", "()V"⟩
def y_D_modulus : MethodName := ⟨"PowerDesk", "modulus", "(IIIII)V"⟩
def y_D_put : MethodName := ⟨"PowerDesk", "put", "([IIIIII)V"⟩
def y_D_reduce : MethodName := ⟨"PowerDesk", "reduce", "([I)V"⟩
def y_D_compare : MethodName := ⟨"PowerDesk", "compare", "([I[I)I"⟩
def y_D_leave : MethodName := ⟨"PowerDesk", "leave", "([II[I[I)V"⟩
def y_A_fill4 : MethodName := ⟨"java/util/Arrays", "fill", "([IIII)V"⟩
def y_A_rangeCheck : MethodName := ⟨"java/util/Arrays", "rangeCheck", "(III)V"⟩
def y_D_twice : MethodName := ⟨"PowerDesk", "twice", "([II)I"⟩
def y_D_subtract : MethodName := ⟨"PowerDesk", "subtract", "([I[I)V"⟩
def y_D_base : MethodName := ⟨"PowerDesk", "base", "(IIIII)V"⟩
def y_D_power : MethodName := ⟨"PowerDesk", "power", "(IIIII)V"⟩
def y_D_multiply : MethodName := ⟨"PowerDesk", "multiply", "()V"⟩
def y_D_times : MethodName := ⟨"PowerDesk", "times", "([I[II[I)V"⟩
def y_D_keep : MethodName := ⟨"PowerDesk", "keep", "()V"⟩
def y_D_answer : MethodName := ⟨"PowerDesk", "answer", "(I)I"⟩
def y_D_factor : MethodName := ⟨"PowerDesk", "factor", "(I)I"⟩
def y_D_raise : MethodName := ⟨"PowerDesk", "raise", "()V"⟩
def y_D_split : MethodName := ⟨"PowerDesk", "split", "()V"⟩
def y_D_powerOfTwos : MethodName := ⟨"PowerDesk", "powerOfTwos", "([I)V"⟩
def y_D_cut : MethodName := ⟨"PowerDesk", "cut", "([I)V"⟩
def y_A_fill2 : MethodName := ⟨"java/util/Arrays", "fill", "([II)V"⟩
def y_D_bits : MethodName := ⟨"PowerDesk", "bits", "()I"⟩
def y_D_bit : MethodName := ⟨"PowerDesk", "bit", "(I)Z"⟩
def y_D_powerOfOdd : MethodName := ⟨"PowerDesk", "powerOfOdd", "()V"⟩
def y_D_twiceOdd : MethodName := ⟨"PowerDesk", "twiceOdd", "([I)V"⟩
def y_D_subtractOdd : MethodName := ⟨"PowerDesk", "subtractOdd", "([I)V"⟩
def y_D_together : MethodName := ⟨"PowerDesk", "together", "([I[I[I)V"⟩
def y_D_join : MethodName := ⟨"PowerDesk", "join", "()V"⟩
def y_M_init : MethodName := ⟨"PowerDeskModel", "<init>", "()V"⟩
def y_M_modulus : MethodName := ⟨"PowerDeskModel", "modulus", "(IIIII)V"⟩
def y_M_lay : MethodName := ⟨"PowerDeskModel", "lay", "([IIIIII)V"⟩
def y_M_fold : MethodName := ⟨"PowerDeskModel", "fold", "([I)V"⟩
def y_M_less : MethodName := ⟨"PowerDeskModel", "less", "([I)Z"⟩
def y_M_minus : MethodName := ⟨"PowerDeskModel", "minus", "([I)V"⟩
def y_M_base : MethodName := ⟨"PowerDeskModel", "base", "(IIIII)V"⟩
def y_M_power : MethodName := ⟨"PowerDeskModel", "power", "(IIIII)V"⟩
def y_M_raise : MethodName := ⟨"PowerDeskModel", "raise", "()V"⟩
def y_M_times : MethodName := ⟨"PowerDeskModel", "times", "([I[I)V"⟩
def y_M_multiply : MethodName := ⟨"PowerDeskModel", "multiply", "()V"⟩
def y_M_keep : MethodName := ⟨"PowerDeskModel", "keep", "()V"⟩
def y_M_answer : MethodName := ⟨"PowerDeskModel", "answer", "(I)I"⟩
def y_M_factor : MethodName := ⟨"PowerDeskModel", "factor", "(I)I"⟩
abbrev b_D_init : ByteArray := prog_1_method_1_code
abbrev b_D_modulus : ByteArray := prog_1_method_9_code
abbrev b_D_put : ByteArray := prog_1_method_3_code
abbrev b_D_reduce : ByteArray := prog_1_method_7_code
abbrev b_D_compare : ByteArray := prog_1_method_2_code
abbrev b_D_leave : ByteArray := prog_1_method_6_code
abbrev b_A_fill4 : ByteArray := prog_5_method_104_code
abbrev b_A_rangeCheck : ByteArray := prog_5_method_30_code
abbrev b_D_twice : ByteArray := prog_1_method_4_code
abbrev b_D_subtract : ByteArray := prog_1_method_5_code
abbrev b_D_base : ByteArray := prog_1_method_10_code
abbrev b_D_power : ByteArray := prog_1_method_11_code
abbrev b_D_multiply : ByteArray := prog_1_method_12_code
abbrev b_D_times : ByteArray := prog_1_method_8_code
abbrev b_D_keep : ByteArray := prog_1_method_13_code
abbrev b_D_answer : ByteArray := prog_1_method_14_code
abbrev b_D_factor : ByteArray := prog_1_method_15_code
abbrev b_D_raise : ByteArray := prog_1_method_18_code
abbrev b_D_split : ByteArray := prog_1_method_19_code
abbrev b_D_powerOfTwos : ByteArray := prog_1_method_25_code
abbrev b_D_cut : ByteArray := prog_1_method_24_code
abbrev b_A_fill2 : ByteArray := prog_5_method_103_code
abbrev b_D_bits : ByteArray := prog_1_method_17_code
abbrev b_D_bit : ByteArray := prog_1_method_16_code
abbrev b_D_powerOfOdd : ByteArray := prog_1_method_23_code
abbrev b_D_twiceOdd : ByteArray := prog_1_method_22_code
abbrev b_D_subtractOdd : ByteArray := prog_1_method_21_code
abbrev b_D_together : ByteArray := prog_1_method_20_code
abbrev b_D_join : ByteArray := prog_1_method_26_code
abbrev b_M_init : ByteArray := prog_3_method_1_code
abbrev b_M_modulus : ByteArray := prog_3_method_3_code
abbrev b_M_lay : ByteArray := prog_3_method_2_code
abbrev b_M_fold : ByteArray := prog_3_method_8_code
abbrev b_M_less : ByteArray := prog_3_method_6_code
abbrev b_M_minus : ByteArray := prog_3_method_7_code
abbrev b_M_base : ByteArray := prog_3_method_4_code
abbrev b_M_power : ByteArray := prog_3_method_5_code
abbrev b_M_raise : ByteArray := prog_3_method_10_code
abbrev b_M_times : ByteArray := prog_3_method_9_code
abbrev b_M_multiply : ByteArray := prog_3_method_11_code
abbrev b_M_keep : ByteArray := prog_3_method_12_code
abbrev b_M_answer : ByteArray := prog_3_method_13_code
abbrev b_M_factor : ByteArray := prog_3_method_14_code
theorem se_D_reduce : Cond.selects "PowerDesk" y_D_reduce y_D_reduce ∈ gtb := gt_of (i := 0) rfl rfl
theorem se_D_split : Cond.selects "PowerDesk" y_D_split y_D_split ∈ gtb := gt_of (i := 1) rfl rfl
theorem se_D_powerOfTwos : Cond.selects "PowerDesk" y_D_powerOfTwos y_D_powerOfTwos ∈ gtb := gt_of (i := 2) rfl rfl
theorem se_D_cut : Cond.selects "PowerDesk" y_D_cut y_D_cut ∈ gtb := gt_of (i := 3) rfl rfl
theorem se_D_bits : Cond.selects "PowerDesk" y_D_bits y_D_bits ∈ gtb := gt_of (i := 4) rfl rfl
theorem se_D_bit : Cond.selects "PowerDesk" y_D_bit y_D_bit ∈ gtb := gt_of (i := 5) rfl rfl
theorem se_D_powerOfOdd : Cond.selects "PowerDesk" y_D_powerOfOdd y_D_powerOfOdd ∈ gtb := gt_of (i := 6) rfl rfl
theorem se_D_twiceOdd : Cond.selects "PowerDesk" y_D_twiceOdd y_D_twiceOdd ∈ gtb := gt_of (i := 7) rfl rfl
theorem se_D_subtractOdd : Cond.selects "PowerDesk" y_D_subtractOdd y_D_subtractOdd ∈ gtb := gt_of (i := 8) rfl rfl
theorem se_D_together : Cond.selects "PowerDesk" y_D_together y_D_together ∈ gtb := gt_of (i := 9) rfl rfl
theorem se_D_join : Cond.selects "PowerDesk" y_D_join y_D_join ∈ gtb := gt_of (i := 10) rfl rfl
theorem se_M_fold : Cond.selects "PowerDeskModel" y_M_fold y_M_fold ∈ gtb := gt_of (i := 11) rfl rfl
theorem se_M_less : Cond.selects "PowerDeskModel" y_M_less y_M_less ∈ gtb := gt_of (i := 12) rfl rfl
theorem se_M_minus : Cond.selects "PowerDeskModel" y_M_minus y_M_minus ∈ gtb := gt_of (i := 13) rfl rfl
theorem se_M_times : Cond.selects "PowerDeskModel" y_M_times y_M_times ∈ gtb := gt_of (i := 14) rfl rfl
theorem ini_L : Cond.initialized "PowerDeskLaw" ∈ gtb := gt_of (i := 15) rfl rfl
theorem ini_D : Cond.initialized "PowerDesk" ∈ gtb := gt_of (i := 16) rfl rfl
theorem ini_M : Cond.initialized "PowerDeskModel" ∈ gtb := gt_of (i := 17) rfl rfl
theorem ini_A : Cond.initialized "java/util/Arrays" ∈ gtb := gt_of (i := 18) rfl rfl
theorem ini_S : Cond.initialized "java/lang/System" ∈ gtb := gt_of (i := 19) rfl rfl
theorem cl_L_7 : Cond.classLink "PowerDeskLaw" 7 "PowerDesk" ∈ gtb := gt_of (i := 20) rfl rfl
theorem in_D : Cond.instantiable "PowerDesk" 17 ∈ gtb := gt_of (i := 21) rfl rfl
theorem ml_L_9 : Cond.methodLink "PowerDeskLaw" 9 y_D_init ∈ gtb := gt_of (i := 22) rfl rfl
theorem im_D_init : Cond.instanceMethod y_D_init ∈ gtb := gt_of (i := 23) rfl rfl
theorem mc_D_init : Cond.code y_D_init b_D_init 1 none ∈ gtb := gt_of (i := 24) rfl rfl
theorem ml_D_3 : Cond.methodLink "PowerDesk" 3 objectInit ∈ gtb := gt_of (i := 25) rfl rfl
theorem im_O_init : Cond.instanceMethod objectInit ∈ gtb := gt_of (i := 26) rfl rfl
theorem mc_O_init : Cond.code objectInit object_method_1_code 1 none ∈ gtb := gt_of (i := 27) rfl rfl
theorem cl_D_46 : Cond.classLink "PowerDesk" 46 "[[I" ∈ gtb := gt_of (i := 28) rfl rfl
theorem ao_int : Cond.arrayOver (.array .int) ∈ lw_tbl := List.mem_of_getElem? (i := 29) rfl
theorem fl_D_9 : Cond.fieldLink "PowerDesk" 9 "PowerDesk" "modulus" "[I" ∈ gtb := gt_of (i := 30) rfl rfl
theorem fl_D_13 : Cond.fieldLink "PowerDesk" 13 "PowerDesk" "base" "[I" ∈ gtb := gt_of (i := 31) rfl rfl
theorem fl_D_16 : Cond.fieldLink "PowerDesk" 16 "PowerDesk" "power" "[I" ∈ gtb := gt_of (i := 32) rfl rfl
theorem fl_D_19 : Cond.fieldLink "PowerDesk" 19 "PowerDesk" "answer" "[I" ∈ gtb := gt_of (i := 33) rfl rfl
theorem fl_D_22 : Cond.fieldLink "PowerDesk" 22 "PowerDesk" "odd" "[I" ∈ gtb := gt_of (i := 34) rfl rfl
theorem fl_D_103 : Cond.fieldLink "PowerDesk" 103 "PowerDesk" "many" "I" ∈ gtb := gt_of (i := 35) rfl rfl
theorem fl_D_119 : Cond.fieldLink "PowerDesk" 119 "PowerDesk" "inverse" "I" ∈ gtb := gt_of (i := 36) rfl rfl
theorem fl_D_113 : Cond.fieldLink "PowerDesk" 113 "PowerDesk" "twos" "I" ∈ gtb := gt_of (i := 37) rfl rfl
theorem fl_D_25 : Cond.fieldLink "PowerDesk" 25 "PowerDesk" "product" "[I" ∈ gtb := gt_of (i := 38) rfl rfl
theorem fl_D_28 : Cond.fieldLink "PowerDesk" 28 "PowerDesk" "left" "[I" ∈ gtb := gt_of (i := 39) rfl rfl
theorem fl_D_31 : Cond.fieldLink "PowerDesk" 31 "PowerDesk" "one" "[I" ∈ gtb := gt_of (i := 40) rfl rfl
theorem fl_D_34 : Cond.fieldLink "PowerDesk" 34 "PowerDesk" "square" "[I" ∈ gtb := gt_of (i := 41) rfl rfl
theorem fl_D_37 : Cond.fieldLink "PowerDesk" 37 "PowerDesk" "low" "[I" ∈ gtb := gt_of (i := 42) rfl rfl
theorem fl_D_40 : Cond.fieldLink "PowerDesk" 40 "PowerDesk" "high" "[I" ∈ gtb := gt_of (i := 43) rfl rfl
theorem fl_D_43 : Cond.fieldLink "PowerDesk" 43 "PowerDesk" "plain" "[I" ∈ gtb := gt_of (i := 44) rfl rfl
theorem fl_D_48 : Cond.fieldLink "PowerDesk" 48 "PowerDesk" "window" "[[I" ∈ gtb := gt_of (i := 45) rfl rfl
theorem fl_D_51 : Cond.fieldLink "PowerDesk" 51 "PowerDesk" "sum" "[I" ∈ gtb := gt_of (i := 46) rfl rfl
theorem ac_int : Cond.arrayClass .int ∈ gtb := gt_of (i := 82) rfl rfl
theorem ml_L_13 : Cond.methodLink "PowerDeskLaw" 13 y_D_modulus ∈ gtb := gt_of (i := 83) rfl rfl
theorem im_D_modulus : Cond.instanceMethod y_D_modulus ∈ gtb := gt_of (i := 84) rfl rfl
theorem se_D_modulus : Cond.selects "PowerDesk" y_D_modulus y_D_modulus ∈ gtb := gt_of (i := 85) rfl rfl
theorem mc_D_modulus : Cond.code y_D_modulus b_D_modulus 8 none ∈ gtb := gt_of (i := 86) rfl rfl
theorem ml_D_84 : Cond.methodLink "PowerDesk" 84 y_D_put ∈ gtb := gt_of (i := 87) rfl rfl
theorem st_D_put : Cond.static y_D_put ∈ gtb := gt_of (i := 88) rfl rfl
theorem mc_D_put : Cond.code y_D_put b_D_put 7 none ∈ gtb := gt_of (i := 89) rfl rfl
theorem ml_D_88 : Cond.methodLink "PowerDesk" 88 y_D_reduce ∈ gtb := gt_of (i := 90) rfl rfl
theorem im_D_reduce : Cond.instanceMethod y_D_reduce ∈ gtb := gt_of (i := 92) rfl rfl
theorem mc_D_reduce : Cond.code y_D_reduce b_D_reduce 2 none ∈ gtb := gt_of (i := 93) rfl rfl
theorem ml_D_66 : Cond.methodLink "PowerDesk" 66 y_D_compare ∈ gtb := gt_of (i := 94) rfl rfl
theorem st_D_compare : Cond.static y_D_compare ∈ gtb := gt_of (i := 95) rfl rfl
theorem mc_D_compare : Cond.code y_D_compare b_D_compare 3 (some .int) ∈ gtb := gt_of (i := 96) rfl rfl
theorem kl_D_54 : Cond.constantLong "PowerDesk" 54 (4294967295 : Int64) ∈ gtb := gt_of (i := 97) rfl rfl
theorem ml_D_74 : Cond.methodLink "PowerDesk" 74 y_D_leave ∈ gtb := gt_of (i := 98) rfl rfl
theorem st_D_leave : Cond.static y_D_leave ∈ gtb := gt_of (i := 99) rfl rfl
theorem mc_D_leave : Cond.code y_D_leave b_D_leave 7 none ∈ gtb := gt_of (i := 100) rfl rfl
theorem ml_D_56 : Cond.methodLink "PowerDesk" 56 y_A_fill4 ∈ gtb := gt_of (i := 101) rfl rfl
theorem st_A_fill4 : Cond.static y_A_fill4 ∈ gtb := gt_of (i := 102) rfl rfl
theorem mc_A_fill4 : Cond.code y_A_fill4 b_A_fill4 5 none ∈ gtb := gt_of (i := 103) rfl rfl
theorem ml_A_13 : Cond.methodLink "java/util/Arrays" 13 y_A_rangeCheck ∈ gtb := gt_of (i := 104) rfl rfl
theorem st_A_rangeCheck : Cond.static y_A_rangeCheck ∈ gtb := gt_of (i := 105) rfl rfl
theorem mc_A_rangeCheck : Cond.code y_A_rangeCheck b_A_rangeCheck 3 none ∈ gtb := gt_of (i := 106) rfl rfl
theorem ml_D_62 : Cond.methodLink "PowerDesk" 62 y_D_twice ∈ gtb := gt_of (i := 107) rfl rfl
theorem st_D_twice : Cond.static y_D_twice ∈ gtb := gt_of (i := 108) rfl rfl
theorem mc_D_twice : Cond.code y_D_twice b_D_twice 5 (some .int) ∈ gtb := gt_of (i := 109) rfl rfl
theorem ml_D_70 : Cond.methodLink "PowerDesk" 70 y_D_subtract ∈ gtb := gt_of (i := 110) rfl rfl
theorem st_D_subtract : Cond.static y_D_subtract ∈ gtb := gt_of (i := 111) rfl rfl
theorem mc_D_subtract : Cond.code y_D_subtract b_D_subtract 7 none ∈ gtb := gt_of (i := 112) rfl rfl
theorem ml_D_78 : Cond.methodLink "PowerDesk" 78 arraycopyName ∈ gtb := gt_of (i := 113) rfl rfl
theorem st_S_arraycopy : Cond.static arraycopyName ∈ gtb := gt_of (i := 114) rfl rfl
theorem na_S_arraycopy : Cond.native arraycopyName ∈ gtb := gt_of (i := 115) rfl rfl
theorem ml_L_18 : Cond.methodLink "PowerDeskLaw" 18 y_D_base ∈ gtb := gt_of (i := 116) rfl rfl
theorem im_D_base : Cond.instanceMethod y_D_base ∈ gtb := gt_of (i := 117) rfl rfl
theorem se_D_base : Cond.selects "PowerDesk" y_D_base y_D_base ∈ gtb := gt_of (i := 118) rfl rfl
theorem mc_D_base : Cond.code y_D_base b_D_base 6 none ∈ gtb := gt_of (i := 119) rfl rfl
theorem ml_L_22 : Cond.methodLink "PowerDeskLaw" 22 y_D_power ∈ gtb := gt_of (i := 120) rfl rfl
theorem im_D_power : Cond.instanceMethod y_D_power ∈ gtb := gt_of (i := 121) rfl rfl
theorem se_D_power : Cond.selects "PowerDesk" y_D_power y_D_power ∈ gtb := gt_of (i := 122) rfl rfl
theorem mc_D_power : Cond.code y_D_power b_D_power 6 none ∈ gtb := gt_of (i := 123) rfl rfl
theorem ml_L_30 : Cond.methodLink "PowerDeskLaw" 30 y_D_multiply ∈ gtb := gt_of (i := 124) rfl rfl
theorem im_D_multiply : Cond.instanceMethod y_D_multiply ∈ gtb := gt_of (i := 125) rfl rfl
theorem se_D_multiply : Cond.selects "PowerDesk" y_D_multiply y_D_multiply ∈ gtb := gt_of (i := 126) rfl rfl
theorem mc_D_multiply : Cond.code y_D_multiply b_D_multiply 1 none ∈ gtb := gt_of (i := 127) rfl rfl
theorem ml_D_92 : Cond.methodLink "PowerDesk" 92 y_D_times ∈ gtb := gt_of (i := 128) rfl rfl
theorem st_D_times : Cond.static y_D_times ∈ gtb := gt_of (i := 129) rfl rfl
theorem mc_D_times : Cond.code y_D_times b_D_times 8 none ∈ gtb := gt_of (i := 130) rfl rfl
theorem ml_L_34 : Cond.methodLink "PowerDeskLaw" 34 y_D_keep ∈ gtb := gt_of (i := 131) rfl rfl
theorem im_D_keep : Cond.instanceMethod y_D_keep ∈ gtb := gt_of (i := 132) rfl rfl
theorem se_D_keep : Cond.selects "PowerDesk" y_D_keep y_D_keep ∈ gtb := gt_of (i := 133) rfl rfl
theorem mc_D_keep : Cond.code y_D_keep b_D_keep 1 none ∈ gtb := gt_of (i := 134) rfl rfl
theorem ml_L_38 : Cond.methodLink "PowerDeskLaw" 38 y_D_answer ∈ gtb := gt_of (i := 135) rfl rfl
theorem im_D_answer : Cond.instanceMethod y_D_answer ∈ gtb := gt_of (i := 136) rfl rfl
theorem se_D_answer : Cond.selects "PowerDesk" y_D_answer y_D_answer ∈ gtb := gt_of (i := 137) rfl rfl
theorem mc_D_answer : Cond.code y_D_answer b_D_answer 2 (some .int) ∈ gtb := gt_of (i := 138) rfl rfl
theorem ml_L_43 : Cond.methodLink "PowerDeskLaw" 43 y_D_factor ∈ gtb := gt_of (i := 139) rfl rfl
theorem im_D_factor : Cond.instanceMethod y_D_factor ∈ gtb := gt_of (i := 140) rfl rfl
theorem se_D_factor : Cond.selects "PowerDesk" y_D_factor y_D_factor ∈ gtb := gt_of (i := 141) rfl rfl
theorem mc_D_factor : Cond.code y_D_factor b_D_factor 2 (some .int) ∈ gtb := gt_of (i := 142) rfl rfl
theorem ml_L_26 : Cond.methodLink "PowerDeskLaw" 26 y_D_raise ∈ gtb := gt_of (i := 143) rfl rfl
theorem im_D_raise : Cond.instanceMethod y_D_raise ∈ gtb := gt_of (i := 144) rfl rfl
theorem se_D_raise : Cond.selects "PowerDesk" y_D_raise y_D_raise ∈ gtb := gt_of (i := 145) rfl rfl
theorem mc_D_raise : Cond.code y_D_raise b_D_raise 1 none ∈ gtb := gt_of (i := 146) rfl rfl
theorem ml_D_100 : Cond.methodLink "PowerDesk" 100 y_D_split ∈ gtb := gt_of (i := 147) rfl rfl
theorem im_D_split : Cond.instanceMethod y_D_split ∈ gtb := gt_of (i := 149) rfl rfl
theorem mc_D_split : Cond.code y_D_split b_D_split 6 none ∈ gtb := gt_of (i := 150) rfl rfl
theorem ml_D_107 : Cond.methodLink "PowerDesk" 107 y_D_powerOfTwos ∈ gtb := gt_of (i := 151) rfl rfl
theorem im_D_powerOfTwos : Cond.instanceMethod y_D_powerOfTwos ∈ gtb := gt_of (i := 153) rfl rfl
theorem mc_D_powerOfTwos : Cond.code y_D_powerOfTwos b_D_powerOfTwos 4 none ∈ gtb := gt_of (i := 154) rfl rfl
theorem ml_D_139 : Cond.methodLink "PowerDesk" 139 y_D_cut ∈ gtb := gt_of (i := 155) rfl rfl
theorem im_D_cut : Cond.instanceMethod y_D_cut ∈ gtb := gt_of (i := 157) rfl rfl
theorem mc_D_cut : Cond.code y_D_cut b_D_cut 3 none ∈ gtb := gt_of (i := 158) rfl rfl
theorem ml_D_122 : Cond.methodLink "PowerDesk" 122 y_A_fill2 ∈ gtb := gt_of (i := 159) rfl rfl
theorem st_A_fill2 : Cond.static y_A_fill2 ∈ gtb := gt_of (i := 160) rfl rfl
theorem mc_A_fill2 : Cond.code y_A_fill2 b_A_fill2 4 none ∈ gtb := gt_of (i := 161) rfl rfl
theorem ml_D_135 : Cond.methodLink "PowerDesk" 135 y_D_bits ∈ gtb := gt_of (i := 162) rfl rfl
theorem im_D_bits : Cond.instanceMethod y_D_bits ∈ gtb := gt_of (i := 164) rfl rfl
theorem mc_D_bits : Cond.code y_D_bits b_D_bits 2 (some .int) ∈ gtb := gt_of (i := 165) rfl rfl
theorem ml_D_96 : Cond.methodLink "PowerDesk" 96 y_D_bit ∈ gtb := gt_of (i := 166) rfl rfl
theorem im_D_bit : Cond.instanceMethod y_D_bit ∈ gtb := gt_of (i := 168) rfl rfl
theorem mc_D_bit : Cond.code y_D_bit b_D_bit 2 (some .boolean) ∈ gtb := gt_of (i := 169) rfl rfl
theorem ml_D_110 : Cond.methodLink "PowerDesk" 110 y_D_powerOfOdd ∈ gtb := gt_of (i := 170) rfl rfl
theorem im_D_powerOfOdd : Cond.instanceMethod y_D_powerOfOdd ∈ gtb := gt_of (i := 172) rfl rfl
theorem mc_D_powerOfOdd : Cond.code y_D_powerOfOdd b_D_powerOfOdd 3 none ∈ gtb := gt_of (i := 173) rfl rfl
theorem ml_D_128 : Cond.methodLink "PowerDesk" 128 y_D_twiceOdd ∈ gtb := gt_of (i := 174) rfl rfl
theorem im_D_twiceOdd : Cond.instanceMethod y_D_twiceOdd ∈ gtb := gt_of (i := 176) rfl rfl
theorem mc_D_twiceOdd : Cond.code y_D_twiceOdd b_D_twiceOdd 5 none ∈ gtb := gt_of (i := 177) rfl rfl
theorem ml_D_125 : Cond.methodLink "PowerDesk" 125 y_D_subtractOdd ∈ gtb := gt_of (i := 178) rfl rfl
theorem im_D_subtractOdd : Cond.instanceMethod y_D_subtractOdd ∈ gtb := gt_of (i := 180) rfl rfl
theorem mc_D_subtractOdd : Cond.code y_D_subtractOdd b_D_subtractOdd 7 none ∈ gtb := gt_of (i := 181) rfl rfl
theorem ml_D_131 : Cond.methodLink "PowerDesk" 131 y_D_together ∈ gtb := gt_of (i := 182) rfl rfl
theorem im_D_together : Cond.instanceMethod y_D_together ∈ gtb := gt_of (i := 184) rfl rfl
theorem mc_D_together : Cond.code y_D_together b_D_together 12 none ∈ gtb := gt_of (i := 185) rfl rfl
theorem ml_D_116 : Cond.methodLink "PowerDesk" 116 y_D_join ∈ gtb := gt_of (i := 186) rfl rfl
theorem im_D_join : Cond.instanceMethod y_D_join ∈ gtb := gt_of (i := 188) rfl rfl
theorem mc_D_join : Cond.code y_D_join b_D_join 8 none ∈ gtb := gt_of (i := 189) rfl rfl
theorem cl_L_10 : Cond.classLink "PowerDeskLaw" 10 "PowerDeskModel" ∈ gtb := gt_of (i := 190) rfl rfl
theorem in_M : Cond.instantiable "PowerDeskModel" 6 ∈ gtb := gt_of (i := 191) rfl rfl
theorem ml_L_12 : Cond.methodLink "PowerDeskLaw" 12 y_M_init ∈ gtb := gt_of (i := 192) rfl rfl
theorem im_M_init : Cond.instanceMethod y_M_init ∈ gtb := gt_of (i := 193) rfl rfl
theorem mc_M_init : Cond.code y_M_init b_M_init 1 none ∈ gtb := gt_of (i := 194) rfl rfl
theorem ml_M_1 : Cond.methodLink "PowerDeskModel" 1 objectInit ∈ gtb := gt_of (i := 195) rfl rfl
theorem fl_M_7 : Cond.fieldLink "PowerDeskModel" 7 "PowerDeskModel" "m" "[I" ∈ gtb := gt_of (i := 196) rfl rfl
theorem fl_M_13 : Cond.fieldLink "PowerDeskModel" 13 "PowerDeskModel" "a" "[I" ∈ gtb := gt_of (i := 197) rfl rfl
theorem fl_M_16 : Cond.fieldLink "PowerDeskModel" 16 "PowerDeskModel" "e" "[I" ∈ gtb := gt_of (i := 198) rfl rfl
theorem fl_M_19 : Cond.fieldLink "PowerDeskModel" 19 "PowerDeskModel" "z" "[I" ∈ gtb := gt_of (i := 199) rfl rfl
theorem fl_M_22 : Cond.fieldLink "PowerDeskModel" 22 "PowerDeskModel" "t" "[I" ∈ gtb := gt_of (i := 200) rfl rfl
theorem fl_M_25 : Cond.fieldLink "PowerDeskModel" 25 "PowerDeskModel" "u" "[I" ∈ gtb := gt_of (i := 201) rfl rfl
theorem ml_L_17 : Cond.methodLink "PowerDeskLaw" 17 y_M_modulus ∈ gtb := gt_of (i := 215) rfl rfl
theorem im_M_modulus : Cond.instanceMethod y_M_modulus ∈ gtb := gt_of (i := 216) rfl rfl
theorem se_M_modulus : Cond.selects "PowerDeskModel" y_M_modulus y_M_modulus ∈ gtb := gt_of (i := 217) rfl rfl
theorem mc_M_modulus : Cond.code y_M_modulus b_M_modulus 8 none ∈ gtb := gt_of (i := 218) rfl rfl
theorem ml_M_29 : Cond.methodLink "PowerDeskModel" 29 y_M_lay ∈ gtb := gt_of (i := 219) rfl rfl
theorem st_M_lay : Cond.static y_M_lay ∈ gtb := gt_of (i := 220) rfl rfl
theorem mc_M_lay : Cond.code y_M_lay b_M_lay 8 none ∈ gtb := gt_of (i := 221) rfl rfl
theorem ki_M_28 : Cond.constant "PowerDeskModel" 28 (65535 : Int32) ∈ gtb := gt_of (i := 222) rfl rfl
theorem ml_M_33 : Cond.methodLink "PowerDeskModel" 33 y_M_fold ∈ gtb := gt_of (i := 223) rfl rfl
theorem im_M_fold : Cond.instanceMethod y_M_fold ∈ gtb := gt_of (i := 225) rfl rfl
theorem mc_M_fold : Cond.code y_M_fold b_M_fold 6 none ∈ gtb := gt_of (i := 226) rfl rfl
theorem ml_M_37 : Cond.methodLink "PowerDeskModel" 37 y_M_less ∈ gtb := gt_of (i := 227) rfl rfl
theorem im_M_less : Cond.instanceMethod y_M_less ∈ gtb := gt_of (i := 229) rfl rfl
theorem mc_M_less : Cond.code y_M_less b_M_less 3 (some .boolean) ∈ gtb := gt_of (i := 230) rfl rfl
theorem ml_M_41 : Cond.methodLink "PowerDeskModel" 41 y_M_minus ∈ gtb := gt_of (i := 231) rfl rfl
theorem im_M_minus : Cond.instanceMethod y_M_minus ∈ gtb := gt_of (i := 233) rfl rfl
theorem mc_M_minus : Cond.code y_M_minus b_M_minus 5 none ∈ gtb := gt_of (i := 234) rfl rfl
theorem ml_L_21 : Cond.methodLink "PowerDeskLaw" 21 y_M_base ∈ gtb := gt_of (i := 235) rfl rfl
theorem im_M_base : Cond.instanceMethod y_M_base ∈ gtb := gt_of (i := 236) rfl rfl
theorem se_M_base : Cond.selects "PowerDeskModel" y_M_base y_M_base ∈ gtb := gt_of (i := 237) rfl rfl
theorem mc_M_base : Cond.code y_M_base b_M_base 6 none ∈ gtb := gt_of (i := 238) rfl rfl
theorem ml_L_25 : Cond.methodLink "PowerDeskLaw" 25 y_M_power ∈ gtb := gt_of (i := 239) rfl rfl
theorem im_M_power : Cond.instanceMethod y_M_power ∈ gtb := gt_of (i := 240) rfl rfl
theorem se_M_power : Cond.selects "PowerDeskModel" y_M_power y_M_power ∈ gtb := gt_of (i := 241) rfl rfl
theorem mc_M_power : Cond.code y_M_power b_M_power 6 none ∈ gtb := gt_of (i := 242) rfl rfl
theorem ml_L_29 : Cond.methodLink "PowerDeskLaw" 29 y_M_raise ∈ gtb := gt_of (i := 243) rfl rfl
theorem im_M_raise : Cond.instanceMethod y_M_raise ∈ gtb := gt_of (i := 244) rfl rfl
theorem se_M_raise : Cond.selects "PowerDeskModel" y_M_raise y_M_raise ∈ gtb := gt_of (i := 245) rfl rfl
theorem mc_M_raise : Cond.code y_M_raise b_M_raise 3 none ∈ gtb := gt_of (i := 246) rfl rfl
theorem ml_M_44 : Cond.methodLink "PowerDeskModel" 44 y_M_times ∈ gtb := gt_of (i := 247) rfl rfl
theorem im_M_times : Cond.instanceMethod y_M_times ∈ gtb := gt_of (i := 249) rfl rfl
theorem mc_M_times : Cond.code y_M_times b_M_times 7 none ∈ gtb := gt_of (i := 250) rfl rfl
theorem ml_L_33 : Cond.methodLink "PowerDeskLaw" 33 y_M_multiply ∈ gtb := gt_of (i := 251) rfl rfl
theorem im_M_multiply : Cond.instanceMethod y_M_multiply ∈ gtb := gt_of (i := 252) rfl rfl
theorem se_M_multiply : Cond.selects "PowerDeskModel" y_M_multiply y_M_multiply ∈ gtb := gt_of (i := 253) rfl rfl
theorem mc_M_multiply : Cond.code y_M_multiply b_M_multiply 1 none ∈ gtb := gt_of (i := 254) rfl rfl
theorem ml_L_37 : Cond.methodLink "PowerDeskLaw" 37 y_M_keep ∈ gtb := gt_of (i := 255) rfl rfl
theorem im_M_keep : Cond.instanceMethod y_M_keep ∈ gtb := gt_of (i := 256) rfl rfl
theorem se_M_keep : Cond.selects "PowerDeskModel" y_M_keep y_M_keep ∈ gtb := gt_of (i := 257) rfl rfl
theorem mc_M_keep : Cond.code y_M_keep b_M_keep 2 none ∈ gtb := gt_of (i := 258) rfl rfl
theorem ml_L_42 : Cond.methodLink "PowerDeskLaw" 42 y_M_answer ∈ gtb := gt_of (i := 259) rfl rfl
theorem im_M_answer : Cond.instanceMethod y_M_answer ∈ gtb := gt_of (i := 260) rfl rfl
theorem se_M_answer : Cond.selects "PowerDeskModel" y_M_answer y_M_answer ∈ gtb := gt_of (i := 261) rfl rfl
theorem mc_M_answer : Cond.code y_M_answer b_M_answer 3 (some .int) ∈ gtb := gt_of (i := 262) rfl rfl
theorem ml_L_46 : Cond.methodLink "PowerDeskLaw" 46 y_M_factor ∈ gtb := gt_of (i := 263) rfl rfl
theorem im_M_factor : Cond.instanceMethod y_M_factor ∈ gtb := gt_of (i := 264) rfl rfl
theorem se_M_factor : Cond.selects "PowerDeskModel" y_M_factor y_M_factor ∈ gtb := gt_of (i := 265) rfl rfl
theorem mc_M_factor : Cond.code y_M_factor b_M_factor 3 (some .int) ∈ gtb := gt_of (i := 266) rfl rfl
def R_D : String := "PowerDesk"
def F_D : u_T := fun k => match k with
  | 0 => ("PowerDesk", "modulus", "[I", true)
  | 1 => ("PowerDesk", "base", "[I", true)
  | 2 => ("PowerDesk", "power", "[I", true)
  | 3 => ("PowerDesk", "answer", "[I", true)
  | 4 => ("PowerDesk", "odd", "[I", true)
  | 5 => ("PowerDesk", "many", "I", false)
  | 6 => ("PowerDesk", "inverse", "I", false)
  | 7 => ("PowerDesk", "twos", "I", false)
  | 8 => ("PowerDesk", "product", "[I", true)
  | 9 => ("PowerDesk", "left", "[I", true)
  | 10 => ("PowerDesk", "one", "[I", true)
  | 11 => ("PowerDesk", "square", "[I", true)
  | 12 => ("PowerDesk", "low", "[I", true)
  | 13 => ("PowerDesk", "high", "[I", true)
  | 14 => ("PowerDesk", "plain", "[I", true)
  | 15 => ("PowerDesk", "window", "[[I", true)
  | _ => ("PowerDesk", "sum", "[I", true)
def t_D : Nat → FieldType := fun k => match k with
  | 0 => .array .int
  | 1 => .array .int
  | 2 => .array .int
  | 3 => .array .int
  | 4 => .array .int
  | 5 => .int
  | 6 => .int
  | 7 => .int
  | 8 => .array .int
  | 9 => .array .int
  | 10 => .array .int
  | 11 => .array .int
  | 12 => .array .int
  | 13 => .array .int
  | 14 => .array .int
  | 15 => .array (.array .int)
  | _ => .array .int
theorem n_D : ∀ a, a < 17 → ∀ b, b < 17 → a ≠ b → (F_D a).2.1 ≠ (F_D b).2.1 := by decide +kernel
theorem t_D_ok : ∀ k, k < 17 → parseFieldDescriptor (F_D k).2.2.1 = some (t_D k) := by decide +kernel
theorem i_D : ∀ w ∈ u_ws R_D F_D 17, w ∈ gtb := by decide +kernel
def R_M : String := "PowerDeskModel"
def F_M : u_T := fun k => match k with
  | 0 => ("PowerDeskModel", "m", "[I", true)
  | 1 => ("PowerDeskModel", "a", "[I", true)
  | 2 => ("PowerDeskModel", "e", "[I", true)
  | 3 => ("PowerDeskModel", "z", "[I", true)
  | 4 => ("PowerDeskModel", "t", "[I", true)
  | _ => ("PowerDeskModel", "u", "[I", true)
def t_M : Nat → FieldType := fun k => match k with
  | 0 => .array .int
  | 1 => .array .int
  | 2 => .array .int
  | 3 => .array .int
  | 4 => .array .int
  | _ => .array .int
theorem n_M : ∀ a, a < 6 → ∀ b, b < 6 → a ≠ b → (F_M a).2.1 ≠ (F_M b).2.1 := by decide +kernel
theorem t_M_ok : ∀ k, k < 6 → parseFieldDescriptor (F_M k).2.2.1 = some (t_M k) := by decide +kernel
theorem i_M : ∀ w ∈ u_ws R_M F_M 6, w ∈ gtb := by decide +kernel
abbrev classes : List vw_C := [(R_D, F_D, 17), (R_M, F_M, 6)]
theorem good_tbl : ∀ w ∈ gtb, ((w.onTables && w.keeps) = true ∨ ∃ ty, w = .arrayClass ty) := fun w h => good_of_word (List.mem_filter.mp h).2
end
section
theorem dk {b : ByteArray} {tb : List (Nat × Instr × Nat)} (h : tb.all (fun r => decide (decode b r.1 = .ok r.2)) = true) (i : Nat) : match tb[i]? with | some r => decode b r.1 = .ok r.2 | none => True := by
  cases hr : tb[i]? with
  | none => trivial
  | some r => exact of_decide_eq_true (List.all_eq_true.mp h r (List.mem_of_getElem? hr))
def tb_D_init : List (Nat × Instr × Nat) := [(0, .aload_n 0, 1), (1, .invokespecial 3, 3), (4, .aload_n 0, 1), (5, .bipush 16, 2), (7, .newarray .int, 2), (9, .putfield 9, 3), (12, .aload_n 0, 1), (13, .bipush 16, 2), (15, .newarray .int, 2), (17, .putfield 13, 3), (20, .aload_n 0, 1), (21, .bipush 16, 2), (23, .newarray .int, 2), (25, .putfield 16, 3), (28, .aload_n 0, 1), (29, .bipush 16, 2), (31, .newarray .int, 2), (33, .putfield 19, 3), (36, .aload_n 0, 1), (37, .bipush 16, 2), (39, .newarray .int, 2), (41, .putfield 22, 3), (44, .aload_n 0, 1), (45, .bipush 32, 2), (47, .newarray .int, 2), (49, .putfield 25, 3), (52, .aload_n 0, 1), (53, .bipush 17, 2), (55, .newarray .int, 2), (57, .putfield 28, 3), (60, .aload_n 0, 1), (61, .bipush 16, 2), (63, .newarray .int, 2), (65, .putfield 31, 3), (68, .aload_n 0, 1), (69, .bipush 16, 2), (71, .newarray .int, 2), (73, .putfield 34, 3), (76, .aload_n 0, 1), (77, .bipush 16, 2), (79, .newarray .int, 2), (81, .putfield 37, 3), (84, .aload_n 0, 1), (85, .bipush 16, 2), (87, .newarray .int, 2), (89, .putfield 40, 3), (92, .aload_n 0, 1), (93, .bipush 16, 2), (95, .newarray .int, 2), (97, .putfield 43, 3), (100, .aload_n 0, 1), (101, .bipush 16, 2), (103, .bipush 16, 2), (105, .multianewarray 46 2, 4), (109, .putfield 48, 3), (112, .aload_n 0, 1), (113, .bipush 18, 2), (115, .newarray .int, 2), (117, .putfield 51, 3), (120, .aload_n 0, 1), (121, .getfield 9, 3), (124, .iconst 0, 1), (125, .iconst 2, 1), (126, .iastore, 1), (127, .return_, 1)]
theorem tk_D_init : tb_D_init.all (fun r => decide (decode b_D_init r.1 = .ok r.2)) = true := by decide +kernel
theorem d_D_init_0 : decode b_D_init 0 = .ok (.aload_n 0, 1) := dk tk_D_init 0
theorem d_D_init_1 : decode b_D_init 1 = .ok (.invokespecial 3, 3) := dk tk_D_init 1
theorem d_D_init_4 : decode b_D_init 4 = .ok (.aload_n 0, 1) := dk tk_D_init 2
theorem d_D_init_5 : decode b_D_init 5 = .ok (.bipush 16, 2) := dk tk_D_init 3
theorem d_D_init_7 : decode b_D_init 7 = .ok (.newarray .int, 2) := dk tk_D_init 4
theorem d_D_init_9 : decode b_D_init 9 = .ok (.putfield 9, 3) := dk tk_D_init 5
theorem d_D_init_12 : decode b_D_init 12 = .ok (.aload_n 0, 1) := dk tk_D_init 6
theorem d_D_init_13 : decode b_D_init 13 = .ok (.bipush 16, 2) := dk tk_D_init 7
theorem d_D_init_15 : decode b_D_init 15 = .ok (.newarray .int, 2) := dk tk_D_init 8
theorem d_D_init_17 : decode b_D_init 17 = .ok (.putfield 13, 3) := dk tk_D_init 9
theorem d_D_init_20 : decode b_D_init 20 = .ok (.aload_n 0, 1) := dk tk_D_init 10
theorem d_D_init_21 : decode b_D_init 21 = .ok (.bipush 16, 2) := dk tk_D_init 11
theorem d_D_init_23 : decode b_D_init 23 = .ok (.newarray .int, 2) := dk tk_D_init 12
theorem d_D_init_25 : decode b_D_init 25 = .ok (.putfield 16, 3) := dk tk_D_init 13
theorem d_D_init_28 : decode b_D_init 28 = .ok (.aload_n 0, 1) := dk tk_D_init 14
theorem d_D_init_29 : decode b_D_init 29 = .ok (.bipush 16, 2) := dk tk_D_init 15
theorem d_D_init_31 : decode b_D_init 31 = .ok (.newarray .int, 2) := dk tk_D_init 16
theorem d_D_init_33 : decode b_D_init 33 = .ok (.putfield 19, 3) := dk tk_D_init 17
theorem d_D_init_36 : decode b_D_init 36 = .ok (.aload_n 0, 1) := dk tk_D_init 18
theorem d_D_init_37 : decode b_D_init 37 = .ok (.bipush 16, 2) := dk tk_D_init 19
theorem d_D_init_39 : decode b_D_init 39 = .ok (.newarray .int, 2) := dk tk_D_init 20
theorem d_D_init_41 : decode b_D_init 41 = .ok (.putfield 22, 3) := dk tk_D_init 21
theorem d_D_init_44 : decode b_D_init 44 = .ok (.aload_n 0, 1) := dk tk_D_init 22
theorem d_D_init_45 : decode b_D_init 45 = .ok (.bipush 32, 2) := dk tk_D_init 23
theorem d_D_init_47 : decode b_D_init 47 = .ok (.newarray .int, 2) := dk tk_D_init 24
theorem d_D_init_49 : decode b_D_init 49 = .ok (.putfield 25, 3) := dk tk_D_init 25
theorem d_D_init_52 : decode b_D_init 52 = .ok (.aload_n 0, 1) := dk tk_D_init 26
theorem d_D_init_53 : decode b_D_init 53 = .ok (.bipush 17, 2) := dk tk_D_init 27
theorem d_D_init_55 : decode b_D_init 55 = .ok (.newarray .int, 2) := dk tk_D_init 28
theorem d_D_init_57 : decode b_D_init 57 = .ok (.putfield 28, 3) := dk tk_D_init 29
theorem d_D_init_60 : decode b_D_init 60 = .ok (.aload_n 0, 1) := dk tk_D_init 30
theorem d_D_init_61 : decode b_D_init 61 = .ok (.bipush 16, 2) := dk tk_D_init 31
theorem d_D_init_63 : decode b_D_init 63 = .ok (.newarray .int, 2) := dk tk_D_init 32
theorem d_D_init_65 : decode b_D_init 65 = .ok (.putfield 31, 3) := dk tk_D_init 33
theorem d_D_init_68 : decode b_D_init 68 = .ok (.aload_n 0, 1) := dk tk_D_init 34
theorem d_D_init_69 : decode b_D_init 69 = .ok (.bipush 16, 2) := dk tk_D_init 35
theorem d_D_init_71 : decode b_D_init 71 = .ok (.newarray .int, 2) := dk tk_D_init 36
theorem d_D_init_73 : decode b_D_init 73 = .ok (.putfield 34, 3) := dk tk_D_init 37
theorem d_D_init_76 : decode b_D_init 76 = .ok (.aload_n 0, 1) := dk tk_D_init 38
theorem d_D_init_77 : decode b_D_init 77 = .ok (.bipush 16, 2) := dk tk_D_init 39
theorem d_D_init_79 : decode b_D_init 79 = .ok (.newarray .int, 2) := dk tk_D_init 40
theorem d_D_init_81 : decode b_D_init 81 = .ok (.putfield 37, 3) := dk tk_D_init 41
theorem d_D_init_84 : decode b_D_init 84 = .ok (.aload_n 0, 1) := dk tk_D_init 42
theorem d_D_init_85 : decode b_D_init 85 = .ok (.bipush 16, 2) := dk tk_D_init 43
theorem d_D_init_87 : decode b_D_init 87 = .ok (.newarray .int, 2) := dk tk_D_init 44
theorem d_D_init_89 : decode b_D_init 89 = .ok (.putfield 40, 3) := dk tk_D_init 45
theorem d_D_init_92 : decode b_D_init 92 = .ok (.aload_n 0, 1) := dk tk_D_init 46
theorem d_D_init_93 : decode b_D_init 93 = .ok (.bipush 16, 2) := dk tk_D_init 47
theorem d_D_init_95 : decode b_D_init 95 = .ok (.newarray .int, 2) := dk tk_D_init 48
theorem d_D_init_97 : decode b_D_init 97 = .ok (.putfield 43, 3) := dk tk_D_init 49
theorem d_D_init_100 : decode b_D_init 100 = .ok (.aload_n 0, 1) := dk tk_D_init 50
theorem d_D_init_101 : decode b_D_init 101 = .ok (.bipush 16, 2) := dk tk_D_init 51
theorem d_D_init_103 : decode b_D_init 103 = .ok (.bipush 16, 2) := dk tk_D_init 52
theorem d_D_init_105 : decode b_D_init 105 = .ok (.multianewarray 46 2, 4) := dk tk_D_init 53
theorem d_D_init_109 : decode b_D_init 109 = .ok (.putfield 48, 3) := dk tk_D_init 54
theorem d_D_init_112 : decode b_D_init 112 = .ok (.aload_n 0, 1) := dk tk_D_init 55
theorem d_D_init_113 : decode b_D_init 113 = .ok (.bipush 18, 2) := dk tk_D_init 56
theorem d_D_init_115 : decode b_D_init 115 = .ok (.newarray .int, 2) := dk tk_D_init 57
theorem d_D_init_117 : decode b_D_init 117 = .ok (.putfield 51, 3) := dk tk_D_init 58
theorem d_D_init_120 : decode b_D_init 120 = .ok (.aload_n 0, 1) := dk tk_D_init 59
theorem d_D_init_121 : decode b_D_init 121 = .ok (.getfield 9, 3) := dk tk_D_init 60
theorem d_D_init_124 : decode b_D_init 124 = .ok (.iconst 0, 1) := dk tk_D_init 61
theorem d_D_init_125 : decode b_D_init 125 = .ok (.iconst 2, 1) := dk tk_D_init 62
theorem d_D_init_126 : decode b_D_init 126 = .ok (.iastore, 1) := dk tk_D_init 63
theorem d_D_init_127 : decode b_D_init 127 = .ok (.return_, 1) := dk tk_D_init 64
def tb_D_compare : List (Nat × Instr × Nat) := [(0, .bipush 15, 2), (2, .istore_n 2, 1), (3, .iload_n 2, 1), (4, .ifCond .lt 44, 3), (7, .aload_n 0, 1), (8, .iload_n 2, 1), (9, .iaload, 1), (10, .aload_n 1, 1), (11, .iload_n 2, 1), (12, .iaload, 1), (13, .if_icmp .eq 29, 3), (16, .aload_n 0, 1), (17, .iload_n 2, 1), (18, .iaload, 1), (19, .i2l, 1), (20, .ldc2_w 54, 3), (23, .land, 1), (24, .aload_n 1, 1), (25, .iload_n 2, 1), (26, .iaload, 1), (27, .i2l, 1), (28, .ldc2_w 54, 3), (31, .land, 1), (32, .lcmp, 1), (33, .ifCond .ge 7, 3), (36, .iconst (-1), 1), (37, .goto 4, 3), (40, .iconst 1, 1), (41, .ireturn, 1), (42, .iinc 2 (-1), 3), (45, .goto (-42), 3), (48, .iconst 0, 1), (49, .ireturn, 1)]
theorem tk_D_compare : tb_D_compare.all (fun r => decide (decode b_D_compare r.1 = .ok r.2)) = true := by decide +kernel
theorem d_D_compare_0 : decode b_D_compare 0 = .ok (.bipush 15, 2) := dk tk_D_compare 0
theorem d_D_compare_2 : decode b_D_compare 2 = .ok (.istore_n 2, 1) := dk tk_D_compare 1
theorem d_D_compare_3 : decode b_D_compare 3 = .ok (.iload_n 2, 1) := dk tk_D_compare 2
theorem d_D_compare_4 : decode b_D_compare 4 = .ok (.ifCond .lt 44, 3) := dk tk_D_compare 3
theorem d_D_compare_7 : decode b_D_compare 7 = .ok (.aload_n 0, 1) := dk tk_D_compare 4
theorem d_D_compare_8 : decode b_D_compare 8 = .ok (.iload_n 2, 1) := dk tk_D_compare 5
theorem d_D_compare_9 : decode b_D_compare 9 = .ok (.iaload, 1) := dk tk_D_compare 6
theorem d_D_compare_10 : decode b_D_compare 10 = .ok (.aload_n 1, 1) := dk tk_D_compare 7
theorem d_D_compare_11 : decode b_D_compare 11 = .ok (.iload_n 2, 1) := dk tk_D_compare 8
theorem d_D_compare_12 : decode b_D_compare 12 = .ok (.iaload, 1) := dk tk_D_compare 9
theorem d_D_compare_13 : decode b_D_compare 13 = .ok (.if_icmp .eq 29, 3) := dk tk_D_compare 10
theorem d_D_compare_16 : decode b_D_compare 16 = .ok (.aload_n 0, 1) := dk tk_D_compare 11
theorem d_D_compare_17 : decode b_D_compare 17 = .ok (.iload_n 2, 1) := dk tk_D_compare 12
theorem d_D_compare_18 : decode b_D_compare 18 = .ok (.iaload, 1) := dk tk_D_compare 13
theorem d_D_compare_19 : decode b_D_compare 19 = .ok (.i2l, 1) := dk tk_D_compare 14
theorem d_D_compare_20 : decode b_D_compare 20 = .ok (.ldc2_w 54, 3) := dk tk_D_compare 15
theorem d_D_compare_23 : decode b_D_compare 23 = .ok (.land, 1) := dk tk_D_compare 16
theorem d_D_compare_24 : decode b_D_compare 24 = .ok (.aload_n 1, 1) := dk tk_D_compare 17
theorem d_D_compare_25 : decode b_D_compare 25 = .ok (.iload_n 2, 1) := dk tk_D_compare 18
theorem d_D_compare_26 : decode b_D_compare 26 = .ok (.iaload, 1) := dk tk_D_compare 19
theorem d_D_compare_27 : decode b_D_compare 27 = .ok (.i2l, 1) := dk tk_D_compare 20
theorem d_D_compare_28 : decode b_D_compare 28 = .ok (.ldc2_w 54, 3) := dk tk_D_compare 21
theorem d_D_compare_31 : decode b_D_compare 31 = .ok (.land, 1) := dk tk_D_compare 22
theorem d_D_compare_32 : decode b_D_compare 32 = .ok (.lcmp, 1) := dk tk_D_compare 23
theorem d_D_compare_33 : decode b_D_compare 33 = .ok (.ifCond .ge 7, 3) := dk tk_D_compare 24
theorem d_D_compare_36 : decode b_D_compare 36 = .ok (.iconst (-1), 1) := dk tk_D_compare 25
theorem d_D_compare_37 : decode b_D_compare 37 = .ok (.goto 4, 3) := dk tk_D_compare 26
theorem d_D_compare_40 : decode b_D_compare 40 = .ok (.iconst 1, 1) := dk tk_D_compare 27
theorem d_D_compare_41 : decode b_D_compare 41 = .ok (.ireturn, 1) := dk tk_D_compare 28
theorem d_D_compare_42 : decode b_D_compare 42 = .ok (.iinc 2 (-1), 3) := dk tk_D_compare 29
theorem d_D_compare_45 : decode b_D_compare 45 = .ok (.goto (-42), 3) := dk tk_D_compare 30
theorem d_D_compare_48 : decode b_D_compare 48 = .ok (.iconst 0, 1) := dk tk_D_compare 31
theorem d_D_compare_49 : decode b_D_compare 49 = .ok (.ireturn, 1) := dk tk_D_compare 32
def tb_D_put : List (Nat × Instr × Nat) := [(0, .iconst 4, 1), (1, .iload_n 1, 1), (2, .iconst 3, 1), (3, .iand, 1), (4, .imul, 1), (5, .istore 6, 2), (7, .aload_n 0, 1), (8, .iload 6, 2), (10, .iload_n 2, 1), (11, .iastore, 1), (12, .aload_n 0, 1), (13, .iload 6, 2), (15, .iconst 1, 1), (16, .iadd, 1), (17, .iload_n 3, 1), (18, .iastore, 1), (19, .aload_n 0, 1), (20, .iload 6, 2), (22, .iconst 2, 1), (23, .iadd, 1), (24, .iload 4, 2), (26, .iastore, 1), (27, .aload_n 0, 1), (28, .iload 6, 2), (30, .iconst 3, 1), (31, .iadd, 1), (32, .iload 5, 2), (34, .iastore, 1), (35, .return_, 1)]
theorem tk_D_put : tb_D_put.all (fun r => decide (decode b_D_put r.1 = .ok r.2)) = true := by decide +kernel
theorem d_D_put_0 : decode b_D_put 0 = .ok (.iconst 4, 1) := dk tk_D_put 0
theorem d_D_put_1 : decode b_D_put 1 = .ok (.iload_n 1, 1) := dk tk_D_put 1
theorem d_D_put_2 : decode b_D_put 2 = .ok (.iconst 3, 1) := dk tk_D_put 2
theorem d_D_put_3 : decode b_D_put 3 = .ok (.iand, 1) := dk tk_D_put 3
theorem d_D_put_4 : decode b_D_put 4 = .ok (.imul, 1) := dk tk_D_put 4
theorem d_D_put_5 : decode b_D_put 5 = .ok (.istore 6, 2) := dk tk_D_put 5
theorem d_D_put_7 : decode b_D_put 7 = .ok (.aload_n 0, 1) := dk tk_D_put 6
theorem d_D_put_8 : decode b_D_put 8 = .ok (.iload 6, 2) := dk tk_D_put 7
theorem d_D_put_10 : decode b_D_put 10 = .ok (.iload_n 2, 1) := dk tk_D_put 8
theorem d_D_put_11 : decode b_D_put 11 = .ok (.iastore, 1) := dk tk_D_put 9
theorem d_D_put_12 : decode b_D_put 12 = .ok (.aload_n 0, 1) := dk tk_D_put 10
theorem d_D_put_13 : decode b_D_put 13 = .ok (.iload 6, 2) := dk tk_D_put 11
theorem d_D_put_15 : decode b_D_put 15 = .ok (.iconst 1, 1) := dk tk_D_put 12
theorem d_D_put_16 : decode b_D_put 16 = .ok (.iadd, 1) := dk tk_D_put 13
theorem d_D_put_17 : decode b_D_put 17 = .ok (.iload_n 3, 1) := dk tk_D_put 14
theorem d_D_put_18 : decode b_D_put 18 = .ok (.iastore, 1) := dk tk_D_put 15
theorem d_D_put_19 : decode b_D_put 19 = .ok (.aload_n 0, 1) := dk tk_D_put 16
theorem d_D_put_20 : decode b_D_put 20 = .ok (.iload 6, 2) := dk tk_D_put 17
theorem d_D_put_22 : decode b_D_put 22 = .ok (.iconst 2, 1) := dk tk_D_put 18
theorem d_D_put_23 : decode b_D_put 23 = .ok (.iadd, 1) := dk tk_D_put 19
theorem d_D_put_24 : decode b_D_put 24 = .ok (.iload 4, 2) := dk tk_D_put 20
theorem d_D_put_26 : decode b_D_put 26 = .ok (.iastore, 1) := dk tk_D_put 21
theorem d_D_put_27 : decode b_D_put 27 = .ok (.aload_n 0, 1) := dk tk_D_put 22
theorem d_D_put_28 : decode b_D_put 28 = .ok (.iload 6, 2) := dk tk_D_put 23
theorem d_D_put_30 : decode b_D_put 30 = .ok (.iconst 3, 1) := dk tk_D_put 24
theorem d_D_put_31 : decode b_D_put 31 = .ok (.iadd, 1) := dk tk_D_put 25
theorem d_D_put_32 : decode b_D_put 32 = .ok (.iload 5, 2) := dk tk_D_put 26
theorem d_D_put_34 : decode b_D_put 34 = .ok (.iastore, 1) := dk tk_D_put 27
theorem d_D_put_35 : decode b_D_put 35 = .ok (.return_, 1) := dk tk_D_put 28
def tb_D_twice : List (Nat × Instr × Nat) := [(0, .iload_n 1, 1), (1, .istore_n 2, 1), (2, .iconst 0, 1), (3, .istore_n 3, 1), (4, .iload_n 3, 1), (5, .bipush 16, 2), (7, .if_icmp .ge 30, 3), (10, .aload_n 0, 1), (11, .iload_n 3, 1), (12, .iaload, 1), (13, .bipush 31, 2), (15, .iushr, 1), (16, .istore 4, 2), (18, .aload_n 0, 1), (19, .iload_n 3, 1), (20, .aload_n 0, 1), (21, .iload_n 3, 1), (22, .iaload, 1), (23, .iconst 1, 1), (24, .ishl, 1), (25, .iload_n 2, 1), (26, .ior, 1), (27, .iastore, 1), (28, .iload 4, 2), (30, .istore_n 2, 1), (31, .iinc 3 1, 3), (34, .goto (-30), 3), (37, .iload_n 2, 1), (38, .ireturn, 1)]
theorem tk_D_twice : tb_D_twice.all (fun r => decide (decode b_D_twice r.1 = .ok r.2)) = true := by decide +kernel
theorem d_D_twice_0 : decode b_D_twice 0 = .ok (.iload_n 1, 1) := dk tk_D_twice 0
theorem d_D_twice_1 : decode b_D_twice 1 = .ok (.istore_n 2, 1) := dk tk_D_twice 1
theorem d_D_twice_2 : decode b_D_twice 2 = .ok (.iconst 0, 1) := dk tk_D_twice 2
theorem d_D_twice_3 : decode b_D_twice 3 = .ok (.istore_n 3, 1) := dk tk_D_twice 3
theorem d_D_twice_4 : decode b_D_twice 4 = .ok (.iload_n 3, 1) := dk tk_D_twice 4
theorem d_D_twice_5 : decode b_D_twice 5 = .ok (.bipush 16, 2) := dk tk_D_twice 5
theorem d_D_twice_7 : decode b_D_twice 7 = .ok (.if_icmp .ge 30, 3) := dk tk_D_twice 6
theorem d_D_twice_10 : decode b_D_twice 10 = .ok (.aload_n 0, 1) := dk tk_D_twice 7
theorem d_D_twice_11 : decode b_D_twice 11 = .ok (.iload_n 3, 1) := dk tk_D_twice 8
theorem d_D_twice_12 : decode b_D_twice 12 = .ok (.iaload, 1) := dk tk_D_twice 9
theorem d_D_twice_13 : decode b_D_twice 13 = .ok (.bipush 31, 2) := dk tk_D_twice 10
theorem d_D_twice_15 : decode b_D_twice 15 = .ok (.iushr, 1) := dk tk_D_twice 11
theorem d_D_twice_16 : decode b_D_twice 16 = .ok (.istore 4, 2) := dk tk_D_twice 12
theorem d_D_twice_18 : decode b_D_twice 18 = .ok (.aload_n 0, 1) := dk tk_D_twice 13
theorem d_D_twice_19 : decode b_D_twice 19 = .ok (.iload_n 3, 1) := dk tk_D_twice 14
theorem d_D_twice_20 : decode b_D_twice 20 = .ok (.aload_n 0, 1) := dk tk_D_twice 15
theorem d_D_twice_21 : decode b_D_twice 21 = .ok (.iload_n 3, 1) := dk tk_D_twice 16
theorem d_D_twice_22 : decode b_D_twice 22 = .ok (.iaload, 1) := dk tk_D_twice 17
theorem d_D_twice_23 : decode b_D_twice 23 = .ok (.iconst 1, 1) := dk tk_D_twice 18
theorem d_D_twice_24 : decode b_D_twice 24 = .ok (.ishl, 1) := dk tk_D_twice 19
theorem d_D_twice_25 : decode b_D_twice 25 = .ok (.iload_n 2, 1) := dk tk_D_twice 20
theorem d_D_twice_26 : decode b_D_twice 26 = .ok (.ior, 1) := dk tk_D_twice 21
theorem d_D_twice_27 : decode b_D_twice 27 = .ok (.iastore, 1) := dk tk_D_twice 22
theorem d_D_twice_28 : decode b_D_twice 28 = .ok (.iload 4, 2) := dk tk_D_twice 23
theorem d_D_twice_30 : decode b_D_twice 30 = .ok (.istore_n 2, 1) := dk tk_D_twice 24
theorem d_D_twice_31 : decode b_D_twice 31 = .ok (.iinc 3 1, 3) := dk tk_D_twice 25
theorem d_D_twice_34 : decode b_D_twice 34 = .ok (.goto (-30), 3) := dk tk_D_twice 26
theorem d_D_twice_37 : decode b_D_twice 37 = .ok (.iload_n 2, 1) := dk tk_D_twice 27
theorem d_D_twice_38 : decode b_D_twice 38 = .ok (.ireturn, 1) := dk tk_D_twice 28
def tb_D_subtract : List (Nat × Instr × Nat) := [(0, .lconst 0, 1), (1, .lstore_n 2, 1), (2, .iconst 0, 1), (3, .istore 4, 2), (5, .iload 4, 2), (7, .bipush 16, 2), (9, .if_icmp .ge 45, 3), (12, .aload_n 0, 1), (13, .iload 4, 2), (15, .iaload, 1), (16, .i2l, 1), (17, .ldc2_w 54, 3), (20, .land, 1), (21, .aload_n 1, 1), (22, .iload 4, 2), (24, .iaload, 1), (25, .i2l, 1), (26, .ldc2_w 54, 3), (29, .land, 1), (30, .lsub, 1), (31, .lload_n 2, 1), (32, .lsub, 1), (33, .lstore 5, 2), (35, .aload_n 0, 1), (36, .iload 4, 2), (38, .lload 5, 2), (40, .l2i, 1), (41, .iastore, 1), (42, .lload 5, 2), (44, .bipush 63, 2), (46, .lushr, 1), (47, .lstore_n 2, 1), (48, .iinc 4 1, 3), (51, .goto (-46), 3), (54, .return_, 1)]
theorem tk_D_subtract : tb_D_subtract.all (fun r => decide (decode b_D_subtract r.1 = .ok r.2)) = true := by decide +kernel
theorem d_D_subtract_0 : decode b_D_subtract 0 = .ok (.lconst 0, 1) := dk tk_D_subtract 0
theorem d_D_subtract_1 : decode b_D_subtract 1 = .ok (.lstore_n 2, 1) := dk tk_D_subtract 1
theorem d_D_subtract_2 : decode b_D_subtract 2 = .ok (.iconst 0, 1) := dk tk_D_subtract 2
theorem d_D_subtract_3 : decode b_D_subtract 3 = .ok (.istore 4, 2) := dk tk_D_subtract 3
theorem d_D_subtract_5 : decode b_D_subtract 5 = .ok (.iload 4, 2) := dk tk_D_subtract 4
theorem d_D_subtract_7 : decode b_D_subtract 7 = .ok (.bipush 16, 2) := dk tk_D_subtract 5
theorem d_D_subtract_9 : decode b_D_subtract 9 = .ok (.if_icmp .ge 45, 3) := dk tk_D_subtract 6
theorem d_D_subtract_12 : decode b_D_subtract 12 = .ok (.aload_n 0, 1) := dk tk_D_subtract 7
theorem d_D_subtract_13 : decode b_D_subtract 13 = .ok (.iload 4, 2) := dk tk_D_subtract 8
theorem d_D_subtract_15 : decode b_D_subtract 15 = .ok (.iaload, 1) := dk tk_D_subtract 9
theorem d_D_subtract_16 : decode b_D_subtract 16 = .ok (.i2l, 1) := dk tk_D_subtract 10
theorem d_D_subtract_17 : decode b_D_subtract 17 = .ok (.ldc2_w 54, 3) := dk tk_D_subtract 11
theorem d_D_subtract_20 : decode b_D_subtract 20 = .ok (.land, 1) := dk tk_D_subtract 12
theorem d_D_subtract_21 : decode b_D_subtract 21 = .ok (.aload_n 1, 1) := dk tk_D_subtract 13
theorem d_D_subtract_22 : decode b_D_subtract 22 = .ok (.iload 4, 2) := dk tk_D_subtract 14
theorem d_D_subtract_24 : decode b_D_subtract 24 = .ok (.iaload, 1) := dk tk_D_subtract 15
theorem d_D_subtract_25 : decode b_D_subtract 25 = .ok (.i2l, 1) := dk tk_D_subtract 16
theorem d_D_subtract_26 : decode b_D_subtract 26 = .ok (.ldc2_w 54, 3) := dk tk_D_subtract 17
theorem d_D_subtract_29 : decode b_D_subtract 29 = .ok (.land, 1) := dk tk_D_subtract 18
theorem d_D_subtract_30 : decode b_D_subtract 30 = .ok (.lsub, 1) := dk tk_D_subtract 19
theorem d_D_subtract_31 : decode b_D_subtract 31 = .ok (.lload_n 2, 1) := dk tk_D_subtract 20
theorem d_D_subtract_32 : decode b_D_subtract 32 = .ok (.lsub, 1) := dk tk_D_subtract 21
theorem d_D_subtract_33 : decode b_D_subtract 33 = .ok (.lstore 5, 2) := dk tk_D_subtract 22
theorem d_D_subtract_35 : decode b_D_subtract 35 = .ok (.aload_n 0, 1) := dk tk_D_subtract 23
theorem d_D_subtract_36 : decode b_D_subtract 36 = .ok (.iload 4, 2) := dk tk_D_subtract 24
theorem d_D_subtract_38 : decode b_D_subtract 38 = .ok (.lload 5, 2) := dk tk_D_subtract 25
theorem d_D_subtract_40 : decode b_D_subtract 40 = .ok (.l2i, 1) := dk tk_D_subtract 26
theorem d_D_subtract_41 : decode b_D_subtract 41 = .ok (.iastore, 1) := dk tk_D_subtract 27
theorem d_D_subtract_42 : decode b_D_subtract 42 = .ok (.lload 5, 2) := dk tk_D_subtract 28
theorem d_D_subtract_44 : decode b_D_subtract 44 = .ok (.bipush 63, 2) := dk tk_D_subtract 29
theorem d_D_subtract_46 : decode b_D_subtract 46 = .ok (.lushr, 1) := dk tk_D_subtract 30
theorem d_D_subtract_47 : decode b_D_subtract 47 = .ok (.lstore_n 2, 1) := dk tk_D_subtract 31
theorem d_D_subtract_48 : decode b_D_subtract 48 = .ok (.iinc 4 1, 3) := dk tk_D_subtract 32
theorem d_D_subtract_51 : decode b_D_subtract 51 = .ok (.goto (-46), 3) := dk tk_D_subtract 33
theorem d_D_subtract_54 : decode b_D_subtract 54 = .ok (.return_, 1) := dk tk_D_subtract 34
def tb_D_leave : List (Nat × Instr × Nat) := [(0, .aload_n 3, 1), (1, .iconst 0, 1), (2, .bipush 16, 2), (4, .iconst 0, 1), (5, .invokestatic 56, 3), (8, .iload_n 1, 1), (9, .iconst 1, 1), (10, .isub, 1), (11, .istore 4, 2), (13, .iload 4, 2), (15, .ifCond .lt 58, 3), (18, .bipush 31, 2), (20, .istore 5, 2), (22, .iload 5, 2), (24, .ifCond .lt 43, 3), (27, .aload_n 3, 1), (28, .aload_n 0, 1), (29, .iload 4, 2), (31, .iaload, 1), (32, .iload 5, 2), (34, .iushr, 1), (35, .iconst 1, 1), (36, .iand, 1), (37, .invokestatic 62, 3), (40, .istore 6, 2), (42, .iload 6, 2), (44, .iconst 1, 1), (45, .if_icmp .eq 11, 3), (48, .aload_n 3, 1), (49, .aload_n 2, 1), (50, .invokestatic 66, 3), (53, .ifCond .lt 8, 3), (56, .aload_n 3, 1), (57, .aload_n 2, 1), (58, .invokestatic 70, 3), (61, .iinc 5 (-1), 3), (64, .goto (-42), 3), (67, .iinc 4 (-1), 3), (70, .goto (-57), 3), (73, .return_, 1)]
theorem tk_D_leave : tb_D_leave.all (fun r => decide (decode b_D_leave r.1 = .ok r.2)) = true := by decide +kernel
theorem d_D_leave_0 : decode b_D_leave 0 = .ok (.aload_n 3, 1) := dk tk_D_leave 0
theorem d_D_leave_1 : decode b_D_leave 1 = .ok (.iconst 0, 1) := dk tk_D_leave 1
theorem d_D_leave_2 : decode b_D_leave 2 = .ok (.bipush 16, 2) := dk tk_D_leave 2
theorem d_D_leave_4 : decode b_D_leave 4 = .ok (.iconst 0, 1) := dk tk_D_leave 3
theorem d_D_leave_5 : decode b_D_leave 5 = .ok (.invokestatic 56, 3) := dk tk_D_leave 4
theorem d_D_leave_8 : decode b_D_leave 8 = .ok (.iload_n 1, 1) := dk tk_D_leave 5
theorem d_D_leave_9 : decode b_D_leave 9 = .ok (.iconst 1, 1) := dk tk_D_leave 6
theorem d_D_leave_10 : decode b_D_leave 10 = .ok (.isub, 1) := dk tk_D_leave 7
theorem d_D_leave_11 : decode b_D_leave 11 = .ok (.istore 4, 2) := dk tk_D_leave 8
theorem d_D_leave_13 : decode b_D_leave 13 = .ok (.iload 4, 2) := dk tk_D_leave 9
theorem d_D_leave_15 : decode b_D_leave 15 = .ok (.ifCond .lt 58, 3) := dk tk_D_leave 10
theorem d_D_leave_18 : decode b_D_leave 18 = .ok (.bipush 31, 2) := dk tk_D_leave 11
theorem d_D_leave_20 : decode b_D_leave 20 = .ok (.istore 5, 2) := dk tk_D_leave 12
theorem d_D_leave_22 : decode b_D_leave 22 = .ok (.iload 5, 2) := dk tk_D_leave 13
theorem d_D_leave_24 : decode b_D_leave 24 = .ok (.ifCond .lt 43, 3) := dk tk_D_leave 14
theorem d_D_leave_27 : decode b_D_leave 27 = .ok (.aload_n 3, 1) := dk tk_D_leave 15
theorem d_D_leave_28 : decode b_D_leave 28 = .ok (.aload_n 0, 1) := dk tk_D_leave 16
theorem d_D_leave_29 : decode b_D_leave 29 = .ok (.iload 4, 2) := dk tk_D_leave 17
theorem d_D_leave_31 : decode b_D_leave 31 = .ok (.iaload, 1) := dk tk_D_leave 18
theorem d_D_leave_32 : decode b_D_leave 32 = .ok (.iload 5, 2) := dk tk_D_leave 19
theorem d_D_leave_34 : decode b_D_leave 34 = .ok (.iushr, 1) := dk tk_D_leave 20
theorem d_D_leave_35 : decode b_D_leave 35 = .ok (.iconst 1, 1) := dk tk_D_leave 21
theorem d_D_leave_36 : decode b_D_leave 36 = .ok (.iand, 1) := dk tk_D_leave 22
theorem d_D_leave_37 : decode b_D_leave 37 = .ok (.invokestatic 62, 3) := dk tk_D_leave 23
theorem d_D_leave_40 : decode b_D_leave 40 = .ok (.istore 6, 2) := dk tk_D_leave 24
theorem d_D_leave_42 : decode b_D_leave 42 = .ok (.iload 6, 2) := dk tk_D_leave 25
theorem d_D_leave_44 : decode b_D_leave 44 = .ok (.iconst 1, 1) := dk tk_D_leave 26
theorem d_D_leave_45 : decode b_D_leave 45 = .ok (.if_icmp .eq 11, 3) := dk tk_D_leave 27
theorem d_D_leave_48 : decode b_D_leave 48 = .ok (.aload_n 3, 1) := dk tk_D_leave 28
theorem d_D_leave_49 : decode b_D_leave 49 = .ok (.aload_n 2, 1) := dk tk_D_leave 29
theorem d_D_leave_50 : decode b_D_leave 50 = .ok (.invokestatic 66, 3) := dk tk_D_leave 30
theorem d_D_leave_53 : decode b_D_leave 53 = .ok (.ifCond .lt 8, 3) := dk tk_D_leave 31
theorem d_D_leave_56 : decode b_D_leave 56 = .ok (.aload_n 3, 1) := dk tk_D_leave 32
theorem d_D_leave_57 : decode b_D_leave 57 = .ok (.aload_n 2, 1) := dk tk_D_leave 33
theorem d_D_leave_58 : decode b_D_leave 58 = .ok (.invokestatic 70, 3) := dk tk_D_leave 34
theorem d_D_leave_61 : decode b_D_leave 61 = .ok (.iinc 5 (-1), 3) := dk tk_D_leave 35
theorem d_D_leave_64 : decode b_D_leave 64 = .ok (.goto (-42), 3) := dk tk_D_leave 36
theorem d_D_leave_67 : decode b_D_leave 67 = .ok (.iinc 4 (-1), 3) := dk tk_D_leave 37
theorem d_D_leave_70 : decode b_D_leave 70 = .ok (.goto (-57), 3) := dk tk_D_leave 38
theorem d_D_leave_73 : decode b_D_leave 73 = .ok (.return_, 1) := dk tk_D_leave 39
def tb_D_reduce : List (Nat × Instr × Nat) := [(0, .aload_n 1, 1), (1, .aload_n 0, 1), (2, .getfield 9, 3), (5, .invokestatic 66, 3), (8, .ifCond .ge 4, 3), (11, .return_, 1), (12, .aload_n 1, 1), (13, .bipush 16, 2), (15, .aload_n 0, 1), (16, .getfield 9, 3), (19, .aload_n 0, 1), (20, .getfield 28, 3), (23, .invokestatic 74, 3), (26, .aload_n 0, 1), (27, .getfield 28, 3), (30, .iconst 0, 1), (31, .aload_n 1, 1), (32, .iconst 0, 1), (33, .bipush 16, 2), (35, .invokestatic 78, 3), (38, .return_, 1)]
theorem tk_D_reduce : tb_D_reduce.all (fun r => decide (decode b_D_reduce r.1 = .ok r.2)) = true := by decide +kernel
theorem d_D_reduce_0 : decode b_D_reduce 0 = .ok (.aload_n 1, 1) := dk tk_D_reduce 0
theorem d_D_reduce_1 : decode b_D_reduce 1 = .ok (.aload_n 0, 1) := dk tk_D_reduce 1
theorem d_D_reduce_2 : decode b_D_reduce 2 = .ok (.getfield 9, 3) := dk tk_D_reduce 2
theorem d_D_reduce_5 : decode b_D_reduce 5 = .ok (.invokestatic 66, 3) := dk tk_D_reduce 3
theorem d_D_reduce_8 : decode b_D_reduce 8 = .ok (.ifCond .ge 4, 3) := dk tk_D_reduce 4
theorem d_D_reduce_11 : decode b_D_reduce 11 = .ok (.return_, 1) := dk tk_D_reduce 5
theorem d_D_reduce_12 : decode b_D_reduce 12 = .ok (.aload_n 1, 1) := dk tk_D_reduce 6
theorem d_D_reduce_13 : decode b_D_reduce 13 = .ok (.bipush 16, 2) := dk tk_D_reduce 7
theorem d_D_reduce_15 : decode b_D_reduce 15 = .ok (.aload_n 0, 1) := dk tk_D_reduce 8
theorem d_D_reduce_16 : decode b_D_reduce 16 = .ok (.getfield 9, 3) := dk tk_D_reduce 9
theorem d_D_reduce_19 : decode b_D_reduce 19 = .ok (.aload_n 0, 1) := dk tk_D_reduce 10
theorem d_D_reduce_20 : decode b_D_reduce 20 = .ok (.getfield 28, 3) := dk tk_D_reduce 11
theorem d_D_reduce_23 : decode b_D_reduce 23 = .ok (.invokestatic 74, 3) := dk tk_D_reduce 12
theorem d_D_reduce_26 : decode b_D_reduce 26 = .ok (.aload_n 0, 1) := dk tk_D_reduce 13
theorem d_D_reduce_27 : decode b_D_reduce 27 = .ok (.getfield 28, 3) := dk tk_D_reduce 14
theorem d_D_reduce_30 : decode b_D_reduce 30 = .ok (.iconst 0, 1) := dk tk_D_reduce 15
theorem d_D_reduce_31 : decode b_D_reduce 31 = .ok (.aload_n 1, 1) := dk tk_D_reduce 16
theorem d_D_reduce_32 : decode b_D_reduce 32 = .ok (.iconst 0, 1) := dk tk_D_reduce 17
theorem d_D_reduce_33 : decode b_D_reduce 33 = .ok (.bipush 16, 2) := dk tk_D_reduce 18
theorem d_D_reduce_35 : decode b_D_reduce 35 = .ok (.invokestatic 78, 3) := dk tk_D_reduce 19
theorem d_D_reduce_38 : decode b_D_reduce 38 = .ok (.return_, 1) := dk tk_D_reduce 20
def tb_D_times : List (Nat × Instr × Nat) := [(0, .aload_n 3, 1), (1, .iconst 0, 1), (2, .iload_n 2, 1), (3, .iconst 0, 1), (4, .invokestatic 56, 3), (7, .iconst 0, 1), (8, .istore 4, 2), (10, .iload 4, 2), (12, .bipush 16, 2), (14, .if_icmp .ge 116, 3), (17, .iload 4, 2), (19, .iload_n 2, 1), (20, .if_icmp .ge 110, 3), (23, .lconst 0, 1), (24, .lstore 5, 2), (26, .iconst 0, 1), (27, .istore 7, 2), (29, .iload 7, 2), (31, .bipush 16, 2), (33, .if_icmp .ge 72, 3), (36, .iload 4, 2), (38, .iload 7, 2), (40, .iadd, 1), (41, .iload_n 2, 1), (42, .if_icmp .ge 63, 3), (45, .lload 5, 2), (47, .aload_n 0, 1), (48, .iload 4, 2), (50, .iaload, 1), (51, .i2l, 1), (52, .ldc2_w 54, 3), (55, .land, 1), (56, .aload_n 1, 1), (57, .iload 7, 2), (59, .iaload, 1), (60, .i2l, 1), (61, .ldc2_w 54, 3), (64, .land, 1), (65, .lmul, 1), (66, .aload_n 3, 1), (67, .iload 4, 2), (69, .iload 7, 2), (71, .iadd, 1), (72, .iaload, 1), (73, .i2l, 1), (74, .ldc2_w 54, 3), (77, .land, 1), (78, .ladd, 1), (79, .ladd, 1), (80, .lstore 5, 2), (82, .aload_n 3, 1), (83, .iload 4, 2), (85, .iload 7, 2), (87, .iadd, 1), (88, .lload 5, 2), (90, .l2i, 1), (91, .iastore, 1), (92, .lload 5, 2), (94, .bipush 32, 2), (96, .lushr, 1), (97, .lstore 5, 2), (99, .iinc 7 1, 3), (102, .goto (-73), 3), (105, .iload 4, 2), (107, .bipush 16, 2), (109, .iadd, 1), (110, .iload_n 2, 1), (111, .if_icmp .ge 13, 3), (114, .aload_n 3, 1), (115, .iload 4, 2), (117, .bipush 16, 2), (119, .iadd, 1), (120, .lload 5, 2), (122, .l2i, 1), (123, .iastore, 1), (124, .iinc 4 1, 3), (127, .goto (-117), 3), (130, .return_, 1)]
theorem tk_D_times : tb_D_times.all (fun r => decide (decode b_D_times r.1 = .ok r.2)) = true := by decide +kernel
theorem d_D_times_0 : decode b_D_times 0 = .ok (.aload_n 3, 1) := dk tk_D_times 0
theorem d_D_times_1 : decode b_D_times 1 = .ok (.iconst 0, 1) := dk tk_D_times 1
theorem d_D_times_2 : decode b_D_times 2 = .ok (.iload_n 2, 1) := dk tk_D_times 2
theorem d_D_times_3 : decode b_D_times 3 = .ok (.iconst 0, 1) := dk tk_D_times 3
theorem d_D_times_4 : decode b_D_times 4 = .ok (.invokestatic 56, 3) := dk tk_D_times 4
theorem d_D_times_7 : decode b_D_times 7 = .ok (.iconst 0, 1) := dk tk_D_times 5
theorem d_D_times_8 : decode b_D_times 8 = .ok (.istore 4, 2) := dk tk_D_times 6
theorem d_D_times_10 : decode b_D_times 10 = .ok (.iload 4, 2) := dk tk_D_times 7
theorem d_D_times_12 : decode b_D_times 12 = .ok (.bipush 16, 2) := dk tk_D_times 8
theorem d_D_times_14 : decode b_D_times 14 = .ok (.if_icmp .ge 116, 3) := dk tk_D_times 9
theorem d_D_times_17 : decode b_D_times 17 = .ok (.iload 4, 2) := dk tk_D_times 10
theorem d_D_times_19 : decode b_D_times 19 = .ok (.iload_n 2, 1) := dk tk_D_times 11
theorem d_D_times_20 : decode b_D_times 20 = .ok (.if_icmp .ge 110, 3) := dk tk_D_times 12
theorem d_D_times_23 : decode b_D_times 23 = .ok (.lconst 0, 1) := dk tk_D_times 13
theorem d_D_times_24 : decode b_D_times 24 = .ok (.lstore 5, 2) := dk tk_D_times 14
theorem d_D_times_26 : decode b_D_times 26 = .ok (.iconst 0, 1) := dk tk_D_times 15
theorem d_D_times_27 : decode b_D_times 27 = .ok (.istore 7, 2) := dk tk_D_times 16
theorem d_D_times_29 : decode b_D_times 29 = .ok (.iload 7, 2) := dk tk_D_times 17
theorem d_D_times_31 : decode b_D_times 31 = .ok (.bipush 16, 2) := dk tk_D_times 18
theorem d_D_times_33 : decode b_D_times 33 = .ok (.if_icmp .ge 72, 3) := dk tk_D_times 19
theorem d_D_times_36 : decode b_D_times 36 = .ok (.iload 4, 2) := dk tk_D_times 20
theorem d_D_times_38 : decode b_D_times 38 = .ok (.iload 7, 2) := dk tk_D_times 21
theorem d_D_times_40 : decode b_D_times 40 = .ok (.iadd, 1) := dk tk_D_times 22
theorem d_D_times_41 : decode b_D_times 41 = .ok (.iload_n 2, 1) := dk tk_D_times 23
theorem d_D_times_42 : decode b_D_times 42 = .ok (.if_icmp .ge 63, 3) := dk tk_D_times 24
theorem d_D_times_45 : decode b_D_times 45 = .ok (.lload 5, 2) := dk tk_D_times 25
theorem d_D_times_47 : decode b_D_times 47 = .ok (.aload_n 0, 1) := dk tk_D_times 26
theorem d_D_times_48 : decode b_D_times 48 = .ok (.iload 4, 2) := dk tk_D_times 27
theorem d_D_times_50 : decode b_D_times 50 = .ok (.iaload, 1) := dk tk_D_times 28
theorem d_D_times_51 : decode b_D_times 51 = .ok (.i2l, 1) := dk tk_D_times 29
theorem d_D_times_52 : decode b_D_times 52 = .ok (.ldc2_w 54, 3) := dk tk_D_times 30
theorem d_D_times_55 : decode b_D_times 55 = .ok (.land, 1) := dk tk_D_times 31
theorem d_D_times_56 : decode b_D_times 56 = .ok (.aload_n 1, 1) := dk tk_D_times 32
theorem d_D_times_57 : decode b_D_times 57 = .ok (.iload 7, 2) := dk tk_D_times 33
theorem d_D_times_59 : decode b_D_times 59 = .ok (.iaload, 1) := dk tk_D_times 34
theorem d_D_times_60 : decode b_D_times 60 = .ok (.i2l, 1) := dk tk_D_times 35
theorem d_D_times_61 : decode b_D_times 61 = .ok (.ldc2_w 54, 3) := dk tk_D_times 36
theorem d_D_times_64 : decode b_D_times 64 = .ok (.land, 1) := dk tk_D_times 37
theorem d_D_times_65 : decode b_D_times 65 = .ok (.lmul, 1) := dk tk_D_times 38
theorem d_D_times_66 : decode b_D_times 66 = .ok (.aload_n 3, 1) := dk tk_D_times 39
theorem d_D_times_67 : decode b_D_times 67 = .ok (.iload 4, 2) := dk tk_D_times 40
theorem d_D_times_69 : decode b_D_times 69 = .ok (.iload 7, 2) := dk tk_D_times 41
theorem d_D_times_71 : decode b_D_times 71 = .ok (.iadd, 1) := dk tk_D_times 42
theorem d_D_times_72 : decode b_D_times 72 = .ok (.iaload, 1) := dk tk_D_times 43
theorem d_D_times_73 : decode b_D_times 73 = .ok (.i2l, 1) := dk tk_D_times 44
theorem d_D_times_74 : decode b_D_times 74 = .ok (.ldc2_w 54, 3) := dk tk_D_times 45
theorem d_D_times_77 : decode b_D_times 77 = .ok (.land, 1) := dk tk_D_times 46
theorem d_D_times_78 : decode b_D_times 78 = .ok (.ladd, 1) := dk tk_D_times 47
theorem d_D_times_79 : decode b_D_times 79 = .ok (.ladd, 1) := dk tk_D_times 48
theorem d_D_times_80 : decode b_D_times 80 = .ok (.lstore 5, 2) := dk tk_D_times 49
theorem d_D_times_82 : decode b_D_times 82 = .ok (.aload_n 3, 1) := dk tk_D_times 50
theorem d_D_times_83 : decode b_D_times 83 = .ok (.iload 4, 2) := dk tk_D_times 51
theorem d_D_times_85 : decode b_D_times 85 = .ok (.iload 7, 2) := dk tk_D_times 52
theorem d_D_times_87 : decode b_D_times 87 = .ok (.iadd, 1) := dk tk_D_times 53
theorem d_D_times_88 : decode b_D_times 88 = .ok (.lload 5, 2) := dk tk_D_times 54
theorem d_D_times_90 : decode b_D_times 90 = .ok (.l2i, 1) := dk tk_D_times 55
theorem d_D_times_91 : decode b_D_times 91 = .ok (.iastore, 1) := dk tk_D_times 56
theorem d_D_times_92 : decode b_D_times 92 = .ok (.lload 5, 2) := dk tk_D_times 57
theorem d_D_times_94 : decode b_D_times 94 = .ok (.bipush 32, 2) := dk tk_D_times 58
theorem d_D_times_96 : decode b_D_times 96 = .ok (.lushr, 1) := dk tk_D_times 59
theorem d_D_times_97 : decode b_D_times 97 = .ok (.lstore 5, 2) := dk tk_D_times 60
theorem d_D_times_99 : decode b_D_times 99 = .ok (.iinc 7 1, 3) := dk tk_D_times 61
theorem d_D_times_102 : decode b_D_times 102 = .ok (.goto (-73), 3) := dk tk_D_times 62
theorem d_D_times_105 : decode b_D_times 105 = .ok (.iload 4, 2) := dk tk_D_times 63
theorem d_D_times_107 : decode b_D_times 107 = .ok (.bipush 16, 2) := dk tk_D_times 64
theorem d_D_times_109 : decode b_D_times 109 = .ok (.iadd, 1) := dk tk_D_times 65
theorem d_D_times_110 : decode b_D_times 110 = .ok (.iload_n 2, 1) := dk tk_D_times 66
theorem d_D_times_111 : decode b_D_times 111 = .ok (.if_icmp .ge 13, 3) := dk tk_D_times 67
theorem d_D_times_114 : decode b_D_times 114 = .ok (.aload_n 3, 1) := dk tk_D_times 68
theorem d_D_times_115 : decode b_D_times 115 = .ok (.iload 4, 2) := dk tk_D_times 69
theorem d_D_times_117 : decode b_D_times 117 = .ok (.bipush 16, 2) := dk tk_D_times 70
theorem d_D_times_119 : decode b_D_times 119 = .ok (.iadd, 1) := dk tk_D_times 71
theorem d_D_times_120 : decode b_D_times 120 = .ok (.lload 5, 2) := dk tk_D_times 72
theorem d_D_times_122 : decode b_D_times 122 = .ok (.l2i, 1) := dk tk_D_times 73
theorem d_D_times_123 : decode b_D_times 123 = .ok (.iastore, 1) := dk tk_D_times 74
theorem d_D_times_124 : decode b_D_times 124 = .ok (.iinc 4 1, 3) := dk tk_D_times 75
theorem d_D_times_127 : decode b_D_times 127 = .ok (.goto (-117), 3) := dk tk_D_times 76
theorem d_D_times_130 : decode b_D_times 130 = .ok (.return_, 1) := dk tk_D_times 77
def tb_D_modulus : List (Nat × Instr × Nat) := [(0, .aload_n 0, 1), (1, .getfield 9, 3), (4, .iload_n 1, 1), (5, .iload_n 2, 1), (6, .iload_n 3, 1), (7, .iload 4, 2), (9, .iload 5, 2), (11, .invokestatic 84, 3), (14, .iconst 0, 1), (15, .istore 6, 2), (17, .iconst 1, 1), (18, .istore 7, 2), (20, .iload 7, 2), (22, .bipush 16, 2), (24, .if_icmp .ge 21, 3), (27, .iload 6, 2), (29, .aload_n 0, 1), (30, .getfield 9, 3), (33, .iload 7, 2), (35, .iaload, 1), (36, .ior, 1), (37, .istore 6, 2), (39, .iinc 7 1, 3), (42, .goto (-22), 3), (45, .iload 6, 2), (47, .ifCond .ne 22, 3), (50, .aload_n 0, 1), (51, .getfield 9, 3), (54, .iconst 0, 1), (55, .iaload, 1), (56, .bipush (-2), 2), (58, .iand, 1), (59, .ifCond .ne 10, 3), (62, .aload_n 0, 1), (63, .getfield 9, 3), (66, .iconst 0, 1), (67, .iconst 2, 1), (68, .iastore, 1), (69, .aload_n 0, 1), (70, .aload_n 0, 1), (71, .getfield 13, 3), (74, .invokevirtual 88, 3), (77, .aload_n 0, 1), (78, .aload_n 0, 1), (79, .getfield 19, 3), (82, .invokevirtual 88, 3), (85, .return_, 1)]
theorem tk_D_modulus : tb_D_modulus.all (fun r => decide (decode b_D_modulus r.1 = .ok r.2)) = true := by decide +kernel
theorem d_D_modulus_0 : decode b_D_modulus 0 = .ok (.aload_n 0, 1) := dk tk_D_modulus 0
theorem d_D_modulus_1 : decode b_D_modulus 1 = .ok (.getfield 9, 3) := dk tk_D_modulus 1
theorem d_D_modulus_4 : decode b_D_modulus 4 = .ok (.iload_n 1, 1) := dk tk_D_modulus 2
theorem d_D_modulus_5 : decode b_D_modulus 5 = .ok (.iload_n 2, 1) := dk tk_D_modulus 3
theorem d_D_modulus_6 : decode b_D_modulus 6 = .ok (.iload_n 3, 1) := dk tk_D_modulus 4
theorem d_D_modulus_7 : decode b_D_modulus 7 = .ok (.iload 4, 2) := dk tk_D_modulus 5
theorem d_D_modulus_9 : decode b_D_modulus 9 = .ok (.iload 5, 2) := dk tk_D_modulus 6
theorem d_D_modulus_11 : decode b_D_modulus 11 = .ok (.invokestatic 84, 3) := dk tk_D_modulus 7
theorem d_D_modulus_14 : decode b_D_modulus 14 = .ok (.iconst 0, 1) := dk tk_D_modulus 8
theorem d_D_modulus_15 : decode b_D_modulus 15 = .ok (.istore 6, 2) := dk tk_D_modulus 9
theorem d_D_modulus_17 : decode b_D_modulus 17 = .ok (.iconst 1, 1) := dk tk_D_modulus 10
theorem d_D_modulus_18 : decode b_D_modulus 18 = .ok (.istore 7, 2) := dk tk_D_modulus 11
theorem d_D_modulus_20 : decode b_D_modulus 20 = .ok (.iload 7, 2) := dk tk_D_modulus 12
theorem d_D_modulus_22 : decode b_D_modulus 22 = .ok (.bipush 16, 2) := dk tk_D_modulus 13
theorem d_D_modulus_24 : decode b_D_modulus 24 = .ok (.if_icmp .ge 21, 3) := dk tk_D_modulus 14
theorem d_D_modulus_27 : decode b_D_modulus 27 = .ok (.iload 6, 2) := dk tk_D_modulus 15
theorem d_D_modulus_29 : decode b_D_modulus 29 = .ok (.aload_n 0, 1) := dk tk_D_modulus 16
theorem d_D_modulus_30 : decode b_D_modulus 30 = .ok (.getfield 9, 3) := dk tk_D_modulus 17
theorem d_D_modulus_33 : decode b_D_modulus 33 = .ok (.iload 7, 2) := dk tk_D_modulus 18
theorem d_D_modulus_35 : decode b_D_modulus 35 = .ok (.iaload, 1) := dk tk_D_modulus 19
theorem d_D_modulus_36 : decode b_D_modulus 36 = .ok (.ior, 1) := dk tk_D_modulus 20
theorem d_D_modulus_37 : decode b_D_modulus 37 = .ok (.istore 6, 2) := dk tk_D_modulus 21
theorem d_D_modulus_39 : decode b_D_modulus 39 = .ok (.iinc 7 1, 3) := dk tk_D_modulus 22
theorem d_D_modulus_42 : decode b_D_modulus 42 = .ok (.goto (-22), 3) := dk tk_D_modulus 23
theorem d_D_modulus_45 : decode b_D_modulus 45 = .ok (.iload 6, 2) := dk tk_D_modulus 24
theorem d_D_modulus_47 : decode b_D_modulus 47 = .ok (.ifCond .ne 22, 3) := dk tk_D_modulus 25
theorem d_D_modulus_50 : decode b_D_modulus 50 = .ok (.aload_n 0, 1) := dk tk_D_modulus 26
theorem d_D_modulus_51 : decode b_D_modulus 51 = .ok (.getfield 9, 3) := dk tk_D_modulus 27
theorem d_D_modulus_54 : decode b_D_modulus 54 = .ok (.iconst 0, 1) := dk tk_D_modulus 28
theorem d_D_modulus_55 : decode b_D_modulus 55 = .ok (.iaload, 1) := dk tk_D_modulus 29
theorem d_D_modulus_56 : decode b_D_modulus 56 = .ok (.bipush (-2), 2) := dk tk_D_modulus 30
theorem d_D_modulus_58 : decode b_D_modulus 58 = .ok (.iand, 1) := dk tk_D_modulus 31
theorem d_D_modulus_59 : decode b_D_modulus 59 = .ok (.ifCond .ne 10, 3) := dk tk_D_modulus 32
theorem d_D_modulus_62 : decode b_D_modulus 62 = .ok (.aload_n 0, 1) := dk tk_D_modulus 33
theorem d_D_modulus_63 : decode b_D_modulus 63 = .ok (.getfield 9, 3) := dk tk_D_modulus 34
theorem d_D_modulus_66 : decode b_D_modulus 66 = .ok (.iconst 0, 1) := dk tk_D_modulus 35
theorem d_D_modulus_67 : decode b_D_modulus 67 = .ok (.iconst 2, 1) := dk tk_D_modulus 36
theorem d_D_modulus_68 : decode b_D_modulus 68 = .ok (.iastore, 1) := dk tk_D_modulus 37
theorem d_D_modulus_69 : decode b_D_modulus 69 = .ok (.aload_n 0, 1) := dk tk_D_modulus 38
theorem d_D_modulus_70 : decode b_D_modulus 70 = .ok (.aload_n 0, 1) := dk tk_D_modulus 39
theorem d_D_modulus_71 : decode b_D_modulus 71 = .ok (.getfield 13, 3) := dk tk_D_modulus 40
theorem d_D_modulus_74 : decode b_D_modulus 74 = .ok (.invokevirtual 88, 3) := dk tk_D_modulus 41
theorem d_D_modulus_77 : decode b_D_modulus 77 = .ok (.aload_n 0, 1) := dk tk_D_modulus 42
theorem d_D_modulus_78 : decode b_D_modulus 78 = .ok (.aload_n 0, 1) := dk tk_D_modulus 43
theorem d_D_modulus_79 : decode b_D_modulus 79 = .ok (.getfield 19, 3) := dk tk_D_modulus 44
theorem d_D_modulus_82 : decode b_D_modulus 82 = .ok (.invokevirtual 88, 3) := dk tk_D_modulus 45
theorem d_D_modulus_85 : decode b_D_modulus 85 = .ok (.return_, 1) := dk tk_D_modulus 46
def tb_D_base : List (Nat × Instr × Nat) := [(0, .aload_n 0, 1), (1, .getfield 13, 3), (4, .iload_n 1, 1), (5, .iload_n 2, 1), (6, .iload_n 3, 1), (7, .iload 4, 2), (9, .iload 5, 2), (11, .invokestatic 84, 3), (14, .aload_n 0, 1), (15, .aload_n 0, 1), (16, .getfield 13, 3), (19, .invokevirtual 88, 3), (22, .return_, 1)]
theorem tk_D_base : tb_D_base.all (fun r => decide (decode b_D_base r.1 = .ok r.2)) = true := by decide +kernel
theorem d_D_base_0 : decode b_D_base 0 = .ok (.aload_n 0, 1) := dk tk_D_base 0
theorem d_D_base_1 : decode b_D_base 1 = .ok (.getfield 13, 3) := dk tk_D_base 1
theorem d_D_base_4 : decode b_D_base 4 = .ok (.iload_n 1, 1) := dk tk_D_base 2
theorem d_D_base_5 : decode b_D_base 5 = .ok (.iload_n 2, 1) := dk tk_D_base 3
theorem d_D_base_6 : decode b_D_base 6 = .ok (.iload_n 3, 1) := dk tk_D_base 4
theorem d_D_base_7 : decode b_D_base 7 = .ok (.iload 4, 2) := dk tk_D_base 5
theorem d_D_base_9 : decode b_D_base 9 = .ok (.iload 5, 2) := dk tk_D_base 6
theorem d_D_base_11 : decode b_D_base 11 = .ok (.invokestatic 84, 3) := dk tk_D_base 7
theorem d_D_base_14 : decode b_D_base 14 = .ok (.aload_n 0, 1) := dk tk_D_base 8
theorem d_D_base_15 : decode b_D_base 15 = .ok (.aload_n 0, 1) := dk tk_D_base 9
theorem d_D_base_16 : decode b_D_base 16 = .ok (.getfield 13, 3) := dk tk_D_base 10
theorem d_D_base_19 : decode b_D_base 19 = .ok (.invokevirtual 88, 3) := dk tk_D_base 11
theorem d_D_base_22 : decode b_D_base 22 = .ok (.return_, 1) := dk tk_D_base 12
def tb_D_power : List (Nat × Instr × Nat) := [(0, .aload_n 0, 1), (1, .getfield 16, 3), (4, .iload_n 1, 1), (5, .iload_n 2, 1), (6, .iload_n 3, 1), (7, .iload 4, 2), (9, .iload 5, 2), (11, .invokestatic 84, 3), (14, .return_, 1)]
theorem tk_D_power : tb_D_power.all (fun r => decide (decode b_D_power r.1 = .ok r.2)) = true := by decide +kernel
theorem d_D_power_0 : decode b_D_power 0 = .ok (.aload_n 0, 1) := dk tk_D_power 0
theorem d_D_power_1 : decode b_D_power 1 = .ok (.getfield 16, 3) := dk tk_D_power 1
theorem d_D_power_4 : decode b_D_power 4 = .ok (.iload_n 1, 1) := dk tk_D_power 2
theorem d_D_power_5 : decode b_D_power 5 = .ok (.iload_n 2, 1) := dk tk_D_power 3
theorem d_D_power_6 : decode b_D_power 6 = .ok (.iload_n 3, 1) := dk tk_D_power 4
theorem d_D_power_7 : decode b_D_power 7 = .ok (.iload 4, 2) := dk tk_D_power 5
theorem d_D_power_9 : decode b_D_power 9 = .ok (.iload 5, 2) := dk tk_D_power 6
theorem d_D_power_11 : decode b_D_power 11 = .ok (.invokestatic 84, 3) := dk tk_D_power 7
theorem d_D_power_14 : decode b_D_power 14 = .ok (.return_, 1) := dk tk_D_power 8
def tb_D_multiply : List (Nat × Instr × Nat) := [(0, .aload_n 0, 1), (1, .getfield 19, 3), (4, .aload_n 0, 1), (5, .getfield 13, 3), (8, .bipush 32, 2), (10, .aload_n 0, 1), (11, .getfield 25, 3), (14, .invokestatic 92, 3), (17, .aload_n 0, 1), (18, .getfield 25, 3), (21, .bipush 32, 2), (23, .aload_n 0, 1), (24, .getfield 9, 3), (27, .aload_n 0, 1), (28, .getfield 28, 3), (31, .invokestatic 74, 3), (34, .aload_n 0, 1), (35, .getfield 28, 3), (38, .iconst 0, 1), (39, .aload_n 0, 1), (40, .getfield 19, 3), (43, .iconst 0, 1), (44, .bipush 16, 2), (46, .invokestatic 78, 3), (49, .return_, 1)]
theorem tk_D_multiply : tb_D_multiply.all (fun r => decide (decode b_D_multiply r.1 = .ok r.2)) = true := by decide +kernel
theorem d_D_multiply_0 : decode b_D_multiply 0 = .ok (.aload_n 0, 1) := dk tk_D_multiply 0
theorem d_D_multiply_1 : decode b_D_multiply 1 = .ok (.getfield 19, 3) := dk tk_D_multiply 1
theorem d_D_multiply_4 : decode b_D_multiply 4 = .ok (.aload_n 0, 1) := dk tk_D_multiply 2
theorem d_D_multiply_5 : decode b_D_multiply 5 = .ok (.getfield 13, 3) := dk tk_D_multiply 3
theorem d_D_multiply_8 : decode b_D_multiply 8 = .ok (.bipush 32, 2) := dk tk_D_multiply 4
theorem d_D_multiply_10 : decode b_D_multiply 10 = .ok (.aload_n 0, 1) := dk tk_D_multiply 5
theorem d_D_multiply_11 : decode b_D_multiply 11 = .ok (.getfield 25, 3) := dk tk_D_multiply 6
theorem d_D_multiply_14 : decode b_D_multiply 14 = .ok (.invokestatic 92, 3) := dk tk_D_multiply 7
theorem d_D_multiply_17 : decode b_D_multiply 17 = .ok (.aload_n 0, 1) := dk tk_D_multiply 8
theorem d_D_multiply_18 : decode b_D_multiply 18 = .ok (.getfield 25, 3) := dk tk_D_multiply 9
theorem d_D_multiply_21 : decode b_D_multiply 21 = .ok (.bipush 32, 2) := dk tk_D_multiply 10
theorem d_D_multiply_23 : decode b_D_multiply 23 = .ok (.aload_n 0, 1) := dk tk_D_multiply 11
theorem d_D_multiply_24 : decode b_D_multiply 24 = .ok (.getfield 9, 3) := dk tk_D_multiply 12
theorem d_D_multiply_27 : decode b_D_multiply 27 = .ok (.aload_n 0, 1) := dk tk_D_multiply 13
theorem d_D_multiply_28 : decode b_D_multiply 28 = .ok (.getfield 28, 3) := dk tk_D_multiply 14
theorem d_D_multiply_31 : decode b_D_multiply 31 = .ok (.invokestatic 74, 3) := dk tk_D_multiply 15
theorem d_D_multiply_34 : decode b_D_multiply 34 = .ok (.aload_n 0, 1) := dk tk_D_multiply 16
theorem d_D_multiply_35 : decode b_D_multiply 35 = .ok (.getfield 28, 3) := dk tk_D_multiply 17
theorem d_D_multiply_38 : decode b_D_multiply 38 = .ok (.iconst 0, 1) := dk tk_D_multiply 18
theorem d_D_multiply_39 : decode b_D_multiply 39 = .ok (.aload_n 0, 1) := dk tk_D_multiply 19
theorem d_D_multiply_40 : decode b_D_multiply 40 = .ok (.getfield 19, 3) := dk tk_D_multiply 20
theorem d_D_multiply_43 : decode b_D_multiply 43 = .ok (.iconst 0, 1) := dk tk_D_multiply 21
theorem d_D_multiply_44 : decode b_D_multiply 44 = .ok (.bipush 16, 2) := dk tk_D_multiply 22
theorem d_D_multiply_46 : decode b_D_multiply 46 = .ok (.invokestatic 78, 3) := dk tk_D_multiply 23
theorem d_D_multiply_49 : decode b_D_multiply 49 = .ok (.return_, 1) := dk tk_D_multiply 24
def tb_D_keep : List (Nat × Instr × Nat) := [(0, .aload_n 0, 1), (1, .getfield 19, 3), (4, .iconst 0, 1), (5, .aload_n 0, 1), (6, .getfield 13, 3), (9, .iconst 0, 1), (10, .bipush 16, 2), (12, .invokestatic 78, 3), (15, .return_, 1)]
theorem tk_D_keep : tb_D_keep.all (fun r => decide (decode b_D_keep r.1 = .ok r.2)) = true := by decide +kernel
theorem d_D_keep_0 : decode b_D_keep 0 = .ok (.aload_n 0, 1) := dk tk_D_keep 0
theorem d_D_keep_1 : decode b_D_keep 1 = .ok (.getfield 19, 3) := dk tk_D_keep 1
theorem d_D_keep_4 : decode b_D_keep 4 = .ok (.iconst 0, 1) := dk tk_D_keep 2
theorem d_D_keep_5 : decode b_D_keep 5 = .ok (.aload_n 0, 1) := dk tk_D_keep 3
theorem d_D_keep_6 : decode b_D_keep 6 = .ok (.getfield 13, 3) := dk tk_D_keep 4
theorem d_D_keep_9 : decode b_D_keep 9 = .ok (.iconst 0, 1) := dk tk_D_keep 5
theorem d_D_keep_10 : decode b_D_keep 10 = .ok (.bipush 16, 2) := dk tk_D_keep 6
theorem d_D_keep_12 : decode b_D_keep 12 = .ok (.invokestatic 78, 3) := dk tk_D_keep 7
theorem d_D_keep_15 : decode b_D_keep 15 = .ok (.return_, 1) := dk tk_D_keep 8
def tb_D_answer : List (Nat × Instr × Nat) := [(0, .aload_n 0, 1), (1, .getfield 19, 3), (4, .iload_n 1, 1), (5, .bipush 15, 2), (7, .iand, 1), (8, .iaload, 1), (9, .ireturn, 1)]
theorem tk_D_answer : tb_D_answer.all (fun r => decide (decode b_D_answer r.1 = .ok r.2)) = true := by decide +kernel
theorem d_D_answer_0 : decode b_D_answer 0 = .ok (.aload_n 0, 1) := dk tk_D_answer 0
theorem d_D_answer_1 : decode b_D_answer 1 = .ok (.getfield 19, 3) := dk tk_D_answer 1
theorem d_D_answer_4 : decode b_D_answer 4 = .ok (.iload_n 1, 1) := dk tk_D_answer 2
theorem d_D_answer_5 : decode b_D_answer 5 = .ok (.bipush 15, 2) := dk tk_D_answer 3
theorem d_D_answer_7 : decode b_D_answer 7 = .ok (.iand, 1) := dk tk_D_answer 4
theorem d_D_answer_8 : decode b_D_answer 8 = .ok (.iaload, 1) := dk tk_D_answer 5
theorem d_D_answer_9 : decode b_D_answer 9 = .ok (.ireturn, 1) := dk tk_D_answer 6
def tb_D_factor : List (Nat × Instr × Nat) := [(0, .aload_n 0, 1), (1, .getfield 13, 3), (4, .iload_n 1, 1), (5, .bipush 15, 2), (7, .iand, 1), (8, .iaload, 1), (9, .ireturn, 1)]
theorem tk_D_factor : tb_D_factor.all (fun r => decide (decode b_D_factor r.1 = .ok r.2)) = true := by decide +kernel
theorem d_D_factor_0 : decode b_D_factor 0 = .ok (.aload_n 0, 1) := dk tk_D_factor 0
theorem d_D_factor_1 : decode b_D_factor 1 = .ok (.getfield 13, 3) := dk tk_D_factor 1
theorem d_D_factor_4 : decode b_D_factor 4 = .ok (.iload_n 1, 1) := dk tk_D_factor 2
theorem d_D_factor_5 : decode b_D_factor 5 = .ok (.bipush 15, 2) := dk tk_D_factor 3
theorem d_D_factor_7 : decode b_D_factor 7 = .ok (.iand, 1) := dk tk_D_factor 4
theorem d_D_factor_8 : decode b_D_factor 8 = .ok (.iaload, 1) := dk tk_D_factor 5
theorem d_D_factor_9 : decode b_D_factor 9 = .ok (.ireturn, 1) := dk tk_D_factor 6
def tb_D_bit : List (Nat × Instr × Nat) := [(0, .aload_n 0, 1), (1, .getfield 16, 3), (4, .iload_n 1, 1), (5, .iconst 5, 1), (6, .ishr, 1), (7, .iaload, 1), (8, .iload_n 1, 1), (9, .bipush 31, 2), (11, .iand, 1), (12, .iushr, 1), (13, .iconst 1, 1), (14, .iand, 1), (15, .iconst 1, 1), (16, .if_icmp .ne 7, 3), (19, .iconst 1, 1), (20, .goto 4, 3), (23, .iconst 0, 1), (24, .ireturn, 1)]
theorem tk_D_bit : tb_D_bit.all (fun r => decide (decode b_D_bit r.1 = .ok r.2)) = true := by decide +kernel
theorem d_D_bit_0 : decode b_D_bit 0 = .ok (.aload_n 0, 1) := dk tk_D_bit 0
theorem d_D_bit_1 : decode b_D_bit 1 = .ok (.getfield 16, 3) := dk tk_D_bit 1
theorem d_D_bit_4 : decode b_D_bit 4 = .ok (.iload_n 1, 1) := dk tk_D_bit 2
theorem d_D_bit_5 : decode b_D_bit 5 = .ok (.iconst 5, 1) := dk tk_D_bit 3
theorem d_D_bit_6 : decode b_D_bit 6 = .ok (.ishr, 1) := dk tk_D_bit 4
theorem d_D_bit_7 : decode b_D_bit 7 = .ok (.iaload, 1) := dk tk_D_bit 5
theorem d_D_bit_8 : decode b_D_bit 8 = .ok (.iload_n 1, 1) := dk tk_D_bit 6
theorem d_D_bit_9 : decode b_D_bit 9 = .ok (.bipush 31, 2) := dk tk_D_bit 7
theorem d_D_bit_11 : decode b_D_bit 11 = .ok (.iand, 1) := dk tk_D_bit 8
theorem d_D_bit_12 : decode b_D_bit 12 = .ok (.iushr, 1) := dk tk_D_bit 9
theorem d_D_bit_13 : decode b_D_bit 13 = .ok (.iconst 1, 1) := dk tk_D_bit 10
theorem d_D_bit_14 : decode b_D_bit 14 = .ok (.iand, 1) := dk tk_D_bit 11
theorem d_D_bit_15 : decode b_D_bit 15 = .ok (.iconst 1, 1) := dk tk_D_bit 12
theorem d_D_bit_16 : decode b_D_bit 16 = .ok (.if_icmp .ne 7, 3) := dk tk_D_bit 13
theorem d_D_bit_19 : decode b_D_bit 19 = .ok (.iconst 1, 1) := dk tk_D_bit 14
theorem d_D_bit_20 : decode b_D_bit 20 = .ok (.goto 4, 3) := dk tk_D_bit 15
theorem d_D_bit_23 : decode b_D_bit 23 = .ok (.iconst 0, 1) := dk tk_D_bit 16
theorem d_D_bit_24 : decode b_D_bit 24 = .ok (.ireturn, 1) := dk tk_D_bit 17
def tb_D_bits : List (Nat × Instr × Nat) := [(0, .sipush 512, 3), (3, .istore_n 1, 1), (4, .iload_n 1, 1), (5, .ifCond .le 19, 3), (8, .aload_n 0, 1), (9, .iload_n 1, 1), (10, .iconst 1, 1), (11, .isub, 1), (12, .invokevirtual 96, 3), (15, .ifCond .ne 9, 3), (18, .iinc 1 (-1), 3), (21, .goto (-17), 3), (24, .iload_n 1, 1), (25, .ireturn, 1)]
theorem tk_D_bits : tb_D_bits.all (fun r => decide (decode b_D_bits r.1 = .ok r.2)) = true := by decide +kernel
theorem d_D_bits_0 : decode b_D_bits 0 = .ok (.sipush 512, 3) := dk tk_D_bits 0
theorem d_D_bits_3 : decode b_D_bits 3 = .ok (.istore_n 1, 1) := dk tk_D_bits 1
theorem d_D_bits_4 : decode b_D_bits 4 = .ok (.iload_n 1, 1) := dk tk_D_bits 2
theorem d_D_bits_5 : decode b_D_bits 5 = .ok (.ifCond .le 19, 3) := dk tk_D_bits 3
theorem d_D_bits_8 : decode b_D_bits 8 = .ok (.aload_n 0, 1) := dk tk_D_bits 4
theorem d_D_bits_9 : decode b_D_bits 9 = .ok (.iload_n 1, 1) := dk tk_D_bits 5
theorem d_D_bits_10 : decode b_D_bits 10 = .ok (.iconst 1, 1) := dk tk_D_bits 6
theorem d_D_bits_11 : decode b_D_bits 11 = .ok (.isub, 1) := dk tk_D_bits 7
theorem d_D_bits_12 : decode b_D_bits 12 = .ok (.invokevirtual 96, 3) := dk tk_D_bits 8
theorem d_D_bits_15 : decode b_D_bits 15 = .ok (.ifCond .ne 9, 3) := dk tk_D_bits 9
theorem d_D_bits_18 : decode b_D_bits 18 = .ok (.iinc 1 (-1), 3) := dk tk_D_bits 10
theorem d_D_bits_21 : decode b_D_bits 21 = .ok (.goto (-17), 3) := dk tk_D_bits 11
theorem d_D_bits_24 : decode b_D_bits 24 = .ok (.iload_n 1, 1) := dk tk_D_bits 12
theorem d_D_bits_25 : decode b_D_bits 25 = .ok (.ireturn, 1) := dk tk_D_bits 13
def tb_D_raise : List (Nat × Instr × Nat) := [(0, .aload_n 0, 1), (1, .invokevirtual 100, 3), (4, .aload_n 0, 1), (5, .getfield 103, 3), (8, .iconst 1, 1), (9, .if_icmp .ne 22, 3), (12, .aload_n 0, 1), (13, .getfield 22, 3), (16, .iconst 0, 1), (17, .iaload, 1), (18, .iconst 1, 1), (19, .if_icmp .ne 12, 3), (22, .aload_n 0, 1), (23, .aload_n 0, 1), (24, .getfield 19, 3), (27, .invokevirtual 107, 3), (30, .return_, 1), (31, .aload_n 0, 1), (32, .invokevirtual 110, 3), (35, .aload_n 0, 1), (36, .getfield 113, 3), (39, .ifCond .le 7, 3), (42, .aload_n 0, 1), (43, .invokevirtual 116, 3), (46, .return_, 1)]
theorem tk_D_raise : tb_D_raise.all (fun r => decide (decode b_D_raise r.1 = .ok r.2)) = true := by decide +kernel
theorem d_D_raise_0 : decode b_D_raise 0 = .ok (.aload_n 0, 1) := dk tk_D_raise 0
theorem d_D_raise_1 : decode b_D_raise 1 = .ok (.invokevirtual 100, 3) := dk tk_D_raise 1
theorem d_D_raise_4 : decode b_D_raise 4 = .ok (.aload_n 0, 1) := dk tk_D_raise 2
theorem d_D_raise_5 : decode b_D_raise 5 = .ok (.getfield 103, 3) := dk tk_D_raise 3
theorem d_D_raise_8 : decode b_D_raise 8 = .ok (.iconst 1, 1) := dk tk_D_raise 4
theorem d_D_raise_9 : decode b_D_raise 9 = .ok (.if_icmp .ne 22, 3) := dk tk_D_raise 5
theorem d_D_raise_12 : decode b_D_raise 12 = .ok (.aload_n 0, 1) := dk tk_D_raise 6
theorem d_D_raise_13 : decode b_D_raise 13 = .ok (.getfield 22, 3) := dk tk_D_raise 7
theorem d_D_raise_16 : decode b_D_raise 16 = .ok (.iconst 0, 1) := dk tk_D_raise 8
theorem d_D_raise_17 : decode b_D_raise 17 = .ok (.iaload, 1) := dk tk_D_raise 9
theorem d_D_raise_18 : decode b_D_raise 18 = .ok (.iconst 1, 1) := dk tk_D_raise 10
theorem d_D_raise_19 : decode b_D_raise 19 = .ok (.if_icmp .ne 12, 3) := dk tk_D_raise 11
theorem d_D_raise_22 : decode b_D_raise 22 = .ok (.aload_n 0, 1) := dk tk_D_raise 12
theorem d_D_raise_23 : decode b_D_raise 23 = .ok (.aload_n 0, 1) := dk tk_D_raise 13
theorem d_D_raise_24 : decode b_D_raise 24 = .ok (.getfield 19, 3) := dk tk_D_raise 14
theorem d_D_raise_27 : decode b_D_raise 27 = .ok (.invokevirtual 107, 3) := dk tk_D_raise 15
theorem d_D_raise_30 : decode b_D_raise 30 = .ok (.return_, 1) := dk tk_D_raise 16
theorem d_D_raise_31 : decode b_D_raise 31 = .ok (.aload_n 0, 1) := dk tk_D_raise 17
theorem d_D_raise_32 : decode b_D_raise 32 = .ok (.invokevirtual 110, 3) := dk tk_D_raise 18
theorem d_D_raise_35 : decode b_D_raise 35 = .ok (.aload_n 0, 1) := dk tk_D_raise 19
theorem d_D_raise_36 : decode b_D_raise 36 = .ok (.getfield 113, 3) := dk tk_D_raise 20
theorem d_D_raise_39 : decode b_D_raise 39 = .ok (.ifCond .le 7, 3) := dk tk_D_raise 21
theorem d_D_raise_42 : decode b_D_raise 42 = .ok (.aload_n 0, 1) := dk tk_D_raise 22
theorem d_D_raise_43 : decode b_D_raise 43 = .ok (.invokevirtual 116, 3) := dk tk_D_raise 23
theorem d_D_raise_46 : decode b_D_raise 46 = .ok (.return_, 1) := dk tk_D_raise 24
def tb_D_split : List (Nat × Instr × Nat) := [(0, .aload_n 0, 1), (1, .iconst 0, 1), (2, .putfield 113, 3), (5, .aload_n 0, 1), (6, .getfield 9, 3), (9, .aload_n 0, 1), (10, .getfield 113, 3), (13, .iconst 5, 1), (14, .ishr, 1), (15, .iaload, 1), (16, .aload_n 0, 1), (17, .getfield 113, 3), (20, .bipush 31, 2), (22, .iand, 1), (23, .iushr, 1), (24, .iconst 1, 1), (25, .iand, 1), (26, .ifCond .ne 16, 3), (29, .aload_n 0, 1), (30, .dup, 1), (31, .getfield 113, 3), (34, .iconst 1, 1), (35, .iadd, 1), (36, .putfield 113, 3), (39, .goto (-34), 3), (42, .aload_n 0, 1), (43, .getfield 113, 3), (46, .iconst 5, 1), (47, .ishr, 1), (48, .istore_n 1, 1), (49, .aload_n 0, 1), (50, .getfield 113, 3), (53, .bipush 31, 2), (55, .iand, 1), (56, .istore_n 2, 1), (57, .iconst 0, 1), (58, .istore_n 3, 1), (59, .iload_n 3, 1), (60, .bipush 16, 2), (62, .if_icmp .ge 76, 3), (65, .iload_n 3, 1), (66, .iload_n 1, 1), (67, .iadd, 1), (68, .bipush 16, 2), (70, .if_icmp .ge 19, 3), (73, .aload_n 0, 1), (74, .getfield 9, 3), (77, .iload_n 3, 1), (78, .iload_n 1, 1), (79, .iadd, 1), (80, .iaload, 1), (81, .i2l, 1), (82, .ldc2_w 54, 3), (85, .land, 1), (86, .goto 4, 3), (89, .lconst 0, 1), (90, .iload_n 3, 1), (91, .iload_n 1, 1), (92, .iadd, 1), (93, .iconst 1, 1), (94, .iadd, 1), (95, .bipush 16, 2), (97, .if_icmp .ge 20, 3), (100, .aload_n 0, 1), (101, .getfield 9, 3), (104, .iload_n 3, 1), (105, .iload_n 1, 1), (106, .iadd, 1), (107, .iconst 1, 1), (108, .iadd, 1), (109, .iaload, 1), (110, .i2l, 1), (111, .bipush 32, 2), (113, .lshl, 1), (114, .goto 4, 3), (117, .lconst 0, 1), (118, .lor, 1), (119, .lstore 4, 2), (121, .aload_n 0, 1), (122, .getfield 22, 3), (125, .iload_n 3, 1), (126, .lload 4, 2), (128, .iload_n 2, 1), (129, .lushr, 1), (130, .l2i, 1), (131, .iastore, 1), (132, .iinc 3 1, 3), (135, .goto (-76), 3), (138, .aload_n 0, 1), (139, .bipush 16, 2), (141, .putfield 103, 3), (144, .aload_n 0, 1), (145, .getfield 22, 3), (148, .aload_n 0, 1), (149, .getfield 103, 3), (152, .iconst 1, 1), (153, .isub, 1), (154, .iaload, 1), (155, .ifCond .ne 16, 3), (158, .aload_n 0, 1), (159, .dup, 1), (160, .getfield 103, 3), (163, .iconst 1, 1), (164, .isub, 1), (165, .putfield 103, 3), (168, .goto (-24), 3), (171, .aload_n 0, 1), (172, .getfield 22, 3), (175, .iconst 0, 1), (176, .iaload, 1), (177, .istore_n 3, 1), (178, .iconst 0, 1), (179, .istore 4, 2), (181, .iload 4, 2), (183, .iconst 5, 1), (184, .if_icmp .ge 22, 3), (187, .iload_n 3, 1), (188, .iconst 2, 1), (189, .aload_n 0, 1), (190, .getfield 22, 3), (193, .iconst 0, 1), (194, .iaload, 1), (195, .iload_n 3, 1), (196, .imul, 1), (197, .isub, 1), (198, .imul, 1), (199, .istore_n 3, 1), (200, .iinc 4 1, 3), (203, .goto (-22), 3), (206, .aload_n 0, 1), (207, .iload_n 3, 1), (208, .ineg, 1), (209, .putfield 119, 3), (212, .return_, 1)]
theorem tk_D_split : tb_D_split.all (fun r => decide (decode b_D_split r.1 = .ok r.2)) = true := by decide +kernel
theorem d_D_split_0 : decode b_D_split 0 = .ok (.aload_n 0, 1) := dk tk_D_split 0
theorem d_D_split_1 : decode b_D_split 1 = .ok (.iconst 0, 1) := dk tk_D_split 1
theorem d_D_split_2 : decode b_D_split 2 = .ok (.putfield 113, 3) := dk tk_D_split 2
theorem d_D_split_5 : decode b_D_split 5 = .ok (.aload_n 0, 1) := dk tk_D_split 3
theorem d_D_split_6 : decode b_D_split 6 = .ok (.getfield 9, 3) := dk tk_D_split 4
theorem d_D_split_9 : decode b_D_split 9 = .ok (.aload_n 0, 1) := dk tk_D_split 5
theorem d_D_split_10 : decode b_D_split 10 = .ok (.getfield 113, 3) := dk tk_D_split 6
theorem d_D_split_13 : decode b_D_split 13 = .ok (.iconst 5, 1) := dk tk_D_split 7
theorem d_D_split_14 : decode b_D_split 14 = .ok (.ishr, 1) := dk tk_D_split 8
theorem d_D_split_15 : decode b_D_split 15 = .ok (.iaload, 1) := dk tk_D_split 9
theorem d_D_split_16 : decode b_D_split 16 = .ok (.aload_n 0, 1) := dk tk_D_split 10
theorem d_D_split_17 : decode b_D_split 17 = .ok (.getfield 113, 3) := dk tk_D_split 11
theorem d_D_split_20 : decode b_D_split 20 = .ok (.bipush 31, 2) := dk tk_D_split 12
theorem d_D_split_22 : decode b_D_split 22 = .ok (.iand, 1) := dk tk_D_split 13
theorem d_D_split_23 : decode b_D_split 23 = .ok (.iushr, 1) := dk tk_D_split 14
theorem d_D_split_24 : decode b_D_split 24 = .ok (.iconst 1, 1) := dk tk_D_split 15
theorem d_D_split_25 : decode b_D_split 25 = .ok (.iand, 1) := dk tk_D_split 16
theorem d_D_split_26 : decode b_D_split 26 = .ok (.ifCond .ne 16, 3) := dk tk_D_split 17
theorem d_D_split_29 : decode b_D_split 29 = .ok (.aload_n 0, 1) := dk tk_D_split 18
theorem d_D_split_30 : decode b_D_split 30 = .ok (.dup, 1) := dk tk_D_split 19
theorem d_D_split_31 : decode b_D_split 31 = .ok (.getfield 113, 3) := dk tk_D_split 20
theorem d_D_split_34 : decode b_D_split 34 = .ok (.iconst 1, 1) := dk tk_D_split 21
theorem d_D_split_35 : decode b_D_split 35 = .ok (.iadd, 1) := dk tk_D_split 22
theorem d_D_split_36 : decode b_D_split 36 = .ok (.putfield 113, 3) := dk tk_D_split 23
theorem d_D_split_39 : decode b_D_split 39 = .ok (.goto (-34), 3) := dk tk_D_split 24
theorem d_D_split_42 : decode b_D_split 42 = .ok (.aload_n 0, 1) := dk tk_D_split 25
theorem d_D_split_43 : decode b_D_split 43 = .ok (.getfield 113, 3) := dk tk_D_split 26
theorem d_D_split_46 : decode b_D_split 46 = .ok (.iconst 5, 1) := dk tk_D_split 27
theorem d_D_split_47 : decode b_D_split 47 = .ok (.ishr, 1) := dk tk_D_split 28
theorem d_D_split_48 : decode b_D_split 48 = .ok (.istore_n 1, 1) := dk tk_D_split 29
theorem d_D_split_49 : decode b_D_split 49 = .ok (.aload_n 0, 1) := dk tk_D_split 30
theorem d_D_split_50 : decode b_D_split 50 = .ok (.getfield 113, 3) := dk tk_D_split 31
theorem d_D_split_53 : decode b_D_split 53 = .ok (.bipush 31, 2) := dk tk_D_split 32
theorem d_D_split_55 : decode b_D_split 55 = .ok (.iand, 1) := dk tk_D_split 33
theorem d_D_split_56 : decode b_D_split 56 = .ok (.istore_n 2, 1) := dk tk_D_split 34
theorem d_D_split_57 : decode b_D_split 57 = .ok (.iconst 0, 1) := dk tk_D_split 35
theorem d_D_split_58 : decode b_D_split 58 = .ok (.istore_n 3, 1) := dk tk_D_split 36
theorem d_D_split_59 : decode b_D_split 59 = .ok (.iload_n 3, 1) := dk tk_D_split 37
theorem d_D_split_60 : decode b_D_split 60 = .ok (.bipush 16, 2) := dk tk_D_split 38
theorem d_D_split_62 : decode b_D_split 62 = .ok (.if_icmp .ge 76, 3) := dk tk_D_split 39
theorem d_D_split_65 : decode b_D_split 65 = .ok (.iload_n 3, 1) := dk tk_D_split 40
theorem d_D_split_66 : decode b_D_split 66 = .ok (.iload_n 1, 1) := dk tk_D_split 41
theorem d_D_split_67 : decode b_D_split 67 = .ok (.iadd, 1) := dk tk_D_split 42
theorem d_D_split_68 : decode b_D_split 68 = .ok (.bipush 16, 2) := dk tk_D_split 43
theorem d_D_split_70 : decode b_D_split 70 = .ok (.if_icmp .ge 19, 3) := dk tk_D_split 44
theorem d_D_split_73 : decode b_D_split 73 = .ok (.aload_n 0, 1) := dk tk_D_split 45
theorem d_D_split_74 : decode b_D_split 74 = .ok (.getfield 9, 3) := dk tk_D_split 46
theorem d_D_split_77 : decode b_D_split 77 = .ok (.iload_n 3, 1) := dk tk_D_split 47
theorem d_D_split_78 : decode b_D_split 78 = .ok (.iload_n 1, 1) := dk tk_D_split 48
theorem d_D_split_79 : decode b_D_split 79 = .ok (.iadd, 1) := dk tk_D_split 49
theorem d_D_split_80 : decode b_D_split 80 = .ok (.iaload, 1) := dk tk_D_split 50
theorem d_D_split_81 : decode b_D_split 81 = .ok (.i2l, 1) := dk tk_D_split 51
theorem d_D_split_82 : decode b_D_split 82 = .ok (.ldc2_w 54, 3) := dk tk_D_split 52
theorem d_D_split_85 : decode b_D_split 85 = .ok (.land, 1) := dk tk_D_split 53
theorem d_D_split_86 : decode b_D_split 86 = .ok (.goto 4, 3) := dk tk_D_split 54
theorem d_D_split_89 : decode b_D_split 89 = .ok (.lconst 0, 1) := dk tk_D_split 55
theorem d_D_split_90 : decode b_D_split 90 = .ok (.iload_n 3, 1) := dk tk_D_split 56
theorem d_D_split_91 : decode b_D_split 91 = .ok (.iload_n 1, 1) := dk tk_D_split 57
theorem d_D_split_92 : decode b_D_split 92 = .ok (.iadd, 1) := dk tk_D_split 58
theorem d_D_split_93 : decode b_D_split 93 = .ok (.iconst 1, 1) := dk tk_D_split 59
theorem d_D_split_94 : decode b_D_split 94 = .ok (.iadd, 1) := dk tk_D_split 60
theorem d_D_split_95 : decode b_D_split 95 = .ok (.bipush 16, 2) := dk tk_D_split 61
theorem d_D_split_97 : decode b_D_split 97 = .ok (.if_icmp .ge 20, 3) := dk tk_D_split 62
theorem d_D_split_100 : decode b_D_split 100 = .ok (.aload_n 0, 1) := dk tk_D_split 63
theorem d_D_split_101 : decode b_D_split 101 = .ok (.getfield 9, 3) := dk tk_D_split 64
theorem d_D_split_104 : decode b_D_split 104 = .ok (.iload_n 3, 1) := dk tk_D_split 65
theorem d_D_split_105 : decode b_D_split 105 = .ok (.iload_n 1, 1) := dk tk_D_split 66
theorem d_D_split_106 : decode b_D_split 106 = .ok (.iadd, 1) := dk tk_D_split 67
theorem d_D_split_107 : decode b_D_split 107 = .ok (.iconst 1, 1) := dk tk_D_split 68
theorem d_D_split_108 : decode b_D_split 108 = .ok (.iadd, 1) := dk tk_D_split 69
theorem d_D_split_109 : decode b_D_split 109 = .ok (.iaload, 1) := dk tk_D_split 70
theorem d_D_split_110 : decode b_D_split 110 = .ok (.i2l, 1) := dk tk_D_split 71
theorem d_D_split_111 : decode b_D_split 111 = .ok (.bipush 32, 2) := dk tk_D_split 72
theorem d_D_split_113 : decode b_D_split 113 = .ok (.lshl, 1) := dk tk_D_split 73
theorem d_D_split_114 : decode b_D_split 114 = .ok (.goto 4, 3) := dk tk_D_split 74
theorem d_D_split_117 : decode b_D_split 117 = .ok (.lconst 0, 1) := dk tk_D_split 75
theorem d_D_split_118 : decode b_D_split 118 = .ok (.lor, 1) := dk tk_D_split 76
theorem d_D_split_119 : decode b_D_split 119 = .ok (.lstore 4, 2) := dk tk_D_split 77
theorem d_D_split_121 : decode b_D_split 121 = .ok (.aload_n 0, 1) := dk tk_D_split 78
theorem d_D_split_122 : decode b_D_split 122 = .ok (.getfield 22, 3) := dk tk_D_split 79
theorem d_D_split_125 : decode b_D_split 125 = .ok (.iload_n 3, 1) := dk tk_D_split 80
theorem d_D_split_126 : decode b_D_split 126 = .ok (.lload 4, 2) := dk tk_D_split 81
theorem d_D_split_128 : decode b_D_split 128 = .ok (.iload_n 2, 1) := dk tk_D_split 82
theorem d_D_split_129 : decode b_D_split 129 = .ok (.lushr, 1) := dk tk_D_split 83
theorem d_D_split_130 : decode b_D_split 130 = .ok (.l2i, 1) := dk tk_D_split 84
theorem d_D_split_131 : decode b_D_split 131 = .ok (.iastore, 1) := dk tk_D_split 85
theorem d_D_split_132 : decode b_D_split 132 = .ok (.iinc 3 1, 3) := dk tk_D_split 86
theorem d_D_split_135 : decode b_D_split 135 = .ok (.goto (-76), 3) := dk tk_D_split 87
theorem d_D_split_138 : decode b_D_split 138 = .ok (.aload_n 0, 1) := dk tk_D_split 88
theorem d_D_split_139 : decode b_D_split 139 = .ok (.bipush 16, 2) := dk tk_D_split 89
theorem d_D_split_141 : decode b_D_split 141 = .ok (.putfield 103, 3) := dk tk_D_split 90
theorem d_D_split_144 : decode b_D_split 144 = .ok (.aload_n 0, 1) := dk tk_D_split 91
theorem d_D_split_145 : decode b_D_split 145 = .ok (.getfield 22, 3) := dk tk_D_split 92
theorem d_D_split_148 : decode b_D_split 148 = .ok (.aload_n 0, 1) := dk tk_D_split 93
theorem d_D_split_149 : decode b_D_split 149 = .ok (.getfield 103, 3) := dk tk_D_split 94
theorem d_D_split_152 : decode b_D_split 152 = .ok (.iconst 1, 1) := dk tk_D_split 95
theorem d_D_split_153 : decode b_D_split 153 = .ok (.isub, 1) := dk tk_D_split 96
theorem d_D_split_154 : decode b_D_split 154 = .ok (.iaload, 1) := dk tk_D_split 97
theorem d_D_split_155 : decode b_D_split 155 = .ok (.ifCond .ne 16, 3) := dk tk_D_split 98
theorem d_D_split_158 : decode b_D_split 158 = .ok (.aload_n 0, 1) := dk tk_D_split 99
theorem d_D_split_159 : decode b_D_split 159 = .ok (.dup, 1) := dk tk_D_split 100
theorem d_D_split_160 : decode b_D_split 160 = .ok (.getfield 103, 3) := dk tk_D_split 101
theorem d_D_split_163 : decode b_D_split 163 = .ok (.iconst 1, 1) := dk tk_D_split 102
theorem d_D_split_164 : decode b_D_split 164 = .ok (.isub, 1) := dk tk_D_split 103
theorem d_D_split_165 : decode b_D_split 165 = .ok (.putfield 103, 3) := dk tk_D_split 104
theorem d_D_split_168 : decode b_D_split 168 = .ok (.goto (-24), 3) := dk tk_D_split 105
theorem d_D_split_171 : decode b_D_split 171 = .ok (.aload_n 0, 1) := dk tk_D_split 106
theorem d_D_split_172 : decode b_D_split 172 = .ok (.getfield 22, 3) := dk tk_D_split 107
theorem d_D_split_175 : decode b_D_split 175 = .ok (.iconst 0, 1) := dk tk_D_split 108
theorem d_D_split_176 : decode b_D_split 176 = .ok (.iaload, 1) := dk tk_D_split 109
theorem d_D_split_177 : decode b_D_split 177 = .ok (.istore_n 3, 1) := dk tk_D_split 110
theorem d_D_split_178 : decode b_D_split 178 = .ok (.iconst 0, 1) := dk tk_D_split 111
theorem d_D_split_179 : decode b_D_split 179 = .ok (.istore 4, 2) := dk tk_D_split 112
theorem d_D_split_181 : decode b_D_split 181 = .ok (.iload 4, 2) := dk tk_D_split 113
theorem d_D_split_183 : decode b_D_split 183 = .ok (.iconst 5, 1) := dk tk_D_split 114
theorem d_D_split_184 : decode b_D_split 184 = .ok (.if_icmp .ge 22, 3) := dk tk_D_split 115
theorem d_D_split_187 : decode b_D_split 187 = .ok (.iload_n 3, 1) := dk tk_D_split 116
theorem d_D_split_188 : decode b_D_split 188 = .ok (.iconst 2, 1) := dk tk_D_split 117
theorem d_D_split_189 : decode b_D_split 189 = .ok (.aload_n 0, 1) := dk tk_D_split 118
theorem d_D_split_190 : decode b_D_split 190 = .ok (.getfield 22, 3) := dk tk_D_split 119
theorem d_D_split_193 : decode b_D_split 193 = .ok (.iconst 0, 1) := dk tk_D_split 120
theorem d_D_split_194 : decode b_D_split 194 = .ok (.iaload, 1) := dk tk_D_split 121
theorem d_D_split_195 : decode b_D_split 195 = .ok (.iload_n 3, 1) := dk tk_D_split 122
theorem d_D_split_196 : decode b_D_split 196 = .ok (.imul, 1) := dk tk_D_split 123
theorem d_D_split_197 : decode b_D_split 197 = .ok (.isub, 1) := dk tk_D_split 124
theorem d_D_split_198 : decode b_D_split 198 = .ok (.imul, 1) := dk tk_D_split 125
theorem d_D_split_199 : decode b_D_split 199 = .ok (.istore_n 3, 1) := dk tk_D_split 126
theorem d_D_split_200 : decode b_D_split 200 = .ok (.iinc 4 1, 3) := dk tk_D_split 127
theorem d_D_split_203 : decode b_D_split 203 = .ok (.goto (-22), 3) := dk tk_D_split 128
theorem d_D_split_206 : decode b_D_split 206 = .ok (.aload_n 0, 1) := dk tk_D_split 129
theorem d_D_split_207 : decode b_D_split 207 = .ok (.iload_n 3, 1) := dk tk_D_split 130
theorem d_D_split_208 : decode b_D_split 208 = .ok (.ineg, 1) := dk tk_D_split 131
theorem d_D_split_209 : decode b_D_split 209 = .ok (.putfield 119, 3) := dk tk_D_split 132
theorem d_D_split_212 : decode b_D_split 212 = .ok (.return_, 1) := dk tk_D_split 133
def tb_D_together : List (Nat × Instr × Nat) := [(0, .aload_n 0, 1), (1, .getfield 51, 3), (4, .iconst 0, 1), (5, .invokestatic 122, 3), (8, .iconst 0, 1), (9, .istore 4, 2), (11, .iload 4, 2), (13, .aload_n 0, 1), (14, .getfield 103, 3), (17, .if_icmp .ge 315, 3), (20, .lconst 0, 1), (21, .lstore 5, 2), (23, .aload_n 1, 1), (24, .iload 4, 2), (26, .iaload, 1), (27, .i2l, 1), (28, .ldc2_w 54, 3), (31, .land, 1), (32, .lstore 7, 2), (34, .iconst 0, 1), (35, .istore 9, 2), (37, .iload 9, 2), (39, .aload_n 0, 1), (40, .getfield 103, 3), (43, .if_icmp .ge 56, 3), (46, .lload 5, 2), (48, .lload 7, 2), (50, .aload_n 2, 1), (51, .iload 9, 2), (53, .iaload, 1), (54, .i2l, 1), (55, .ldc2_w 54, 3), (58, .land, 1), (59, .lmul, 1), (60, .aload_n 0, 1), (61, .getfield 51, 3), (64, .iload 9, 2), (66, .iaload, 1), (67, .i2l, 1), (68, .ldc2_w 54, 3), (71, .land, 1), (72, .ladd, 1), (73, .ladd, 1), (74, .lstore 5, 2), (76, .aload_n 0, 1), (77, .getfield 51, 3), (80, .iload 9, 2), (82, .lload 5, 2), (84, .l2i, 1), (85, .iastore, 1), (86, .lload 5, 2), (88, .bipush 32, 2), (90, .lushr, 1), (91, .lstore 5, 2), (93, .iinc 9 1, 3), (96, .goto (-59), 3), (99, .lload 5, 2), (101, .aload_n 0, 1), (102, .getfield 51, 3), (105, .aload_n 0, 1), (106, .getfield 103, 3), (109, .iaload, 1), (110, .i2l, 1), (111, .ldc2_w 54, 3), (114, .land, 1), (115, .ladd, 1), (116, .lstore 5, 2), (118, .aload_n 0, 1), (119, .getfield 51, 3), (122, .aload_n 0, 1), (123, .getfield 103, 3), (126, .lload 5, 2), (128, .l2i, 1), (129, .iastore, 1), (130, .aload_n 0, 1), (131, .getfield 51, 3), (134, .aload_n 0, 1), (135, .getfield 103, 3), (138, .iconst 1, 1), (139, .iadd, 1), (140, .lload 5, 2), (142, .bipush 32, 2), (144, .lushr, 1), (145, .l2i, 1), (146, .iastore, 1), (147, .aload_n 0, 1), (148, .getfield 51, 3), (151, .iconst 0, 1), (152, .iaload, 1), (153, .aload_n 0, 1), (154, .getfield 119, 3), (157, .imul, 1), (158, .i2l, 1), (159, .ldc2_w 54, 3), (162, .land, 1), (163, .lstore 9, 2), (165, .lload 9, 2), (167, .aload_n 0, 1), (168, .getfield 22, 3), (171, .iconst 0, 1), (172, .iaload, 1), (173, .i2l, 1), (174, .ldc2_w 54, 3), (177, .land, 1), (178, .lmul, 1), (179, .aload_n 0, 1), (180, .getfield 51, 3), (183, .iconst 0, 1), (184, .iaload, 1), (185, .i2l, 1), (186, .ldc2_w 54, 3), (189, .land, 1), (190, .ladd, 1), (191, .bipush 32, 2), (193, .lushr, 1), (194, .lstore 5, 2), (196, .iconst 1, 1), (197, .istore 11, 2), (199, .iload 11, 2), (201, .aload_n 0, 1), (202, .getfield 103, 3), (205, .if_icmp .ge 61, 3), (208, .lload 5, 2), (210, .lload 9, 2), (212, .aload_n 0, 1), (213, .getfield 22, 3), (216, .iload 11, 2), (218, .iaload, 1), (219, .i2l, 1), (220, .ldc2_w 54, 3), (223, .land, 1), (224, .lmul, 1), (225, .aload_n 0, 1), (226, .getfield 51, 3), (229, .iload 11, 2), (231, .iaload, 1), (232, .i2l, 1), (233, .ldc2_w 54, 3), (236, .land, 1), (237, .ladd, 1), (238, .ladd, 1), (239, .lstore 5, 2), (241, .aload_n 0, 1), (242, .getfield 51, 3), (245, .iload 11, 2), (247, .iconst 1, 1), (248, .isub, 1), (249, .lload 5, 2), (251, .l2i, 1), (252, .iastore, 1), (253, .lload 5, 2), (255, .bipush 32, 2), (257, .lushr, 1), (258, .lstore 5, 2), (260, .iinc 11 1, 3), (263, .goto (-64), 3), (266, .lload 5, 2), (268, .aload_n 0, 1), (269, .getfield 51, 3), (272, .aload_n 0, 1), (273, .getfield 103, 3), (276, .iaload, 1), (277, .i2l, 1), (278, .ldc2_w 54, 3), (281, .land, 1), (282, .ladd, 1), (283, .lstore 5, 2), (285, .aload_n 0, 1), (286, .getfield 51, 3), (289, .aload_n 0, 1), (290, .getfield 103, 3), (293, .iconst 1, 1), (294, .isub, 1), (295, .lload 5, 2), (297, .l2i, 1), (298, .iastore, 1), (299, .aload_n 0, 1), (300, .getfield 51, 3), (303, .aload_n 0, 1), (304, .getfield 103, 3), (307, .aload_n 0, 1), (308, .getfield 51, 3), (311, .aload_n 0, 1), (312, .getfield 103, 3), (315, .iconst 1, 1), (316, .iadd, 1), (317, .iaload, 1), (318, .lload 5, 2), (320, .bipush 32, 2), (322, .lushr, 1), (323, .l2i, 1), (324, .iadd, 1), (325, .iastore, 1), (326, .iinc 4 1, 3), (329, .goto (-318), 3), (332, .aload_n 0, 1), (333, .getfield 51, 3), (336, .aload_n 0, 1), (337, .getfield 103, 3), (340, .iaload, 1), (341, .ifCond .eq 7, 3), (344, .iconst 1, 1), (345, .goto 4, 3), (348, .iconst 0, 1), (349, .istore 4, 2), (351, .aload_n 0, 1), (352, .getfield 51, 3), (355, .iconst 0, 1), (356, .aload_n 3, 1), (357, .iconst 0, 1), (358, .aload_n 0, 1), (359, .getfield 103, 3), (362, .invokestatic 78, 3), (365, .aload_n 3, 1), (366, .aload_n 0, 1), (367, .getfield 103, 3), (370, .bipush 16, 2), (372, .iconst 0, 1), (373, .invokestatic 56, 3), (376, .iload 4, 2), (378, .ifCond .ne 14, 3), (381, .aload_n 3, 1), (382, .aload_n 0, 1), (383, .getfield 22, 3), (386, .invokestatic 66, 3), (389, .ifCond .lt 8, 3), (392, .aload_n 0, 1), (393, .aload_n 3, 1), (394, .invokevirtual 125, 3), (397, .return_, 1)]
theorem tk_D_together : tb_D_together.all (fun r => decide (decode b_D_together r.1 = .ok r.2)) = true := by decide +kernel
theorem d_D_together_0 : decode b_D_together 0 = .ok (.aload_n 0, 1) := dk tk_D_together 0
theorem d_D_together_1 : decode b_D_together 1 = .ok (.getfield 51, 3) := dk tk_D_together 1
theorem d_D_together_4 : decode b_D_together 4 = .ok (.iconst 0, 1) := dk tk_D_together 2
theorem d_D_together_5 : decode b_D_together 5 = .ok (.invokestatic 122, 3) := dk tk_D_together 3
theorem d_D_together_8 : decode b_D_together 8 = .ok (.iconst 0, 1) := dk tk_D_together 4
theorem d_D_together_9 : decode b_D_together 9 = .ok (.istore 4, 2) := dk tk_D_together 5
theorem d_D_together_11 : decode b_D_together 11 = .ok (.iload 4, 2) := dk tk_D_together 6
theorem d_D_together_13 : decode b_D_together 13 = .ok (.aload_n 0, 1) := dk tk_D_together 7
theorem d_D_together_14 : decode b_D_together 14 = .ok (.getfield 103, 3) := dk tk_D_together 8
theorem d_D_together_17 : decode b_D_together 17 = .ok (.if_icmp .ge 315, 3) := dk tk_D_together 9
theorem d_D_together_20 : decode b_D_together 20 = .ok (.lconst 0, 1) := dk tk_D_together 10
theorem d_D_together_21 : decode b_D_together 21 = .ok (.lstore 5, 2) := dk tk_D_together 11
theorem d_D_together_23 : decode b_D_together 23 = .ok (.aload_n 1, 1) := dk tk_D_together 12
theorem d_D_together_24 : decode b_D_together 24 = .ok (.iload 4, 2) := dk tk_D_together 13
theorem d_D_together_26 : decode b_D_together 26 = .ok (.iaload, 1) := dk tk_D_together 14
theorem d_D_together_27 : decode b_D_together 27 = .ok (.i2l, 1) := dk tk_D_together 15
theorem d_D_together_28 : decode b_D_together 28 = .ok (.ldc2_w 54, 3) := dk tk_D_together 16
theorem d_D_together_31 : decode b_D_together 31 = .ok (.land, 1) := dk tk_D_together 17
theorem d_D_together_32 : decode b_D_together 32 = .ok (.lstore 7, 2) := dk tk_D_together 18
theorem d_D_together_34 : decode b_D_together 34 = .ok (.iconst 0, 1) := dk tk_D_together 19
theorem d_D_together_35 : decode b_D_together 35 = .ok (.istore 9, 2) := dk tk_D_together 20
theorem d_D_together_37 : decode b_D_together 37 = .ok (.iload 9, 2) := dk tk_D_together 21
theorem d_D_together_39 : decode b_D_together 39 = .ok (.aload_n 0, 1) := dk tk_D_together 22
theorem d_D_together_40 : decode b_D_together 40 = .ok (.getfield 103, 3) := dk tk_D_together 23
theorem d_D_together_43 : decode b_D_together 43 = .ok (.if_icmp .ge 56, 3) := dk tk_D_together 24
theorem d_D_together_46 : decode b_D_together 46 = .ok (.lload 5, 2) := dk tk_D_together 25
theorem d_D_together_48 : decode b_D_together 48 = .ok (.lload 7, 2) := dk tk_D_together 26
theorem d_D_together_50 : decode b_D_together 50 = .ok (.aload_n 2, 1) := dk tk_D_together 27
theorem d_D_together_51 : decode b_D_together 51 = .ok (.iload 9, 2) := dk tk_D_together 28
theorem d_D_together_53 : decode b_D_together 53 = .ok (.iaload, 1) := dk tk_D_together 29
theorem d_D_together_54 : decode b_D_together 54 = .ok (.i2l, 1) := dk tk_D_together 30
theorem d_D_together_55 : decode b_D_together 55 = .ok (.ldc2_w 54, 3) := dk tk_D_together 31
theorem d_D_together_58 : decode b_D_together 58 = .ok (.land, 1) := dk tk_D_together 32
theorem d_D_together_59 : decode b_D_together 59 = .ok (.lmul, 1) := dk tk_D_together 33
theorem d_D_together_60 : decode b_D_together 60 = .ok (.aload_n 0, 1) := dk tk_D_together 34
theorem d_D_together_61 : decode b_D_together 61 = .ok (.getfield 51, 3) := dk tk_D_together 35
theorem d_D_together_64 : decode b_D_together 64 = .ok (.iload 9, 2) := dk tk_D_together 36
theorem d_D_together_66 : decode b_D_together 66 = .ok (.iaload, 1) := dk tk_D_together 37
theorem d_D_together_67 : decode b_D_together 67 = .ok (.i2l, 1) := dk tk_D_together 38
theorem d_D_together_68 : decode b_D_together 68 = .ok (.ldc2_w 54, 3) := dk tk_D_together 39
theorem d_D_together_71 : decode b_D_together 71 = .ok (.land, 1) := dk tk_D_together 40
theorem d_D_together_72 : decode b_D_together 72 = .ok (.ladd, 1) := dk tk_D_together 41
theorem d_D_together_73 : decode b_D_together 73 = .ok (.ladd, 1) := dk tk_D_together 42
theorem d_D_together_74 : decode b_D_together 74 = .ok (.lstore 5, 2) := dk tk_D_together 43
theorem d_D_together_76 : decode b_D_together 76 = .ok (.aload_n 0, 1) := dk tk_D_together 44
theorem d_D_together_77 : decode b_D_together 77 = .ok (.getfield 51, 3) := dk tk_D_together 45
theorem d_D_together_80 : decode b_D_together 80 = .ok (.iload 9, 2) := dk tk_D_together 46
theorem d_D_together_82 : decode b_D_together 82 = .ok (.lload 5, 2) := dk tk_D_together 47
theorem d_D_together_84 : decode b_D_together 84 = .ok (.l2i, 1) := dk tk_D_together 48
theorem d_D_together_85 : decode b_D_together 85 = .ok (.iastore, 1) := dk tk_D_together 49
theorem d_D_together_86 : decode b_D_together 86 = .ok (.lload 5, 2) := dk tk_D_together 50
theorem d_D_together_88 : decode b_D_together 88 = .ok (.bipush 32, 2) := dk tk_D_together 51
theorem d_D_together_90 : decode b_D_together 90 = .ok (.lushr, 1) := dk tk_D_together 52
theorem d_D_together_91 : decode b_D_together 91 = .ok (.lstore 5, 2) := dk tk_D_together 53
theorem d_D_together_93 : decode b_D_together 93 = .ok (.iinc 9 1, 3) := dk tk_D_together 54
theorem d_D_together_96 : decode b_D_together 96 = .ok (.goto (-59), 3) := dk tk_D_together 55
theorem d_D_together_99 : decode b_D_together 99 = .ok (.lload 5, 2) := dk tk_D_together 56
theorem d_D_together_101 : decode b_D_together 101 = .ok (.aload_n 0, 1) := dk tk_D_together 57
theorem d_D_together_102 : decode b_D_together 102 = .ok (.getfield 51, 3) := dk tk_D_together 58
theorem d_D_together_105 : decode b_D_together 105 = .ok (.aload_n 0, 1) := dk tk_D_together 59
theorem d_D_together_106 : decode b_D_together 106 = .ok (.getfield 103, 3) := dk tk_D_together 60
theorem d_D_together_109 : decode b_D_together 109 = .ok (.iaload, 1) := dk tk_D_together 61
theorem d_D_together_110 : decode b_D_together 110 = .ok (.i2l, 1) := dk tk_D_together 62
theorem d_D_together_111 : decode b_D_together 111 = .ok (.ldc2_w 54, 3) := dk tk_D_together 63
theorem d_D_together_114 : decode b_D_together 114 = .ok (.land, 1) := dk tk_D_together 64
theorem d_D_together_115 : decode b_D_together 115 = .ok (.ladd, 1) := dk tk_D_together 65
theorem d_D_together_116 : decode b_D_together 116 = .ok (.lstore 5, 2) := dk tk_D_together 66
theorem d_D_together_118 : decode b_D_together 118 = .ok (.aload_n 0, 1) := dk tk_D_together 67
theorem d_D_together_119 : decode b_D_together 119 = .ok (.getfield 51, 3) := dk tk_D_together 68
theorem d_D_together_122 : decode b_D_together 122 = .ok (.aload_n 0, 1) := dk tk_D_together 69
theorem d_D_together_123 : decode b_D_together 123 = .ok (.getfield 103, 3) := dk tk_D_together 70
theorem d_D_together_126 : decode b_D_together 126 = .ok (.lload 5, 2) := dk tk_D_together 71
theorem d_D_together_128 : decode b_D_together 128 = .ok (.l2i, 1) := dk tk_D_together 72
theorem d_D_together_129 : decode b_D_together 129 = .ok (.iastore, 1) := dk tk_D_together 73
theorem d_D_together_130 : decode b_D_together 130 = .ok (.aload_n 0, 1) := dk tk_D_together 74
theorem d_D_together_131 : decode b_D_together 131 = .ok (.getfield 51, 3) := dk tk_D_together 75
theorem d_D_together_134 : decode b_D_together 134 = .ok (.aload_n 0, 1) := dk tk_D_together 76
theorem d_D_together_135 : decode b_D_together 135 = .ok (.getfield 103, 3) := dk tk_D_together 77
theorem d_D_together_138 : decode b_D_together 138 = .ok (.iconst 1, 1) := dk tk_D_together 78
theorem d_D_together_139 : decode b_D_together 139 = .ok (.iadd, 1) := dk tk_D_together 79
theorem d_D_together_140 : decode b_D_together 140 = .ok (.lload 5, 2) := dk tk_D_together 80
theorem d_D_together_142 : decode b_D_together 142 = .ok (.bipush 32, 2) := dk tk_D_together 81
theorem d_D_together_144 : decode b_D_together 144 = .ok (.lushr, 1) := dk tk_D_together 82
theorem d_D_together_145 : decode b_D_together 145 = .ok (.l2i, 1) := dk tk_D_together 83
theorem d_D_together_146 : decode b_D_together 146 = .ok (.iastore, 1) := dk tk_D_together 84
theorem d_D_together_147 : decode b_D_together 147 = .ok (.aload_n 0, 1) := dk tk_D_together 85
theorem d_D_together_148 : decode b_D_together 148 = .ok (.getfield 51, 3) := dk tk_D_together 86
theorem d_D_together_151 : decode b_D_together 151 = .ok (.iconst 0, 1) := dk tk_D_together 87
theorem d_D_together_152 : decode b_D_together 152 = .ok (.iaload, 1) := dk tk_D_together 88
theorem d_D_together_153 : decode b_D_together 153 = .ok (.aload_n 0, 1) := dk tk_D_together 89
theorem d_D_together_154 : decode b_D_together 154 = .ok (.getfield 119, 3) := dk tk_D_together 90
theorem d_D_together_157 : decode b_D_together 157 = .ok (.imul, 1) := dk tk_D_together 91
theorem d_D_together_158 : decode b_D_together 158 = .ok (.i2l, 1) := dk tk_D_together 92
theorem d_D_together_159 : decode b_D_together 159 = .ok (.ldc2_w 54, 3) := dk tk_D_together 93
theorem d_D_together_162 : decode b_D_together 162 = .ok (.land, 1) := dk tk_D_together 94
theorem d_D_together_163 : decode b_D_together 163 = .ok (.lstore 9, 2) := dk tk_D_together 95
theorem d_D_together_165 : decode b_D_together 165 = .ok (.lload 9, 2) := dk tk_D_together 96
theorem d_D_together_167 : decode b_D_together 167 = .ok (.aload_n 0, 1) := dk tk_D_together 97
theorem d_D_together_168 : decode b_D_together 168 = .ok (.getfield 22, 3) := dk tk_D_together 98
theorem d_D_together_171 : decode b_D_together 171 = .ok (.iconst 0, 1) := dk tk_D_together 99
theorem d_D_together_172 : decode b_D_together 172 = .ok (.iaload, 1) := dk tk_D_together 100
theorem d_D_together_173 : decode b_D_together 173 = .ok (.i2l, 1) := dk tk_D_together 101
theorem d_D_together_174 : decode b_D_together 174 = .ok (.ldc2_w 54, 3) := dk tk_D_together 102
theorem d_D_together_177 : decode b_D_together 177 = .ok (.land, 1) := dk tk_D_together 103
theorem d_D_together_178 : decode b_D_together 178 = .ok (.lmul, 1) := dk tk_D_together 104
theorem d_D_together_179 : decode b_D_together 179 = .ok (.aload_n 0, 1) := dk tk_D_together 105
theorem d_D_together_180 : decode b_D_together 180 = .ok (.getfield 51, 3) := dk tk_D_together 106
theorem d_D_together_183 : decode b_D_together 183 = .ok (.iconst 0, 1) := dk tk_D_together 107
theorem d_D_together_184 : decode b_D_together 184 = .ok (.iaload, 1) := dk tk_D_together 108
theorem d_D_together_185 : decode b_D_together 185 = .ok (.i2l, 1) := dk tk_D_together 109
theorem d_D_together_186 : decode b_D_together 186 = .ok (.ldc2_w 54, 3) := dk tk_D_together 110
theorem d_D_together_189 : decode b_D_together 189 = .ok (.land, 1) := dk tk_D_together 111
theorem d_D_together_190 : decode b_D_together 190 = .ok (.ladd, 1) := dk tk_D_together 112
theorem d_D_together_191 : decode b_D_together 191 = .ok (.bipush 32, 2) := dk tk_D_together 113
theorem d_D_together_193 : decode b_D_together 193 = .ok (.lushr, 1) := dk tk_D_together 114
theorem d_D_together_194 : decode b_D_together 194 = .ok (.lstore 5, 2) := dk tk_D_together 115
theorem d_D_together_196 : decode b_D_together 196 = .ok (.iconst 1, 1) := dk tk_D_together 116
theorem d_D_together_197 : decode b_D_together 197 = .ok (.istore 11, 2) := dk tk_D_together 117
theorem d_D_together_199 : decode b_D_together 199 = .ok (.iload 11, 2) := dk tk_D_together 118
theorem d_D_together_201 : decode b_D_together 201 = .ok (.aload_n 0, 1) := dk tk_D_together 119
theorem d_D_together_202 : decode b_D_together 202 = .ok (.getfield 103, 3) := dk tk_D_together 120
theorem d_D_together_205 : decode b_D_together 205 = .ok (.if_icmp .ge 61, 3) := dk tk_D_together 121
theorem d_D_together_208 : decode b_D_together 208 = .ok (.lload 5, 2) := dk tk_D_together 122
theorem d_D_together_210 : decode b_D_together 210 = .ok (.lload 9, 2) := dk tk_D_together 123
theorem d_D_together_212 : decode b_D_together 212 = .ok (.aload_n 0, 1) := dk tk_D_together 124
theorem d_D_together_213 : decode b_D_together 213 = .ok (.getfield 22, 3) := dk tk_D_together 125
theorem d_D_together_216 : decode b_D_together 216 = .ok (.iload 11, 2) := dk tk_D_together 126
theorem d_D_together_218 : decode b_D_together 218 = .ok (.iaload, 1) := dk tk_D_together 127
theorem d_D_together_219 : decode b_D_together 219 = .ok (.i2l, 1) := dk tk_D_together 128
theorem d_D_together_220 : decode b_D_together 220 = .ok (.ldc2_w 54, 3) := dk tk_D_together 129
theorem d_D_together_223 : decode b_D_together 223 = .ok (.land, 1) := dk tk_D_together 130
theorem d_D_together_224 : decode b_D_together 224 = .ok (.lmul, 1) := dk tk_D_together 131
theorem d_D_together_225 : decode b_D_together 225 = .ok (.aload_n 0, 1) := dk tk_D_together 132
theorem d_D_together_226 : decode b_D_together 226 = .ok (.getfield 51, 3) := dk tk_D_together 133
theorem d_D_together_229 : decode b_D_together 229 = .ok (.iload 11, 2) := dk tk_D_together 134
theorem d_D_together_231 : decode b_D_together 231 = .ok (.iaload, 1) := dk tk_D_together 135
theorem d_D_together_232 : decode b_D_together 232 = .ok (.i2l, 1) := dk tk_D_together 136
theorem d_D_together_233 : decode b_D_together 233 = .ok (.ldc2_w 54, 3) := dk tk_D_together 137
theorem d_D_together_236 : decode b_D_together 236 = .ok (.land, 1) := dk tk_D_together 138
theorem d_D_together_237 : decode b_D_together 237 = .ok (.ladd, 1) := dk tk_D_together 139
theorem d_D_together_238 : decode b_D_together 238 = .ok (.ladd, 1) := dk tk_D_together 140
theorem d_D_together_239 : decode b_D_together 239 = .ok (.lstore 5, 2) := dk tk_D_together 141
theorem d_D_together_241 : decode b_D_together 241 = .ok (.aload_n 0, 1) := dk tk_D_together 142
theorem d_D_together_242 : decode b_D_together 242 = .ok (.getfield 51, 3) := dk tk_D_together 143
theorem d_D_together_245 : decode b_D_together 245 = .ok (.iload 11, 2) := dk tk_D_together 144
theorem d_D_together_247 : decode b_D_together 247 = .ok (.iconst 1, 1) := dk tk_D_together 145
theorem d_D_together_248 : decode b_D_together 248 = .ok (.isub, 1) := dk tk_D_together 146
theorem d_D_together_249 : decode b_D_together 249 = .ok (.lload 5, 2) := dk tk_D_together 147
theorem d_D_together_251 : decode b_D_together 251 = .ok (.l2i, 1) := dk tk_D_together 148
theorem d_D_together_252 : decode b_D_together 252 = .ok (.iastore, 1) := dk tk_D_together 149
theorem d_D_together_253 : decode b_D_together 253 = .ok (.lload 5, 2) := dk tk_D_together 150
theorem d_D_together_255 : decode b_D_together 255 = .ok (.bipush 32, 2) := dk tk_D_together 151
theorem d_D_together_257 : decode b_D_together 257 = .ok (.lushr, 1) := dk tk_D_together 152
theorem d_D_together_258 : decode b_D_together 258 = .ok (.lstore 5, 2) := dk tk_D_together 153
theorem d_D_together_260 : decode b_D_together 260 = .ok (.iinc 11 1, 3) := dk tk_D_together 154
theorem d_D_together_263 : decode b_D_together 263 = .ok (.goto (-64), 3) := dk tk_D_together 155
theorem d_D_together_266 : decode b_D_together 266 = .ok (.lload 5, 2) := dk tk_D_together 156
theorem d_D_together_268 : decode b_D_together 268 = .ok (.aload_n 0, 1) := dk tk_D_together 157
theorem d_D_together_269 : decode b_D_together 269 = .ok (.getfield 51, 3) := dk tk_D_together 158
theorem d_D_together_272 : decode b_D_together 272 = .ok (.aload_n 0, 1) := dk tk_D_together 159
theorem d_D_together_273 : decode b_D_together 273 = .ok (.getfield 103, 3) := dk tk_D_together 160
theorem d_D_together_276 : decode b_D_together 276 = .ok (.iaload, 1) := dk tk_D_together 161
theorem d_D_together_277 : decode b_D_together 277 = .ok (.i2l, 1) := dk tk_D_together 162
theorem d_D_together_278 : decode b_D_together 278 = .ok (.ldc2_w 54, 3) := dk tk_D_together 163
theorem d_D_together_281 : decode b_D_together 281 = .ok (.land, 1) := dk tk_D_together 164
theorem d_D_together_282 : decode b_D_together 282 = .ok (.ladd, 1) := dk tk_D_together 165
theorem d_D_together_283 : decode b_D_together 283 = .ok (.lstore 5, 2) := dk tk_D_together 166
theorem d_D_together_285 : decode b_D_together 285 = .ok (.aload_n 0, 1) := dk tk_D_together 167
theorem d_D_together_286 : decode b_D_together 286 = .ok (.getfield 51, 3) := dk tk_D_together 168
theorem d_D_together_289 : decode b_D_together 289 = .ok (.aload_n 0, 1) := dk tk_D_together 169
theorem d_D_together_290 : decode b_D_together 290 = .ok (.getfield 103, 3) := dk tk_D_together 170
theorem d_D_together_293 : decode b_D_together 293 = .ok (.iconst 1, 1) := dk tk_D_together 171
theorem d_D_together_294 : decode b_D_together 294 = .ok (.isub, 1) := dk tk_D_together 172
theorem d_D_together_295 : decode b_D_together 295 = .ok (.lload 5, 2) := dk tk_D_together 173
theorem d_D_together_297 : decode b_D_together 297 = .ok (.l2i, 1) := dk tk_D_together 174
theorem d_D_together_298 : decode b_D_together 298 = .ok (.iastore, 1) := dk tk_D_together 175
theorem d_D_together_299 : decode b_D_together 299 = .ok (.aload_n 0, 1) := dk tk_D_together 176
theorem d_D_together_300 : decode b_D_together 300 = .ok (.getfield 51, 3) := dk tk_D_together 177
theorem d_D_together_303 : decode b_D_together 303 = .ok (.aload_n 0, 1) := dk tk_D_together 178
theorem d_D_together_304 : decode b_D_together 304 = .ok (.getfield 103, 3) := dk tk_D_together 179
theorem d_D_together_307 : decode b_D_together 307 = .ok (.aload_n 0, 1) := dk tk_D_together 180
theorem d_D_together_308 : decode b_D_together 308 = .ok (.getfield 51, 3) := dk tk_D_together 181
theorem d_D_together_311 : decode b_D_together 311 = .ok (.aload_n 0, 1) := dk tk_D_together 182
theorem d_D_together_312 : decode b_D_together 312 = .ok (.getfield 103, 3) := dk tk_D_together 183
theorem d_D_together_315 : decode b_D_together 315 = .ok (.iconst 1, 1) := dk tk_D_together 184
theorem d_D_together_316 : decode b_D_together 316 = .ok (.iadd, 1) := dk tk_D_together 185
theorem d_D_together_317 : decode b_D_together 317 = .ok (.iaload, 1) := dk tk_D_together 186
theorem d_D_together_318 : decode b_D_together 318 = .ok (.lload 5, 2) := dk tk_D_together 187
theorem d_D_together_320 : decode b_D_together 320 = .ok (.bipush 32, 2) := dk tk_D_together 188
theorem d_D_together_322 : decode b_D_together 322 = .ok (.lushr, 1) := dk tk_D_together 189
theorem d_D_together_323 : decode b_D_together 323 = .ok (.l2i, 1) := dk tk_D_together 190
theorem d_D_together_324 : decode b_D_together 324 = .ok (.iadd, 1) := dk tk_D_together 191
theorem d_D_together_325 : decode b_D_together 325 = .ok (.iastore, 1) := dk tk_D_together 192
theorem d_D_together_326 : decode b_D_together 326 = .ok (.iinc 4 1, 3) := dk tk_D_together 193
theorem d_D_together_329 : decode b_D_together 329 = .ok (.goto (-318), 3) := dk tk_D_together 194
theorem d_D_together_332 : decode b_D_together 332 = .ok (.aload_n 0, 1) := dk tk_D_together 195
theorem d_D_together_333 : decode b_D_together 333 = .ok (.getfield 51, 3) := dk tk_D_together 196
theorem d_D_together_336 : decode b_D_together 336 = .ok (.aload_n 0, 1) := dk tk_D_together 197
theorem d_D_together_337 : decode b_D_together 337 = .ok (.getfield 103, 3) := dk tk_D_together 198
theorem d_D_together_340 : decode b_D_together 340 = .ok (.iaload, 1) := dk tk_D_together 199
theorem d_D_together_341 : decode b_D_together 341 = .ok (.ifCond .eq 7, 3) := dk tk_D_together 200
theorem d_D_together_344 : decode b_D_together 344 = .ok (.iconst 1, 1) := dk tk_D_together 201
theorem d_D_together_345 : decode b_D_together 345 = .ok (.goto 4, 3) := dk tk_D_together 202
theorem d_D_together_348 : decode b_D_together 348 = .ok (.iconst 0, 1) := dk tk_D_together 203
theorem d_D_together_349 : decode b_D_together 349 = .ok (.istore 4, 2) := dk tk_D_together 204
theorem d_D_together_351 : decode b_D_together 351 = .ok (.aload_n 0, 1) := dk tk_D_together 205
theorem d_D_together_352 : decode b_D_together 352 = .ok (.getfield 51, 3) := dk tk_D_together 206
theorem d_D_together_355 : decode b_D_together 355 = .ok (.iconst 0, 1) := dk tk_D_together 207
theorem d_D_together_356 : decode b_D_together 356 = .ok (.aload_n 3, 1) := dk tk_D_together 208
theorem d_D_together_357 : decode b_D_together 357 = .ok (.iconst 0, 1) := dk tk_D_together 209
theorem d_D_together_358 : decode b_D_together 358 = .ok (.aload_n 0, 1) := dk tk_D_together 210
theorem d_D_together_359 : decode b_D_together 359 = .ok (.getfield 103, 3) := dk tk_D_together 211
theorem d_D_together_362 : decode b_D_together 362 = .ok (.invokestatic 78, 3) := dk tk_D_together 212
theorem d_D_together_365 : decode b_D_together 365 = .ok (.aload_n 3, 1) := dk tk_D_together 213
theorem d_D_together_366 : decode b_D_together 366 = .ok (.aload_n 0, 1) := dk tk_D_together 214
theorem d_D_together_367 : decode b_D_together 367 = .ok (.getfield 103, 3) := dk tk_D_together 215
theorem d_D_together_370 : decode b_D_together 370 = .ok (.bipush 16, 2) := dk tk_D_together 216
theorem d_D_together_372 : decode b_D_together 372 = .ok (.iconst 0, 1) := dk tk_D_together 217
theorem d_D_together_373 : decode b_D_together 373 = .ok (.invokestatic 56, 3) := dk tk_D_together 218
theorem d_D_together_376 : decode b_D_together 376 = .ok (.iload 4, 2) := dk tk_D_together 219
theorem d_D_together_378 : decode b_D_together 378 = .ok (.ifCond .ne 14, 3) := dk tk_D_together 220
theorem d_D_together_381 : decode b_D_together 381 = .ok (.aload_n 3, 1) := dk tk_D_together 221
theorem d_D_together_382 : decode b_D_together 382 = .ok (.aload_n 0, 1) := dk tk_D_together 222
theorem d_D_together_383 : decode b_D_together 383 = .ok (.getfield 22, 3) := dk tk_D_together 223
theorem d_D_together_386 : decode b_D_together 386 = .ok (.invokestatic 66, 3) := dk tk_D_together 224
theorem d_D_together_389 : decode b_D_together 389 = .ok (.ifCond .lt 8, 3) := dk tk_D_together 225
theorem d_D_together_392 : decode b_D_together 392 = .ok (.aload_n 0, 1) := dk tk_D_together 226
theorem d_D_together_393 : decode b_D_together 393 = .ok (.aload_n 3, 1) := dk tk_D_together 227
theorem d_D_together_394 : decode b_D_together 394 = .ok (.invokevirtual 125, 3) := dk tk_D_together 228
theorem d_D_together_397 : decode b_D_together 397 = .ok (.return_, 1) := dk tk_D_together 229
end
section
def tb_D_subtractOdd : List (Nat × Instr × Nat) := [(0, .lconst 0, 1), (1, .lstore_n 2, 1), (2, .iconst 0, 1), (3, .istore 4, 2), (5, .iload 4, 2), (7, .aload_n 0, 1), (8, .getfield 103, 3), (11, .if_icmp .ge 48, 3), (14, .aload_n 1, 1), (15, .iload 4, 2), (17, .iaload, 1), (18, .i2l, 1), (19, .ldc2_w 54, 3), (22, .land, 1), (23, .aload_n 0, 1), (24, .getfield 22, 3), (27, .iload 4, 2), (29, .iaload, 1), (30, .i2l, 1), (31, .ldc2_w 54, 3), (34, .land, 1), (35, .lsub, 1), (36, .lload_n 2, 1), (37, .lsub, 1), (38, .lstore 5, 2), (40, .aload_n 1, 1), (41, .iload 4, 2), (43, .lload 5, 2), (45, .l2i, 1), (46, .iastore, 1), (47, .lload 5, 2), (49, .bipush 63, 2), (51, .lushr, 1), (52, .lstore_n 2, 1), (53, .iinc 4 1, 3), (56, .goto (-51), 3), (59, .return_, 1)]
theorem tk_D_subtractOdd : tb_D_subtractOdd.all (fun r => decide (decode b_D_subtractOdd r.1 = .ok r.2)) = true := by decide +kernel
theorem d_D_subtractOdd_0 : decode b_D_subtractOdd 0 = .ok (.lconst 0, 1) := dk tk_D_subtractOdd 0
theorem d_D_subtractOdd_1 : decode b_D_subtractOdd 1 = .ok (.lstore_n 2, 1) := dk tk_D_subtractOdd 1
theorem d_D_subtractOdd_2 : decode b_D_subtractOdd 2 = .ok (.iconst 0, 1) := dk tk_D_subtractOdd 2
theorem d_D_subtractOdd_3 : decode b_D_subtractOdd 3 = .ok (.istore 4, 2) := dk tk_D_subtractOdd 3
theorem d_D_subtractOdd_5 : decode b_D_subtractOdd 5 = .ok (.iload 4, 2) := dk tk_D_subtractOdd 4
theorem d_D_subtractOdd_7 : decode b_D_subtractOdd 7 = .ok (.aload_n 0, 1) := dk tk_D_subtractOdd 5
theorem d_D_subtractOdd_8 : decode b_D_subtractOdd 8 = .ok (.getfield 103, 3) := dk tk_D_subtractOdd 6
theorem d_D_subtractOdd_11 : decode b_D_subtractOdd 11 = .ok (.if_icmp .ge 48, 3) := dk tk_D_subtractOdd 7
theorem d_D_subtractOdd_14 : decode b_D_subtractOdd 14 = .ok (.aload_n 1, 1) := dk tk_D_subtractOdd 8
theorem d_D_subtractOdd_15 : decode b_D_subtractOdd 15 = .ok (.iload 4, 2) := dk tk_D_subtractOdd 9
theorem d_D_subtractOdd_17 : decode b_D_subtractOdd 17 = .ok (.iaload, 1) := dk tk_D_subtractOdd 10
theorem d_D_subtractOdd_18 : decode b_D_subtractOdd 18 = .ok (.i2l, 1) := dk tk_D_subtractOdd 11
theorem d_D_subtractOdd_19 : decode b_D_subtractOdd 19 = .ok (.ldc2_w 54, 3) := dk tk_D_subtractOdd 12
theorem d_D_subtractOdd_22 : decode b_D_subtractOdd 22 = .ok (.land, 1) := dk tk_D_subtractOdd 13
theorem d_D_subtractOdd_23 : decode b_D_subtractOdd 23 = .ok (.aload_n 0, 1) := dk tk_D_subtractOdd 14
theorem d_D_subtractOdd_24 : decode b_D_subtractOdd 24 = .ok (.getfield 22, 3) := dk tk_D_subtractOdd 15
theorem d_D_subtractOdd_27 : decode b_D_subtractOdd 27 = .ok (.iload 4, 2) := dk tk_D_subtractOdd 16
theorem d_D_subtractOdd_29 : decode b_D_subtractOdd 29 = .ok (.iaload, 1) := dk tk_D_subtractOdd 17
theorem d_D_subtractOdd_30 : decode b_D_subtractOdd 30 = .ok (.i2l, 1) := dk tk_D_subtractOdd 18
theorem d_D_subtractOdd_31 : decode b_D_subtractOdd 31 = .ok (.ldc2_w 54, 3) := dk tk_D_subtractOdd 19
theorem d_D_subtractOdd_34 : decode b_D_subtractOdd 34 = .ok (.land, 1) := dk tk_D_subtractOdd 20
theorem d_D_subtractOdd_35 : decode b_D_subtractOdd 35 = .ok (.lsub, 1) := dk tk_D_subtractOdd 21
theorem d_D_subtractOdd_36 : decode b_D_subtractOdd 36 = .ok (.lload_n 2, 1) := dk tk_D_subtractOdd 22
theorem d_D_subtractOdd_37 : decode b_D_subtractOdd 37 = .ok (.lsub, 1) := dk tk_D_subtractOdd 23
theorem d_D_subtractOdd_38 : decode b_D_subtractOdd 38 = .ok (.lstore 5, 2) := dk tk_D_subtractOdd 24
theorem d_D_subtractOdd_40 : decode b_D_subtractOdd 40 = .ok (.aload_n 1, 1) := dk tk_D_subtractOdd 25
theorem d_D_subtractOdd_41 : decode b_D_subtractOdd 41 = .ok (.iload 4, 2) := dk tk_D_subtractOdd 26
theorem d_D_subtractOdd_43 : decode b_D_subtractOdd 43 = .ok (.lload 5, 2) := dk tk_D_subtractOdd 27
theorem d_D_subtractOdd_45 : decode b_D_subtractOdd 45 = .ok (.l2i, 1) := dk tk_D_subtractOdd 28
theorem d_D_subtractOdd_46 : decode b_D_subtractOdd 46 = .ok (.iastore, 1) := dk tk_D_subtractOdd 29
theorem d_D_subtractOdd_47 : decode b_D_subtractOdd 47 = .ok (.lload 5, 2) := dk tk_D_subtractOdd 30
theorem d_D_subtractOdd_49 : decode b_D_subtractOdd 49 = .ok (.bipush 63, 2) := dk tk_D_subtractOdd 31
theorem d_D_subtractOdd_51 : decode b_D_subtractOdd 51 = .ok (.lushr, 1) := dk tk_D_subtractOdd 32
theorem d_D_subtractOdd_52 : decode b_D_subtractOdd 52 = .ok (.lstore_n 2, 1) := dk tk_D_subtractOdd 33
theorem d_D_subtractOdd_53 : decode b_D_subtractOdd 53 = .ok (.iinc 4 1, 3) := dk tk_D_subtractOdd 34
theorem d_D_subtractOdd_56 : decode b_D_subtractOdd 56 = .ok (.goto (-51), 3) := dk tk_D_subtractOdd 35
theorem d_D_subtractOdd_59 : decode b_D_subtractOdd 59 = .ok (.return_, 1) := dk tk_D_subtractOdd 36
def tb_D_twiceOdd : List (Nat × Instr × Nat) := [(0, .iconst 0, 1), (1, .istore_n 2, 1), (2, .iconst 0, 1), (3, .istore_n 3, 1), (4, .iload_n 3, 1), (5, .aload_n 0, 1), (6, .getfield 103, 3), (9, .if_icmp .ge 30, 3), (12, .aload_n 1, 1), (13, .iload_n 3, 1), (14, .iaload, 1), (15, .bipush 31, 2), (17, .iushr, 1), (18, .istore 4, 2), (20, .aload_n 1, 1), (21, .iload_n 3, 1), (22, .aload_n 1, 1), (23, .iload_n 3, 1), (24, .iaload, 1), (25, .iconst 1, 1), (26, .ishl, 1), (27, .iload_n 2, 1), (28, .ior, 1), (29, .iastore, 1), (30, .iload 4, 2), (32, .istore_n 2, 1), (33, .iinc 3 1, 3), (36, .goto (-32), 3), (39, .iload_n 2, 1), (40, .iconst 1, 1), (41, .if_icmp .eq 14, 3), (44, .aload_n 1, 1), (45, .aload_n 0, 1), (46, .getfield 22, 3), (49, .invokestatic 66, 3), (52, .ifCond .lt 8, 3), (55, .aload_n 0, 1), (56, .aload_n 1, 1), (57, .invokevirtual 125, 3), (60, .return_, 1)]
theorem tk_D_twiceOdd : tb_D_twiceOdd.all (fun r => decide (decode b_D_twiceOdd r.1 = .ok r.2)) = true := by decide +kernel
theorem d_D_twiceOdd_0 : decode b_D_twiceOdd 0 = .ok (.iconst 0, 1) := dk tk_D_twiceOdd 0
theorem d_D_twiceOdd_1 : decode b_D_twiceOdd 1 = .ok (.istore_n 2, 1) := dk tk_D_twiceOdd 1
theorem d_D_twiceOdd_2 : decode b_D_twiceOdd 2 = .ok (.iconst 0, 1) := dk tk_D_twiceOdd 2
theorem d_D_twiceOdd_3 : decode b_D_twiceOdd 3 = .ok (.istore_n 3, 1) := dk tk_D_twiceOdd 3
theorem d_D_twiceOdd_4 : decode b_D_twiceOdd 4 = .ok (.iload_n 3, 1) := dk tk_D_twiceOdd 4
theorem d_D_twiceOdd_5 : decode b_D_twiceOdd 5 = .ok (.aload_n 0, 1) := dk tk_D_twiceOdd 5
theorem d_D_twiceOdd_6 : decode b_D_twiceOdd 6 = .ok (.getfield 103, 3) := dk tk_D_twiceOdd 6
theorem d_D_twiceOdd_9 : decode b_D_twiceOdd 9 = .ok (.if_icmp .ge 30, 3) := dk tk_D_twiceOdd 7
theorem d_D_twiceOdd_12 : decode b_D_twiceOdd 12 = .ok (.aload_n 1, 1) := dk tk_D_twiceOdd 8
theorem d_D_twiceOdd_13 : decode b_D_twiceOdd 13 = .ok (.iload_n 3, 1) := dk tk_D_twiceOdd 9
theorem d_D_twiceOdd_14 : decode b_D_twiceOdd 14 = .ok (.iaload, 1) := dk tk_D_twiceOdd 10
theorem d_D_twiceOdd_15 : decode b_D_twiceOdd 15 = .ok (.bipush 31, 2) := dk tk_D_twiceOdd 11
theorem d_D_twiceOdd_17 : decode b_D_twiceOdd 17 = .ok (.iushr, 1) := dk tk_D_twiceOdd 12
theorem d_D_twiceOdd_18 : decode b_D_twiceOdd 18 = .ok (.istore 4, 2) := dk tk_D_twiceOdd 13
theorem d_D_twiceOdd_20 : decode b_D_twiceOdd 20 = .ok (.aload_n 1, 1) := dk tk_D_twiceOdd 14
theorem d_D_twiceOdd_21 : decode b_D_twiceOdd 21 = .ok (.iload_n 3, 1) := dk tk_D_twiceOdd 15
theorem d_D_twiceOdd_22 : decode b_D_twiceOdd 22 = .ok (.aload_n 1, 1) := dk tk_D_twiceOdd 16
theorem d_D_twiceOdd_23 : decode b_D_twiceOdd 23 = .ok (.iload_n 3, 1) := dk tk_D_twiceOdd 17
theorem d_D_twiceOdd_24 : decode b_D_twiceOdd 24 = .ok (.iaload, 1) := dk tk_D_twiceOdd 18
theorem d_D_twiceOdd_25 : decode b_D_twiceOdd 25 = .ok (.iconst 1, 1) := dk tk_D_twiceOdd 19
theorem d_D_twiceOdd_26 : decode b_D_twiceOdd 26 = .ok (.ishl, 1) := dk tk_D_twiceOdd 20
theorem d_D_twiceOdd_27 : decode b_D_twiceOdd 27 = .ok (.iload_n 2, 1) := dk tk_D_twiceOdd 21
theorem d_D_twiceOdd_28 : decode b_D_twiceOdd 28 = .ok (.ior, 1) := dk tk_D_twiceOdd 22
theorem d_D_twiceOdd_29 : decode b_D_twiceOdd 29 = .ok (.iastore, 1) := dk tk_D_twiceOdd 23
theorem d_D_twiceOdd_30 : decode b_D_twiceOdd 30 = .ok (.iload 4, 2) := dk tk_D_twiceOdd 24
theorem d_D_twiceOdd_32 : decode b_D_twiceOdd 32 = .ok (.istore_n 2, 1) := dk tk_D_twiceOdd 25
theorem d_D_twiceOdd_33 : decode b_D_twiceOdd 33 = .ok (.iinc 3 1, 3) := dk tk_D_twiceOdd 26
theorem d_D_twiceOdd_36 : decode b_D_twiceOdd 36 = .ok (.goto (-32), 3) := dk tk_D_twiceOdd 27
theorem d_D_twiceOdd_39 : decode b_D_twiceOdd 39 = .ok (.iload_n 2, 1) := dk tk_D_twiceOdd 28
theorem d_D_twiceOdd_40 : decode b_D_twiceOdd 40 = .ok (.iconst 1, 1) := dk tk_D_twiceOdd 29
theorem d_D_twiceOdd_41 : decode b_D_twiceOdd 41 = .ok (.if_icmp .eq 14, 3) := dk tk_D_twiceOdd 30
theorem d_D_twiceOdd_44 : decode b_D_twiceOdd 44 = .ok (.aload_n 1, 1) := dk tk_D_twiceOdd 31
theorem d_D_twiceOdd_45 : decode b_D_twiceOdd 45 = .ok (.aload_n 0, 1) := dk tk_D_twiceOdd 32
theorem d_D_twiceOdd_46 : decode b_D_twiceOdd 46 = .ok (.getfield 22, 3) := dk tk_D_twiceOdd 33
theorem d_D_twiceOdd_49 : decode b_D_twiceOdd 49 = .ok (.invokestatic 66, 3) := dk tk_D_twiceOdd 34
theorem d_D_twiceOdd_52 : decode b_D_twiceOdd 52 = .ok (.ifCond .lt 8, 3) := dk tk_D_twiceOdd 35
theorem d_D_twiceOdd_55 : decode b_D_twiceOdd 55 = .ok (.aload_n 0, 1) := dk tk_D_twiceOdd 36
theorem d_D_twiceOdd_56 : decode b_D_twiceOdd 56 = .ok (.aload_n 1, 1) := dk tk_D_twiceOdd 37
theorem d_D_twiceOdd_57 : decode b_D_twiceOdd 57 = .ok (.invokevirtual 125, 3) := dk tk_D_twiceOdd 38
theorem d_D_twiceOdd_60 : decode b_D_twiceOdd 60 = .ok (.return_, 1) := dk tk_D_twiceOdd 39
def tb_D_powerOfOdd : List (Nat × Instr × Nat) := [(0, .aload_n 0, 1), (1, .getfield 31, 3), (4, .iconst 0, 1), (5, .invokestatic 122, 3), (8, .aload_n 0, 1), (9, .getfield 31, 3), (12, .iconst 0, 1), (13, .iconst 1, 1), (14, .iastore, 1), (15, .iconst 0, 1), (16, .istore_n 1, 1), (17, .iload_n 1, 1), (18, .bipush 32, 2), (20, .aload_n 0, 1), (21, .getfield 103, 3), (24, .imul, 1), (25, .if_icmp .ge 17, 3), (28, .aload_n 0, 1), (29, .aload_n 0, 1), (30, .getfield 31, 3), (33, .invokevirtual 128, 3), (36, .iinc 1 1, 3), (39, .goto (-22), 3), (42, .aload_n 0, 1), (43, .getfield 31, 3), (46, .iconst 0, 1), (47, .aload_n 0, 1), (48, .getfield 34, 3), (51, .iconst 0, 1), (52, .bipush 16, 2), (54, .invokestatic 78, 3), (57, .iconst 0, 1), (58, .istore_n 1, 1), (59, .iload_n 1, 1), (60, .bipush 32, 2), (62, .aload_n 0, 1), (63, .getfield 103, 3), (66, .imul, 1), (67, .if_icmp .ge 17, 3), (70, .aload_n 0, 1), (71, .aload_n 0, 1), (72, .getfield 34, 3), (75, .invokevirtual 128, 3), (78, .iinc 1 1, 3), (81, .goto (-22), 3), (84, .aload_n 0, 1), (85, .getfield 13, 3), (88, .bipush 16, 2), (90, .aload_n 0, 1), (91, .getfield 22, 3), (94, .aload_n 0, 1), (95, .getfield 28, 3), (98, .invokestatic 74, 3), (101, .aload_n 0, 1), (102, .getfield 28, 3), (105, .iconst 0, 1), (106, .aload_n 0, 1), (107, .getfield 43, 3), (110, .iconst 0, 1), (111, .bipush 16, 2), (113, .invokestatic 78, 3), (116, .aload_n 0, 1), (117, .getfield 31, 3), (120, .iconst 0, 1), (121, .aload_n 0, 1), (122, .getfield 48, 3), (125, .iconst 0, 1), (126, .aaload, 1), (127, .iconst 0, 1), (128, .bipush 16, 2), (130, .invokestatic 78, 3), (133, .aload_n 0, 1), (134, .aload_n 0, 1), (135, .getfield 43, 3), (138, .aload_n 0, 1), (139, .getfield 34, 3), (142, .aload_n 0, 1), (143, .getfield 48, 3), (146, .iconst 1, 1), (147, .aaload, 1), (148, .invokevirtual 131, 3), (151, .iconst 2, 1), (152, .istore_n 1, 1), (153, .iload_n 1, 1), (154, .bipush 16, 2), (156, .if_icmp .ge 33, 3), (159, .aload_n 0, 1), (160, .aload_n 0, 1), (161, .getfield 48, 3), (164, .iload_n 1, 1), (165, .iconst 1, 1), (166, .isub, 1), (167, .aaload, 1), (168, .aload_n 0, 1), (169, .getfield 48, 3), (172, .iconst 1, 1), (173, .aaload, 1), (174, .aload_n 0, 1), (175, .getfield 48, 3), (178, .iload_n 1, 1), (179, .aaload, 1), (180, .invokevirtual 131, 3), (183, .iinc 1 1, 3), (186, .goto (-33), 3), (189, .aload_n 0, 1), (190, .getfield 31, 3), (193, .iconst 0, 1), (194, .aload_n 0, 1), (195, .getfield 37, 3), (198, .iconst 0, 1), (199, .bipush 16, 2), (201, .invokestatic 78, 3), (204, .aload_n 0, 1), (205, .invokevirtual 135, 3), (208, .iconst 3, 1), (209, .iadd, 1), (210, .iconst 4, 1), (211, .idiv, 1), (212, .iconst 1, 1), (213, .isub, 1), (214, .istore_n 1, 1), (215, .iload_n 1, 1), (216, .ifCond .lt 73, 3), (219, .iconst 0, 1), (220, .istore_n 2, 1), (221, .iload_n 2, 1), (222, .iconst 4, 1), (223, .if_icmp .ge 25, 3), (226, .aload_n 0, 1), (227, .aload_n 0, 1), (228, .getfield 37, 3), (231, .aload_n 0, 1), (232, .getfield 37, 3), (235, .aload_n 0, 1), (236, .getfield 37, 3), (239, .invokevirtual 131, 3), (242, .iinc 2 1, 3), (245, .goto (-24), 3), (248, .aload_n 0, 1), (249, .aload_n 0, 1), (250, .getfield 37, 3), (253, .aload_n 0, 1), (254, .getfield 48, 3), (257, .aload_n 0, 1), (258, .getfield 16, 3), (261, .iload_n 1, 1), (262, .iconst 3, 1), (263, .ishr, 1), (264, .iaload, 1), (265, .iconst 4, 1), (266, .iload_n 1, 1), (267, .bipush 7, 2), (269, .iand, 1), (270, .imul, 1), (271, .iushr, 1), (272, .bipush 15, 2), (274, .iand, 1), (275, .aaload, 1), (276, .aload_n 0, 1), (277, .getfield 37, 3), (280, .invokevirtual 131, 3), (283, .iinc 1 (-1), 3), (286, .goto (-71), 3), (289, .aload_n 0, 1), (290, .getfield 43, 3), (293, .iconst 0, 1), (294, .invokestatic 122, 3), (297, .aload_n 0, 1), (298, .getfield 43, 3), (301, .iconst 0, 1), (302, .iconst 1, 1), (303, .iastore, 1), (304, .aload_n 0, 1), (305, .aload_n 0, 1), (306, .getfield 37, 3), (309, .aload_n 0, 1), (310, .getfield 43, 3), (313, .aload_n 0, 1), (314, .getfield 19, 3), (317, .invokevirtual 131, 3), (320, .return_, 1)]
theorem tk_D_powerOfOdd : tb_D_powerOfOdd.all (fun r => decide (decode b_D_powerOfOdd r.1 = .ok r.2)) = true := by decide +kernel
theorem d_D_powerOfOdd_0 : decode b_D_powerOfOdd 0 = .ok (.aload_n 0, 1) := dk tk_D_powerOfOdd 0
theorem d_D_powerOfOdd_1 : decode b_D_powerOfOdd 1 = .ok (.getfield 31, 3) := dk tk_D_powerOfOdd 1
theorem d_D_powerOfOdd_4 : decode b_D_powerOfOdd 4 = .ok (.iconst 0, 1) := dk tk_D_powerOfOdd 2
theorem d_D_powerOfOdd_5 : decode b_D_powerOfOdd 5 = .ok (.invokestatic 122, 3) := dk tk_D_powerOfOdd 3
theorem d_D_powerOfOdd_8 : decode b_D_powerOfOdd 8 = .ok (.aload_n 0, 1) := dk tk_D_powerOfOdd 4
theorem d_D_powerOfOdd_9 : decode b_D_powerOfOdd 9 = .ok (.getfield 31, 3) := dk tk_D_powerOfOdd 5
theorem d_D_powerOfOdd_12 : decode b_D_powerOfOdd 12 = .ok (.iconst 0, 1) := dk tk_D_powerOfOdd 6
theorem d_D_powerOfOdd_13 : decode b_D_powerOfOdd 13 = .ok (.iconst 1, 1) := dk tk_D_powerOfOdd 7
theorem d_D_powerOfOdd_14 : decode b_D_powerOfOdd 14 = .ok (.iastore, 1) := dk tk_D_powerOfOdd 8
theorem d_D_powerOfOdd_15 : decode b_D_powerOfOdd 15 = .ok (.iconst 0, 1) := dk tk_D_powerOfOdd 9
theorem d_D_powerOfOdd_16 : decode b_D_powerOfOdd 16 = .ok (.istore_n 1, 1) := dk tk_D_powerOfOdd 10
theorem d_D_powerOfOdd_17 : decode b_D_powerOfOdd 17 = .ok (.iload_n 1, 1) := dk tk_D_powerOfOdd 11
theorem d_D_powerOfOdd_18 : decode b_D_powerOfOdd 18 = .ok (.bipush 32, 2) := dk tk_D_powerOfOdd 12
theorem d_D_powerOfOdd_20 : decode b_D_powerOfOdd 20 = .ok (.aload_n 0, 1) := dk tk_D_powerOfOdd 13
theorem d_D_powerOfOdd_21 : decode b_D_powerOfOdd 21 = .ok (.getfield 103, 3) := dk tk_D_powerOfOdd 14
theorem d_D_powerOfOdd_24 : decode b_D_powerOfOdd 24 = .ok (.imul, 1) := dk tk_D_powerOfOdd 15
theorem d_D_powerOfOdd_25 : decode b_D_powerOfOdd 25 = .ok (.if_icmp .ge 17, 3) := dk tk_D_powerOfOdd 16
theorem d_D_powerOfOdd_28 : decode b_D_powerOfOdd 28 = .ok (.aload_n 0, 1) := dk tk_D_powerOfOdd 17
theorem d_D_powerOfOdd_29 : decode b_D_powerOfOdd 29 = .ok (.aload_n 0, 1) := dk tk_D_powerOfOdd 18
theorem d_D_powerOfOdd_30 : decode b_D_powerOfOdd 30 = .ok (.getfield 31, 3) := dk tk_D_powerOfOdd 19
theorem d_D_powerOfOdd_33 : decode b_D_powerOfOdd 33 = .ok (.invokevirtual 128, 3) := dk tk_D_powerOfOdd 20
theorem d_D_powerOfOdd_36 : decode b_D_powerOfOdd 36 = .ok (.iinc 1 1, 3) := dk tk_D_powerOfOdd 21
theorem d_D_powerOfOdd_39 : decode b_D_powerOfOdd 39 = .ok (.goto (-22), 3) := dk tk_D_powerOfOdd 22
theorem d_D_powerOfOdd_42 : decode b_D_powerOfOdd 42 = .ok (.aload_n 0, 1) := dk tk_D_powerOfOdd 23
theorem d_D_powerOfOdd_43 : decode b_D_powerOfOdd 43 = .ok (.getfield 31, 3) := dk tk_D_powerOfOdd 24
theorem d_D_powerOfOdd_46 : decode b_D_powerOfOdd 46 = .ok (.iconst 0, 1) := dk tk_D_powerOfOdd 25
theorem d_D_powerOfOdd_47 : decode b_D_powerOfOdd 47 = .ok (.aload_n 0, 1) := dk tk_D_powerOfOdd 26
theorem d_D_powerOfOdd_48 : decode b_D_powerOfOdd 48 = .ok (.getfield 34, 3) := dk tk_D_powerOfOdd 27
theorem d_D_powerOfOdd_51 : decode b_D_powerOfOdd 51 = .ok (.iconst 0, 1) := dk tk_D_powerOfOdd 28
theorem d_D_powerOfOdd_52 : decode b_D_powerOfOdd 52 = .ok (.bipush 16, 2) := dk tk_D_powerOfOdd 29
theorem d_D_powerOfOdd_54 : decode b_D_powerOfOdd 54 = .ok (.invokestatic 78, 3) := dk tk_D_powerOfOdd 30
theorem d_D_powerOfOdd_57 : decode b_D_powerOfOdd 57 = .ok (.iconst 0, 1) := dk tk_D_powerOfOdd 31
theorem d_D_powerOfOdd_58 : decode b_D_powerOfOdd 58 = .ok (.istore_n 1, 1) := dk tk_D_powerOfOdd 32
theorem d_D_powerOfOdd_59 : decode b_D_powerOfOdd 59 = .ok (.iload_n 1, 1) := dk tk_D_powerOfOdd 33
theorem d_D_powerOfOdd_60 : decode b_D_powerOfOdd 60 = .ok (.bipush 32, 2) := dk tk_D_powerOfOdd 34
theorem d_D_powerOfOdd_62 : decode b_D_powerOfOdd 62 = .ok (.aload_n 0, 1) := dk tk_D_powerOfOdd 35
theorem d_D_powerOfOdd_63 : decode b_D_powerOfOdd 63 = .ok (.getfield 103, 3) := dk tk_D_powerOfOdd 36
theorem d_D_powerOfOdd_66 : decode b_D_powerOfOdd 66 = .ok (.imul, 1) := dk tk_D_powerOfOdd 37
theorem d_D_powerOfOdd_67 : decode b_D_powerOfOdd 67 = .ok (.if_icmp .ge 17, 3) := dk tk_D_powerOfOdd 38
theorem d_D_powerOfOdd_70 : decode b_D_powerOfOdd 70 = .ok (.aload_n 0, 1) := dk tk_D_powerOfOdd 39
theorem d_D_powerOfOdd_71 : decode b_D_powerOfOdd 71 = .ok (.aload_n 0, 1) := dk tk_D_powerOfOdd 40
theorem d_D_powerOfOdd_72 : decode b_D_powerOfOdd 72 = .ok (.getfield 34, 3) := dk tk_D_powerOfOdd 41
theorem d_D_powerOfOdd_75 : decode b_D_powerOfOdd 75 = .ok (.invokevirtual 128, 3) := dk tk_D_powerOfOdd 42
theorem d_D_powerOfOdd_78 : decode b_D_powerOfOdd 78 = .ok (.iinc 1 1, 3) := dk tk_D_powerOfOdd 43
theorem d_D_powerOfOdd_81 : decode b_D_powerOfOdd 81 = .ok (.goto (-22), 3) := dk tk_D_powerOfOdd 44
theorem d_D_powerOfOdd_84 : decode b_D_powerOfOdd 84 = .ok (.aload_n 0, 1) := dk tk_D_powerOfOdd 45
theorem d_D_powerOfOdd_85 : decode b_D_powerOfOdd 85 = .ok (.getfield 13, 3) := dk tk_D_powerOfOdd 46
theorem d_D_powerOfOdd_88 : decode b_D_powerOfOdd 88 = .ok (.bipush 16, 2) := dk tk_D_powerOfOdd 47
theorem d_D_powerOfOdd_90 : decode b_D_powerOfOdd 90 = .ok (.aload_n 0, 1) := dk tk_D_powerOfOdd 48
theorem d_D_powerOfOdd_91 : decode b_D_powerOfOdd 91 = .ok (.getfield 22, 3) := dk tk_D_powerOfOdd 49
theorem d_D_powerOfOdd_94 : decode b_D_powerOfOdd 94 = .ok (.aload_n 0, 1) := dk tk_D_powerOfOdd 50
theorem d_D_powerOfOdd_95 : decode b_D_powerOfOdd 95 = .ok (.getfield 28, 3) := dk tk_D_powerOfOdd 51
theorem d_D_powerOfOdd_98 : decode b_D_powerOfOdd 98 = .ok (.invokestatic 74, 3) := dk tk_D_powerOfOdd 52
theorem d_D_powerOfOdd_101 : decode b_D_powerOfOdd 101 = .ok (.aload_n 0, 1) := dk tk_D_powerOfOdd 53
theorem d_D_powerOfOdd_102 : decode b_D_powerOfOdd 102 = .ok (.getfield 28, 3) := dk tk_D_powerOfOdd 54
theorem d_D_powerOfOdd_105 : decode b_D_powerOfOdd 105 = .ok (.iconst 0, 1) := dk tk_D_powerOfOdd 55
theorem d_D_powerOfOdd_106 : decode b_D_powerOfOdd 106 = .ok (.aload_n 0, 1) := dk tk_D_powerOfOdd 56
theorem d_D_powerOfOdd_107 : decode b_D_powerOfOdd 107 = .ok (.getfield 43, 3) := dk tk_D_powerOfOdd 57
theorem d_D_powerOfOdd_110 : decode b_D_powerOfOdd 110 = .ok (.iconst 0, 1) := dk tk_D_powerOfOdd 58
theorem d_D_powerOfOdd_111 : decode b_D_powerOfOdd 111 = .ok (.bipush 16, 2) := dk tk_D_powerOfOdd 59
theorem d_D_powerOfOdd_113 : decode b_D_powerOfOdd 113 = .ok (.invokestatic 78, 3) := dk tk_D_powerOfOdd 60
theorem d_D_powerOfOdd_116 : decode b_D_powerOfOdd 116 = .ok (.aload_n 0, 1) := dk tk_D_powerOfOdd 61
theorem d_D_powerOfOdd_117 : decode b_D_powerOfOdd 117 = .ok (.getfield 31, 3) := dk tk_D_powerOfOdd 62
theorem d_D_powerOfOdd_120 : decode b_D_powerOfOdd 120 = .ok (.iconst 0, 1) := dk tk_D_powerOfOdd 63
theorem d_D_powerOfOdd_121 : decode b_D_powerOfOdd 121 = .ok (.aload_n 0, 1) := dk tk_D_powerOfOdd 64
theorem d_D_powerOfOdd_122 : decode b_D_powerOfOdd 122 = .ok (.getfield 48, 3) := dk tk_D_powerOfOdd 65
theorem d_D_powerOfOdd_125 : decode b_D_powerOfOdd 125 = .ok (.iconst 0, 1) := dk tk_D_powerOfOdd 66
theorem d_D_powerOfOdd_126 : decode b_D_powerOfOdd 126 = .ok (.aaload, 1) := dk tk_D_powerOfOdd 67
theorem d_D_powerOfOdd_127 : decode b_D_powerOfOdd 127 = .ok (.iconst 0, 1) := dk tk_D_powerOfOdd 68
theorem d_D_powerOfOdd_128 : decode b_D_powerOfOdd 128 = .ok (.bipush 16, 2) := dk tk_D_powerOfOdd 69
theorem d_D_powerOfOdd_130 : decode b_D_powerOfOdd 130 = .ok (.invokestatic 78, 3) := dk tk_D_powerOfOdd 70
theorem d_D_powerOfOdd_133 : decode b_D_powerOfOdd 133 = .ok (.aload_n 0, 1) := dk tk_D_powerOfOdd 71
theorem d_D_powerOfOdd_134 : decode b_D_powerOfOdd 134 = .ok (.aload_n 0, 1) := dk tk_D_powerOfOdd 72
theorem d_D_powerOfOdd_135 : decode b_D_powerOfOdd 135 = .ok (.getfield 43, 3) := dk tk_D_powerOfOdd 73
theorem d_D_powerOfOdd_138 : decode b_D_powerOfOdd 138 = .ok (.aload_n 0, 1) := dk tk_D_powerOfOdd 74
theorem d_D_powerOfOdd_139 : decode b_D_powerOfOdd 139 = .ok (.getfield 34, 3) := dk tk_D_powerOfOdd 75
theorem d_D_powerOfOdd_142 : decode b_D_powerOfOdd 142 = .ok (.aload_n 0, 1) := dk tk_D_powerOfOdd 76
theorem d_D_powerOfOdd_143 : decode b_D_powerOfOdd 143 = .ok (.getfield 48, 3) := dk tk_D_powerOfOdd 77
theorem d_D_powerOfOdd_146 : decode b_D_powerOfOdd 146 = .ok (.iconst 1, 1) := dk tk_D_powerOfOdd 78
theorem d_D_powerOfOdd_147 : decode b_D_powerOfOdd 147 = .ok (.aaload, 1) := dk tk_D_powerOfOdd 79
theorem d_D_powerOfOdd_148 : decode b_D_powerOfOdd 148 = .ok (.invokevirtual 131, 3) := dk tk_D_powerOfOdd 80
theorem d_D_powerOfOdd_151 : decode b_D_powerOfOdd 151 = .ok (.iconst 2, 1) := dk tk_D_powerOfOdd 81
theorem d_D_powerOfOdd_152 : decode b_D_powerOfOdd 152 = .ok (.istore_n 1, 1) := dk tk_D_powerOfOdd 82
theorem d_D_powerOfOdd_153 : decode b_D_powerOfOdd 153 = .ok (.iload_n 1, 1) := dk tk_D_powerOfOdd 83
theorem d_D_powerOfOdd_154 : decode b_D_powerOfOdd 154 = .ok (.bipush 16, 2) := dk tk_D_powerOfOdd 84
theorem d_D_powerOfOdd_156 : decode b_D_powerOfOdd 156 = .ok (.if_icmp .ge 33, 3) := dk tk_D_powerOfOdd 85
theorem d_D_powerOfOdd_159 : decode b_D_powerOfOdd 159 = .ok (.aload_n 0, 1) := dk tk_D_powerOfOdd 86
theorem d_D_powerOfOdd_160 : decode b_D_powerOfOdd 160 = .ok (.aload_n 0, 1) := dk tk_D_powerOfOdd 87
theorem d_D_powerOfOdd_161 : decode b_D_powerOfOdd 161 = .ok (.getfield 48, 3) := dk tk_D_powerOfOdd 88
theorem d_D_powerOfOdd_164 : decode b_D_powerOfOdd 164 = .ok (.iload_n 1, 1) := dk tk_D_powerOfOdd 89
theorem d_D_powerOfOdd_165 : decode b_D_powerOfOdd 165 = .ok (.iconst 1, 1) := dk tk_D_powerOfOdd 90
theorem d_D_powerOfOdd_166 : decode b_D_powerOfOdd 166 = .ok (.isub, 1) := dk tk_D_powerOfOdd 91
theorem d_D_powerOfOdd_167 : decode b_D_powerOfOdd 167 = .ok (.aaload, 1) := dk tk_D_powerOfOdd 92
theorem d_D_powerOfOdd_168 : decode b_D_powerOfOdd 168 = .ok (.aload_n 0, 1) := dk tk_D_powerOfOdd 93
theorem d_D_powerOfOdd_169 : decode b_D_powerOfOdd 169 = .ok (.getfield 48, 3) := dk tk_D_powerOfOdd 94
theorem d_D_powerOfOdd_172 : decode b_D_powerOfOdd 172 = .ok (.iconst 1, 1) := dk tk_D_powerOfOdd 95
theorem d_D_powerOfOdd_173 : decode b_D_powerOfOdd 173 = .ok (.aaload, 1) := dk tk_D_powerOfOdd 96
theorem d_D_powerOfOdd_174 : decode b_D_powerOfOdd 174 = .ok (.aload_n 0, 1) := dk tk_D_powerOfOdd 97
theorem d_D_powerOfOdd_175 : decode b_D_powerOfOdd 175 = .ok (.getfield 48, 3) := dk tk_D_powerOfOdd 98
theorem d_D_powerOfOdd_178 : decode b_D_powerOfOdd 178 = .ok (.iload_n 1, 1) := dk tk_D_powerOfOdd 99
theorem d_D_powerOfOdd_179 : decode b_D_powerOfOdd 179 = .ok (.aaload, 1) := dk tk_D_powerOfOdd 100
theorem d_D_powerOfOdd_180 : decode b_D_powerOfOdd 180 = .ok (.invokevirtual 131, 3) := dk tk_D_powerOfOdd 101
theorem d_D_powerOfOdd_183 : decode b_D_powerOfOdd 183 = .ok (.iinc 1 1, 3) := dk tk_D_powerOfOdd 102
theorem d_D_powerOfOdd_186 : decode b_D_powerOfOdd 186 = .ok (.goto (-33), 3) := dk tk_D_powerOfOdd 103
theorem d_D_powerOfOdd_189 : decode b_D_powerOfOdd 189 = .ok (.aload_n 0, 1) := dk tk_D_powerOfOdd 104
theorem d_D_powerOfOdd_190 : decode b_D_powerOfOdd 190 = .ok (.getfield 31, 3) := dk tk_D_powerOfOdd 105
theorem d_D_powerOfOdd_193 : decode b_D_powerOfOdd 193 = .ok (.iconst 0, 1) := dk tk_D_powerOfOdd 106
theorem d_D_powerOfOdd_194 : decode b_D_powerOfOdd 194 = .ok (.aload_n 0, 1) := dk tk_D_powerOfOdd 107
theorem d_D_powerOfOdd_195 : decode b_D_powerOfOdd 195 = .ok (.getfield 37, 3) := dk tk_D_powerOfOdd 108
theorem d_D_powerOfOdd_198 : decode b_D_powerOfOdd 198 = .ok (.iconst 0, 1) := dk tk_D_powerOfOdd 109
theorem d_D_powerOfOdd_199 : decode b_D_powerOfOdd 199 = .ok (.bipush 16, 2) := dk tk_D_powerOfOdd 110
theorem d_D_powerOfOdd_201 : decode b_D_powerOfOdd 201 = .ok (.invokestatic 78, 3) := dk tk_D_powerOfOdd 111
theorem d_D_powerOfOdd_204 : decode b_D_powerOfOdd 204 = .ok (.aload_n 0, 1) := dk tk_D_powerOfOdd 112
theorem d_D_powerOfOdd_205 : decode b_D_powerOfOdd 205 = .ok (.invokevirtual 135, 3) := dk tk_D_powerOfOdd 113
theorem d_D_powerOfOdd_208 : decode b_D_powerOfOdd 208 = .ok (.iconst 3, 1) := dk tk_D_powerOfOdd 114
theorem d_D_powerOfOdd_209 : decode b_D_powerOfOdd 209 = .ok (.iadd, 1) := dk tk_D_powerOfOdd 115
theorem d_D_powerOfOdd_210 : decode b_D_powerOfOdd 210 = .ok (.iconst 4, 1) := dk tk_D_powerOfOdd 116
theorem d_D_powerOfOdd_211 : decode b_D_powerOfOdd 211 = .ok (.idiv, 1) := dk tk_D_powerOfOdd 117
theorem d_D_powerOfOdd_212 : decode b_D_powerOfOdd 212 = .ok (.iconst 1, 1) := dk tk_D_powerOfOdd 118
theorem d_D_powerOfOdd_213 : decode b_D_powerOfOdd 213 = .ok (.isub, 1) := dk tk_D_powerOfOdd 119
theorem d_D_powerOfOdd_214 : decode b_D_powerOfOdd 214 = .ok (.istore_n 1, 1) := dk tk_D_powerOfOdd 120
theorem d_D_powerOfOdd_215 : decode b_D_powerOfOdd 215 = .ok (.iload_n 1, 1) := dk tk_D_powerOfOdd 121
theorem d_D_powerOfOdd_216 : decode b_D_powerOfOdd 216 = .ok (.ifCond .lt 73, 3) := dk tk_D_powerOfOdd 122
theorem d_D_powerOfOdd_219 : decode b_D_powerOfOdd 219 = .ok (.iconst 0, 1) := dk tk_D_powerOfOdd 123
theorem d_D_powerOfOdd_220 : decode b_D_powerOfOdd 220 = .ok (.istore_n 2, 1) := dk tk_D_powerOfOdd 124
theorem d_D_powerOfOdd_221 : decode b_D_powerOfOdd 221 = .ok (.iload_n 2, 1) := dk tk_D_powerOfOdd 125
theorem d_D_powerOfOdd_222 : decode b_D_powerOfOdd 222 = .ok (.iconst 4, 1) := dk tk_D_powerOfOdd 126
theorem d_D_powerOfOdd_223 : decode b_D_powerOfOdd 223 = .ok (.if_icmp .ge 25, 3) := dk tk_D_powerOfOdd 127
theorem d_D_powerOfOdd_226 : decode b_D_powerOfOdd 226 = .ok (.aload_n 0, 1) := dk tk_D_powerOfOdd 128
theorem d_D_powerOfOdd_227 : decode b_D_powerOfOdd 227 = .ok (.aload_n 0, 1) := dk tk_D_powerOfOdd 129
theorem d_D_powerOfOdd_228 : decode b_D_powerOfOdd 228 = .ok (.getfield 37, 3) := dk tk_D_powerOfOdd 130
theorem d_D_powerOfOdd_231 : decode b_D_powerOfOdd 231 = .ok (.aload_n 0, 1) := dk tk_D_powerOfOdd 131
theorem d_D_powerOfOdd_232 : decode b_D_powerOfOdd 232 = .ok (.getfield 37, 3) := dk tk_D_powerOfOdd 132
theorem d_D_powerOfOdd_235 : decode b_D_powerOfOdd 235 = .ok (.aload_n 0, 1) := dk tk_D_powerOfOdd 133
theorem d_D_powerOfOdd_236 : decode b_D_powerOfOdd 236 = .ok (.getfield 37, 3) := dk tk_D_powerOfOdd 134
theorem d_D_powerOfOdd_239 : decode b_D_powerOfOdd 239 = .ok (.invokevirtual 131, 3) := dk tk_D_powerOfOdd 135
theorem d_D_powerOfOdd_242 : decode b_D_powerOfOdd 242 = .ok (.iinc 2 1, 3) := dk tk_D_powerOfOdd 136
theorem d_D_powerOfOdd_245 : decode b_D_powerOfOdd 245 = .ok (.goto (-24), 3) := dk tk_D_powerOfOdd 137
theorem d_D_powerOfOdd_248 : decode b_D_powerOfOdd 248 = .ok (.aload_n 0, 1) := dk tk_D_powerOfOdd 138
theorem d_D_powerOfOdd_249 : decode b_D_powerOfOdd 249 = .ok (.aload_n 0, 1) := dk tk_D_powerOfOdd 139
theorem d_D_powerOfOdd_250 : decode b_D_powerOfOdd 250 = .ok (.getfield 37, 3) := dk tk_D_powerOfOdd 140
theorem d_D_powerOfOdd_253 : decode b_D_powerOfOdd 253 = .ok (.aload_n 0, 1) := dk tk_D_powerOfOdd 141
theorem d_D_powerOfOdd_254 : decode b_D_powerOfOdd 254 = .ok (.getfield 48, 3) := dk tk_D_powerOfOdd 142
theorem d_D_powerOfOdd_257 : decode b_D_powerOfOdd 257 = .ok (.aload_n 0, 1) := dk tk_D_powerOfOdd 143
theorem d_D_powerOfOdd_258 : decode b_D_powerOfOdd 258 = .ok (.getfield 16, 3) := dk tk_D_powerOfOdd 144
theorem d_D_powerOfOdd_261 : decode b_D_powerOfOdd 261 = .ok (.iload_n 1, 1) := dk tk_D_powerOfOdd 145
theorem d_D_powerOfOdd_262 : decode b_D_powerOfOdd 262 = .ok (.iconst 3, 1) := dk tk_D_powerOfOdd 146
theorem d_D_powerOfOdd_263 : decode b_D_powerOfOdd 263 = .ok (.ishr, 1) := dk tk_D_powerOfOdd 147
theorem d_D_powerOfOdd_264 : decode b_D_powerOfOdd 264 = .ok (.iaload, 1) := dk tk_D_powerOfOdd 148
theorem d_D_powerOfOdd_265 : decode b_D_powerOfOdd 265 = .ok (.iconst 4, 1) := dk tk_D_powerOfOdd 149
theorem d_D_powerOfOdd_266 : decode b_D_powerOfOdd 266 = .ok (.iload_n 1, 1) := dk tk_D_powerOfOdd 150
theorem d_D_powerOfOdd_267 : decode b_D_powerOfOdd 267 = .ok (.bipush 7, 2) := dk tk_D_powerOfOdd 151
theorem d_D_powerOfOdd_269 : decode b_D_powerOfOdd 269 = .ok (.iand, 1) := dk tk_D_powerOfOdd 152
theorem d_D_powerOfOdd_270 : decode b_D_powerOfOdd 270 = .ok (.imul, 1) := dk tk_D_powerOfOdd 153
theorem d_D_powerOfOdd_271 : decode b_D_powerOfOdd 271 = .ok (.iushr, 1) := dk tk_D_powerOfOdd 154
theorem d_D_powerOfOdd_272 : decode b_D_powerOfOdd 272 = .ok (.bipush 15, 2) := dk tk_D_powerOfOdd 155
theorem d_D_powerOfOdd_274 : decode b_D_powerOfOdd 274 = .ok (.iand, 1) := dk tk_D_powerOfOdd 156
theorem d_D_powerOfOdd_275 : decode b_D_powerOfOdd 275 = .ok (.aaload, 1) := dk tk_D_powerOfOdd 157
theorem d_D_powerOfOdd_276 : decode b_D_powerOfOdd 276 = .ok (.aload_n 0, 1) := dk tk_D_powerOfOdd 158
theorem d_D_powerOfOdd_277 : decode b_D_powerOfOdd 277 = .ok (.getfield 37, 3) := dk tk_D_powerOfOdd 159
theorem d_D_powerOfOdd_280 : decode b_D_powerOfOdd 280 = .ok (.invokevirtual 131, 3) := dk tk_D_powerOfOdd 160
theorem d_D_powerOfOdd_283 : decode b_D_powerOfOdd 283 = .ok (.iinc 1 (-1), 3) := dk tk_D_powerOfOdd 161
theorem d_D_powerOfOdd_286 : decode b_D_powerOfOdd 286 = .ok (.goto (-71), 3) := dk tk_D_powerOfOdd 162
theorem d_D_powerOfOdd_289 : decode b_D_powerOfOdd 289 = .ok (.aload_n 0, 1) := dk tk_D_powerOfOdd 163
theorem d_D_powerOfOdd_290 : decode b_D_powerOfOdd 290 = .ok (.getfield 43, 3) := dk tk_D_powerOfOdd 164
theorem d_D_powerOfOdd_293 : decode b_D_powerOfOdd 293 = .ok (.iconst 0, 1) := dk tk_D_powerOfOdd 165
theorem d_D_powerOfOdd_294 : decode b_D_powerOfOdd 294 = .ok (.invokestatic 122, 3) := dk tk_D_powerOfOdd 166
theorem d_D_powerOfOdd_297 : decode b_D_powerOfOdd 297 = .ok (.aload_n 0, 1) := dk tk_D_powerOfOdd 167
theorem d_D_powerOfOdd_298 : decode b_D_powerOfOdd 298 = .ok (.getfield 43, 3) := dk tk_D_powerOfOdd 168
theorem d_D_powerOfOdd_301 : decode b_D_powerOfOdd 301 = .ok (.iconst 0, 1) := dk tk_D_powerOfOdd 169
theorem d_D_powerOfOdd_302 : decode b_D_powerOfOdd 302 = .ok (.iconst 1, 1) := dk tk_D_powerOfOdd 170
theorem d_D_powerOfOdd_303 : decode b_D_powerOfOdd 303 = .ok (.iastore, 1) := dk tk_D_powerOfOdd 171
theorem d_D_powerOfOdd_304 : decode b_D_powerOfOdd 304 = .ok (.aload_n 0, 1) := dk tk_D_powerOfOdd 172
theorem d_D_powerOfOdd_305 : decode b_D_powerOfOdd 305 = .ok (.aload_n 0, 1) := dk tk_D_powerOfOdd 173
theorem d_D_powerOfOdd_306 : decode b_D_powerOfOdd 306 = .ok (.getfield 37, 3) := dk tk_D_powerOfOdd 174
theorem d_D_powerOfOdd_309 : decode b_D_powerOfOdd 309 = .ok (.aload_n 0, 1) := dk tk_D_powerOfOdd 175
theorem d_D_powerOfOdd_310 : decode b_D_powerOfOdd 310 = .ok (.getfield 43, 3) := dk tk_D_powerOfOdd 176
theorem d_D_powerOfOdd_313 : decode b_D_powerOfOdd 313 = .ok (.aload_n 0, 1) := dk tk_D_powerOfOdd 177
theorem d_D_powerOfOdd_314 : decode b_D_powerOfOdd 314 = .ok (.getfield 19, 3) := dk tk_D_powerOfOdd 178
theorem d_D_powerOfOdd_317 : decode b_D_powerOfOdd 317 = .ok (.invokevirtual 131, 3) := dk tk_D_powerOfOdd 179
theorem d_D_powerOfOdd_320 : decode b_D_powerOfOdd 320 = .ok (.return_, 1) := dk tk_D_powerOfOdd 180
def tb_D_cut : List (Nat × Instr × Nat) := [(0, .iconst 0, 1), (1, .istore_n 2, 1), (2, .iload_n 2, 1), (3, .bipush 16, 2), (5, .if_icmp .ge 58, 3), (8, .bipush 32, 2), (10, .iload_n 2, 1), (11, .imul, 1), (12, .aload_n 0, 1), (13, .getfield 113, 3), (16, .if_icmp .lt 10, 3), (19, .aload_n 1, 1), (20, .iload_n 2, 1), (21, .iconst 0, 1), (22, .iastore, 1), (23, .goto 34, 3), (26, .bipush 32, 2), (28, .iload_n 2, 1), (29, .imul, 1), (30, .bipush 32, 2), (32, .iadd, 1), (33, .aload_n 0, 1), (34, .getfield 113, 3), (37, .if_icmp .le 20, 3), (40, .aload_n 1, 1), (41, .iload_n 2, 1), (42, .dup2, 1), (43, .iaload, 1), (44, .iconst 1, 1), (45, .aload_n 0, 1), (46, .getfield 113, 3), (49, .bipush 31, 2), (51, .iand, 1), (52, .ishl, 1), (53, .iconst 1, 1), (54, .isub, 1), (55, .iand, 1), (56, .iastore, 1), (57, .iinc 2 1, 3), (60, .goto (-58), 3), (63, .return_, 1)]
theorem tk_D_cut : tb_D_cut.all (fun r => decide (decode b_D_cut r.1 = .ok r.2)) = true := by decide +kernel
theorem d_D_cut_0 : decode b_D_cut 0 = .ok (.iconst 0, 1) := dk tk_D_cut 0
theorem d_D_cut_1 : decode b_D_cut 1 = .ok (.istore_n 2, 1) := dk tk_D_cut 1
theorem d_D_cut_2 : decode b_D_cut 2 = .ok (.iload_n 2, 1) := dk tk_D_cut 2
theorem d_D_cut_3 : decode b_D_cut 3 = .ok (.bipush 16, 2) := dk tk_D_cut 3
theorem d_D_cut_5 : decode b_D_cut 5 = .ok (.if_icmp .ge 58, 3) := dk tk_D_cut 4
theorem d_D_cut_8 : decode b_D_cut 8 = .ok (.bipush 32, 2) := dk tk_D_cut 5
theorem d_D_cut_10 : decode b_D_cut 10 = .ok (.iload_n 2, 1) := dk tk_D_cut 6
theorem d_D_cut_11 : decode b_D_cut 11 = .ok (.imul, 1) := dk tk_D_cut 7
theorem d_D_cut_12 : decode b_D_cut 12 = .ok (.aload_n 0, 1) := dk tk_D_cut 8
theorem d_D_cut_13 : decode b_D_cut 13 = .ok (.getfield 113, 3) := dk tk_D_cut 9
theorem d_D_cut_16 : decode b_D_cut 16 = .ok (.if_icmp .lt 10, 3) := dk tk_D_cut 10
theorem d_D_cut_19 : decode b_D_cut 19 = .ok (.aload_n 1, 1) := dk tk_D_cut 11
theorem d_D_cut_20 : decode b_D_cut 20 = .ok (.iload_n 2, 1) := dk tk_D_cut 12
theorem d_D_cut_21 : decode b_D_cut 21 = .ok (.iconst 0, 1) := dk tk_D_cut 13
theorem d_D_cut_22 : decode b_D_cut 22 = .ok (.iastore, 1) := dk tk_D_cut 14
theorem d_D_cut_23 : decode b_D_cut 23 = .ok (.goto 34, 3) := dk tk_D_cut 15
theorem d_D_cut_26 : decode b_D_cut 26 = .ok (.bipush 32, 2) := dk tk_D_cut 16
theorem d_D_cut_28 : decode b_D_cut 28 = .ok (.iload_n 2, 1) := dk tk_D_cut 17
theorem d_D_cut_29 : decode b_D_cut 29 = .ok (.imul, 1) := dk tk_D_cut 18
theorem d_D_cut_30 : decode b_D_cut 30 = .ok (.bipush 32, 2) := dk tk_D_cut 19
theorem d_D_cut_32 : decode b_D_cut 32 = .ok (.iadd, 1) := dk tk_D_cut 20
theorem d_D_cut_33 : decode b_D_cut 33 = .ok (.aload_n 0, 1) := dk tk_D_cut 21
theorem d_D_cut_34 : decode b_D_cut 34 = .ok (.getfield 113, 3) := dk tk_D_cut 22
theorem d_D_cut_37 : decode b_D_cut 37 = .ok (.if_icmp .le 20, 3) := dk tk_D_cut 23
theorem d_D_cut_40 : decode b_D_cut 40 = .ok (.aload_n 1, 1) := dk tk_D_cut 24
theorem d_D_cut_41 : decode b_D_cut 41 = .ok (.iload_n 2, 1) := dk tk_D_cut 25
theorem d_D_cut_42 : decode b_D_cut 42 = .ok (.dup2, 1) := dk tk_D_cut 26
theorem d_D_cut_43 : decode b_D_cut 43 = .ok (.iaload, 1) := dk tk_D_cut 27
theorem d_D_cut_44 : decode b_D_cut 44 = .ok (.iconst 1, 1) := dk tk_D_cut 28
theorem d_D_cut_45 : decode b_D_cut 45 = .ok (.aload_n 0, 1) := dk tk_D_cut 29
theorem d_D_cut_46 : decode b_D_cut 46 = .ok (.getfield 113, 3) := dk tk_D_cut 30
theorem d_D_cut_49 : decode b_D_cut 49 = .ok (.bipush 31, 2) := dk tk_D_cut 31
theorem d_D_cut_51 : decode b_D_cut 51 = .ok (.iand, 1) := dk tk_D_cut 32
theorem d_D_cut_52 : decode b_D_cut 52 = .ok (.ishl, 1) := dk tk_D_cut 33
theorem d_D_cut_53 : decode b_D_cut 53 = .ok (.iconst 1, 1) := dk tk_D_cut 34
theorem d_D_cut_54 : decode b_D_cut 54 = .ok (.isub, 1) := dk tk_D_cut 35
theorem d_D_cut_55 : decode b_D_cut 55 = .ok (.iand, 1) := dk tk_D_cut 36
theorem d_D_cut_56 : decode b_D_cut 56 = .ok (.iastore, 1) := dk tk_D_cut 37
theorem d_D_cut_57 : decode b_D_cut 57 = .ok (.iinc 2 1, 3) := dk tk_D_cut 38
theorem d_D_cut_60 : decode b_D_cut 60 = .ok (.goto (-58), 3) := dk tk_D_cut 39
theorem d_D_cut_63 : decode b_D_cut 63 = .ok (.return_, 1) := dk tk_D_cut 40
def tb_D_powerOfTwos : List (Nat × Instr × Nat) := [(0, .aload_n 0, 1), (1, .getfield 113, 3), (4, .bipush 31, 2), (6, .iadd, 1), (7, .bipush 32, 2), (9, .idiv, 1), (10, .istore_n 2, 1), (11, .aload_n 0, 1), (12, .getfield 13, 3), (15, .iconst 0, 1), (16, .aload_n 0, 1), (17, .getfield 34, 3), (20, .iconst 0, 1), (21, .bipush 16, 2), (23, .invokestatic 78, 3), (26, .aload_n 0, 1), (27, .aload_n 0, 1), (28, .getfield 34, 3), (31, .invokevirtual 139, 3), (34, .aload_n 0, 1), (35, .getfield 40, 3), (38, .iconst 0, 1), (39, .invokestatic 122, 3), (42, .aload_n 0, 1), (43, .getfield 40, 3), (46, .iconst 0, 1), (47, .iconst 1, 1), (48, .iastore, 1), (49, .aload_n 0, 1), (50, .invokevirtual 135, 3), (53, .iconst 1, 1), (54, .isub, 1), (55, .istore_n 3, 1), (56, .iload_n 3, 1), (57, .ifCond .lt 80, 3), (60, .aload_n 0, 1), (61, .getfield 40, 3), (64, .aload_n 0, 1), (65, .getfield 40, 3), (68, .iload_n 2, 1), (69, .aload_n 0, 1), (70, .getfield 25, 3), (73, .invokestatic 92, 3), (76, .aload_n 0, 1), (77, .getfield 25, 3), (80, .iconst 0, 1), (81, .aload_n 0, 1), (82, .getfield 40, 3), (85, .iconst 0, 1), (86, .iload_n 2, 1), (87, .invokestatic 78, 3), (90, .aload_n 0, 1), (91, .iload_n 3, 1), (92, .invokevirtual 96, 3), (95, .ifCond .ne 6, 3), (98, .goto 33, 3), (101, .aload_n 0, 1), (102, .getfield 40, 3), (105, .aload_n 0, 1), (106, .getfield 34, 3), (109, .iload_n 2, 1), (110, .aload_n 0, 1), (111, .getfield 25, 3), (114, .invokestatic 92, 3), (117, .aload_n 0, 1), (118, .getfield 25, 3), (121, .iconst 0, 1), (122, .aload_n 0, 1), (123, .getfield 40, 3), (126, .iconst 0, 1), (127, .iload_n 2, 1), (128, .invokestatic 78, 3), (131, .iinc 3 (-1), 3), (134, .goto (-78), 3), (137, .aload_n 0, 1), (138, .aload_n 0, 1), (139, .getfield 40, 3), (142, .invokevirtual 139, 3), (145, .aload_n 0, 1), (146, .getfield 40, 3), (149, .iconst 0, 1), (150, .aload_n 1, 1), (151, .iconst 0, 1), (152, .bipush 16, 2), (154, .invokestatic 78, 3), (157, .return_, 1)]
theorem tk_D_powerOfTwos : tb_D_powerOfTwos.all (fun r => decide (decode b_D_powerOfTwos r.1 = .ok r.2)) = true := by decide +kernel
theorem d_D_powerOfTwos_0 : decode b_D_powerOfTwos 0 = .ok (.aload_n 0, 1) := dk tk_D_powerOfTwos 0
theorem d_D_powerOfTwos_1 : decode b_D_powerOfTwos 1 = .ok (.getfield 113, 3) := dk tk_D_powerOfTwos 1
theorem d_D_powerOfTwos_4 : decode b_D_powerOfTwos 4 = .ok (.bipush 31, 2) := dk tk_D_powerOfTwos 2
theorem d_D_powerOfTwos_6 : decode b_D_powerOfTwos 6 = .ok (.iadd, 1) := dk tk_D_powerOfTwos 3
theorem d_D_powerOfTwos_7 : decode b_D_powerOfTwos 7 = .ok (.bipush 32, 2) := dk tk_D_powerOfTwos 4
theorem d_D_powerOfTwos_9 : decode b_D_powerOfTwos 9 = .ok (.idiv, 1) := dk tk_D_powerOfTwos 5
theorem d_D_powerOfTwos_10 : decode b_D_powerOfTwos 10 = .ok (.istore_n 2, 1) := dk tk_D_powerOfTwos 6
theorem d_D_powerOfTwos_11 : decode b_D_powerOfTwos 11 = .ok (.aload_n 0, 1) := dk tk_D_powerOfTwos 7
theorem d_D_powerOfTwos_12 : decode b_D_powerOfTwos 12 = .ok (.getfield 13, 3) := dk tk_D_powerOfTwos 8
theorem d_D_powerOfTwos_15 : decode b_D_powerOfTwos 15 = .ok (.iconst 0, 1) := dk tk_D_powerOfTwos 9
theorem d_D_powerOfTwos_16 : decode b_D_powerOfTwos 16 = .ok (.aload_n 0, 1) := dk tk_D_powerOfTwos 10
theorem d_D_powerOfTwos_17 : decode b_D_powerOfTwos 17 = .ok (.getfield 34, 3) := dk tk_D_powerOfTwos 11
theorem d_D_powerOfTwos_20 : decode b_D_powerOfTwos 20 = .ok (.iconst 0, 1) := dk tk_D_powerOfTwos 12
theorem d_D_powerOfTwos_21 : decode b_D_powerOfTwos 21 = .ok (.bipush 16, 2) := dk tk_D_powerOfTwos 13
theorem d_D_powerOfTwos_23 : decode b_D_powerOfTwos 23 = .ok (.invokestatic 78, 3) := dk tk_D_powerOfTwos 14
theorem d_D_powerOfTwos_26 : decode b_D_powerOfTwos 26 = .ok (.aload_n 0, 1) := dk tk_D_powerOfTwos 15
theorem d_D_powerOfTwos_27 : decode b_D_powerOfTwos 27 = .ok (.aload_n 0, 1) := dk tk_D_powerOfTwos 16
theorem d_D_powerOfTwos_28 : decode b_D_powerOfTwos 28 = .ok (.getfield 34, 3) := dk tk_D_powerOfTwos 17
theorem d_D_powerOfTwos_31 : decode b_D_powerOfTwos 31 = .ok (.invokevirtual 139, 3) := dk tk_D_powerOfTwos 18
theorem d_D_powerOfTwos_34 : decode b_D_powerOfTwos 34 = .ok (.aload_n 0, 1) := dk tk_D_powerOfTwos 19
theorem d_D_powerOfTwos_35 : decode b_D_powerOfTwos 35 = .ok (.getfield 40, 3) := dk tk_D_powerOfTwos 20
theorem d_D_powerOfTwos_38 : decode b_D_powerOfTwos 38 = .ok (.iconst 0, 1) := dk tk_D_powerOfTwos 21
theorem d_D_powerOfTwos_39 : decode b_D_powerOfTwos 39 = .ok (.invokestatic 122, 3) := dk tk_D_powerOfTwos 22
theorem d_D_powerOfTwos_42 : decode b_D_powerOfTwos 42 = .ok (.aload_n 0, 1) := dk tk_D_powerOfTwos 23
theorem d_D_powerOfTwos_43 : decode b_D_powerOfTwos 43 = .ok (.getfield 40, 3) := dk tk_D_powerOfTwos 24
theorem d_D_powerOfTwos_46 : decode b_D_powerOfTwos 46 = .ok (.iconst 0, 1) := dk tk_D_powerOfTwos 25
theorem d_D_powerOfTwos_47 : decode b_D_powerOfTwos 47 = .ok (.iconst 1, 1) := dk tk_D_powerOfTwos 26
theorem d_D_powerOfTwos_48 : decode b_D_powerOfTwos 48 = .ok (.iastore, 1) := dk tk_D_powerOfTwos 27
theorem d_D_powerOfTwos_49 : decode b_D_powerOfTwos 49 = .ok (.aload_n 0, 1) := dk tk_D_powerOfTwos 28
theorem d_D_powerOfTwos_50 : decode b_D_powerOfTwos 50 = .ok (.invokevirtual 135, 3) := dk tk_D_powerOfTwos 29
theorem d_D_powerOfTwos_53 : decode b_D_powerOfTwos 53 = .ok (.iconst 1, 1) := dk tk_D_powerOfTwos 30
theorem d_D_powerOfTwos_54 : decode b_D_powerOfTwos 54 = .ok (.isub, 1) := dk tk_D_powerOfTwos 31
theorem d_D_powerOfTwos_55 : decode b_D_powerOfTwos 55 = .ok (.istore_n 3, 1) := dk tk_D_powerOfTwos 32
theorem d_D_powerOfTwos_56 : decode b_D_powerOfTwos 56 = .ok (.iload_n 3, 1) := dk tk_D_powerOfTwos 33
theorem d_D_powerOfTwos_57 : decode b_D_powerOfTwos 57 = .ok (.ifCond .lt 80, 3) := dk tk_D_powerOfTwos 34
theorem d_D_powerOfTwos_60 : decode b_D_powerOfTwos 60 = .ok (.aload_n 0, 1) := dk tk_D_powerOfTwos 35
theorem d_D_powerOfTwos_61 : decode b_D_powerOfTwos 61 = .ok (.getfield 40, 3) := dk tk_D_powerOfTwos 36
theorem d_D_powerOfTwos_64 : decode b_D_powerOfTwos 64 = .ok (.aload_n 0, 1) := dk tk_D_powerOfTwos 37
theorem d_D_powerOfTwos_65 : decode b_D_powerOfTwos 65 = .ok (.getfield 40, 3) := dk tk_D_powerOfTwos 38
theorem d_D_powerOfTwos_68 : decode b_D_powerOfTwos 68 = .ok (.iload_n 2, 1) := dk tk_D_powerOfTwos 39
theorem d_D_powerOfTwos_69 : decode b_D_powerOfTwos 69 = .ok (.aload_n 0, 1) := dk tk_D_powerOfTwos 40
theorem d_D_powerOfTwos_70 : decode b_D_powerOfTwos 70 = .ok (.getfield 25, 3) := dk tk_D_powerOfTwos 41
theorem d_D_powerOfTwos_73 : decode b_D_powerOfTwos 73 = .ok (.invokestatic 92, 3) := dk tk_D_powerOfTwos 42
theorem d_D_powerOfTwos_76 : decode b_D_powerOfTwos 76 = .ok (.aload_n 0, 1) := dk tk_D_powerOfTwos 43
theorem d_D_powerOfTwos_77 : decode b_D_powerOfTwos 77 = .ok (.getfield 25, 3) := dk tk_D_powerOfTwos 44
theorem d_D_powerOfTwos_80 : decode b_D_powerOfTwos 80 = .ok (.iconst 0, 1) := dk tk_D_powerOfTwos 45
theorem d_D_powerOfTwos_81 : decode b_D_powerOfTwos 81 = .ok (.aload_n 0, 1) := dk tk_D_powerOfTwos 46
theorem d_D_powerOfTwos_82 : decode b_D_powerOfTwos 82 = .ok (.getfield 40, 3) := dk tk_D_powerOfTwos 47
theorem d_D_powerOfTwos_85 : decode b_D_powerOfTwos 85 = .ok (.iconst 0, 1) := dk tk_D_powerOfTwos 48
theorem d_D_powerOfTwos_86 : decode b_D_powerOfTwos 86 = .ok (.iload_n 2, 1) := dk tk_D_powerOfTwos 49
theorem d_D_powerOfTwos_87 : decode b_D_powerOfTwos 87 = .ok (.invokestatic 78, 3) := dk tk_D_powerOfTwos 50
theorem d_D_powerOfTwos_90 : decode b_D_powerOfTwos 90 = .ok (.aload_n 0, 1) := dk tk_D_powerOfTwos 51
theorem d_D_powerOfTwos_91 : decode b_D_powerOfTwos 91 = .ok (.iload_n 3, 1) := dk tk_D_powerOfTwos 52
theorem d_D_powerOfTwos_92 : decode b_D_powerOfTwos 92 = .ok (.invokevirtual 96, 3) := dk tk_D_powerOfTwos 53
theorem d_D_powerOfTwos_95 : decode b_D_powerOfTwos 95 = .ok (.ifCond .ne 6, 3) := dk tk_D_powerOfTwos 54
theorem d_D_powerOfTwos_98 : decode b_D_powerOfTwos 98 = .ok (.goto 33, 3) := dk tk_D_powerOfTwos 55
theorem d_D_powerOfTwos_101 : decode b_D_powerOfTwos 101 = .ok (.aload_n 0, 1) := dk tk_D_powerOfTwos 56
theorem d_D_powerOfTwos_102 : decode b_D_powerOfTwos 102 = .ok (.getfield 40, 3) := dk tk_D_powerOfTwos 57
theorem d_D_powerOfTwos_105 : decode b_D_powerOfTwos 105 = .ok (.aload_n 0, 1) := dk tk_D_powerOfTwos 58
theorem d_D_powerOfTwos_106 : decode b_D_powerOfTwos 106 = .ok (.getfield 34, 3) := dk tk_D_powerOfTwos 59
theorem d_D_powerOfTwos_109 : decode b_D_powerOfTwos 109 = .ok (.iload_n 2, 1) := dk tk_D_powerOfTwos 60
theorem d_D_powerOfTwos_110 : decode b_D_powerOfTwos 110 = .ok (.aload_n 0, 1) := dk tk_D_powerOfTwos 61
theorem d_D_powerOfTwos_111 : decode b_D_powerOfTwos 111 = .ok (.getfield 25, 3) := dk tk_D_powerOfTwos 62
theorem d_D_powerOfTwos_114 : decode b_D_powerOfTwos 114 = .ok (.invokestatic 92, 3) := dk tk_D_powerOfTwos 63
theorem d_D_powerOfTwos_117 : decode b_D_powerOfTwos 117 = .ok (.aload_n 0, 1) := dk tk_D_powerOfTwos 64
theorem d_D_powerOfTwos_118 : decode b_D_powerOfTwos 118 = .ok (.getfield 25, 3) := dk tk_D_powerOfTwos 65
theorem d_D_powerOfTwos_121 : decode b_D_powerOfTwos 121 = .ok (.iconst 0, 1) := dk tk_D_powerOfTwos 66
theorem d_D_powerOfTwos_122 : decode b_D_powerOfTwos 122 = .ok (.aload_n 0, 1) := dk tk_D_powerOfTwos 67
theorem d_D_powerOfTwos_123 : decode b_D_powerOfTwos 123 = .ok (.getfield 40, 3) := dk tk_D_powerOfTwos 68
theorem d_D_powerOfTwos_126 : decode b_D_powerOfTwos 126 = .ok (.iconst 0, 1) := dk tk_D_powerOfTwos 69
theorem d_D_powerOfTwos_127 : decode b_D_powerOfTwos 127 = .ok (.iload_n 2, 1) := dk tk_D_powerOfTwos 70
theorem d_D_powerOfTwos_128 : decode b_D_powerOfTwos 128 = .ok (.invokestatic 78, 3) := dk tk_D_powerOfTwos 71
theorem d_D_powerOfTwos_131 : decode b_D_powerOfTwos 131 = .ok (.iinc 3 (-1), 3) := dk tk_D_powerOfTwos 72
theorem d_D_powerOfTwos_134 : decode b_D_powerOfTwos 134 = .ok (.goto (-78), 3) := dk tk_D_powerOfTwos 73
theorem d_D_powerOfTwos_137 : decode b_D_powerOfTwos 137 = .ok (.aload_n 0, 1) := dk tk_D_powerOfTwos 74
theorem d_D_powerOfTwos_138 : decode b_D_powerOfTwos 138 = .ok (.aload_n 0, 1) := dk tk_D_powerOfTwos 75
theorem d_D_powerOfTwos_139 : decode b_D_powerOfTwos 139 = .ok (.getfield 40, 3) := dk tk_D_powerOfTwos 76
theorem d_D_powerOfTwos_142 : decode b_D_powerOfTwos 142 = .ok (.invokevirtual 139, 3) := dk tk_D_powerOfTwos 77
theorem d_D_powerOfTwos_145 : decode b_D_powerOfTwos 145 = .ok (.aload_n 0, 1) := dk tk_D_powerOfTwos 78
theorem d_D_powerOfTwos_146 : decode b_D_powerOfTwos 146 = .ok (.getfield 40, 3) := dk tk_D_powerOfTwos 79
theorem d_D_powerOfTwos_149 : decode b_D_powerOfTwos 149 = .ok (.iconst 0, 1) := dk tk_D_powerOfTwos 80
theorem d_D_powerOfTwos_150 : decode b_D_powerOfTwos 150 = .ok (.aload_n 1, 1) := dk tk_D_powerOfTwos 81
theorem d_D_powerOfTwos_151 : decode b_D_powerOfTwos 151 = .ok (.iconst 0, 1) := dk tk_D_powerOfTwos 82
theorem d_D_powerOfTwos_152 : decode b_D_powerOfTwos 152 = .ok (.bipush 16, 2) := dk tk_D_powerOfTwos 83
theorem d_D_powerOfTwos_154 : decode b_D_powerOfTwos 154 = .ok (.invokestatic 78, 3) := dk tk_D_powerOfTwos 84
theorem d_D_powerOfTwos_157 : decode b_D_powerOfTwos 157 = .ok (.return_, 1) := dk tk_D_powerOfTwos 85
def tb_D_join : List (Nat × Instr × Nat) := [(0, .aload_n 0, 1), (1, .getfield 113, 3), (4, .bipush 31, 2), (6, .iadd, 1), (7, .bipush 32, 2), (9, .idiv, 1), (10, .istore_n 1, 1), (11, .aload_n 0, 1), (12, .aload_n 0, 1), (13, .getfield 37, 3), (16, .invokevirtual 107, 3), (19, .aload_n 0, 1), (20, .getfield 31, 3), (23, .iconst 0, 1), (24, .invokestatic 122, 3), (27, .aload_n 0, 1), (28, .getfield 31, 3), (31, .iconst 0, 1), (32, .aload_n 0, 1), (33, .getfield 119, 3), (36, .ineg, 1), (37, .iastore, 1), (38, .bipush 32, 2), (40, .istore_n 2, 1), (41, .iload_n 2, 1), (42, .aload_n 0, 1), (43, .getfield 113, 3), (46, .if_icmp .ge 135, 3), (49, .aload_n 0, 1), (50, .getfield 22, 3), (53, .aload_n 0, 1), (54, .getfield 31, 3), (57, .iload_n 1, 1), (58, .aload_n 0, 1), (59, .getfield 25, 3), (62, .invokestatic 92, 3), (65, .lconst 0, 1), (66, .lstore_n 3, 1), (67, .iconst 0, 1), (68, .istore 5, 2), (70, .iload 5, 2), (72, .iload_n 1, 1), (73, .if_icmp .ge 60, 3), (76, .iload 5, 2), (78, .ifCond .ne 7, 3), (81, .iconst 2, 1), (82, .goto 4, 3), (85, .iconst 0, 1), (86, .i2l, 1), (87, .aload_n 0, 1), (88, .getfield 25, 3), (91, .iload 5, 2), (93, .iaload, 1), (94, .i2l, 1), (95, .ldc2_w 54, 3), (98, .land, 1), (99, .lsub, 1), (100, .lload_n 3, 1), (101, .lsub, 1), (102, .lstore 6, 2), (104, .aload_n 0, 1), (105, .getfield 43, 3), (108, .iload 5, 2), (110, .lload 6, 2), (112, .l2i, 1), (113, .iastore, 1), (114, .lload 6, 2), (116, .lconst 0, 1), (117, .lcmp, 1), (118, .ifCond .ge 7, 3), (121, .lconst 1, 1), (122, .goto 4, 3), (125, .lconst 0, 1), (126, .lstore_n 3, 1), (127, .iinc 5 1, 3), (130, .goto (-60), 3), (133, .aload_n 0, 1), (134, .getfield 43, 3), (137, .iload_n 1, 1), (138, .bipush 16, 2), (140, .iconst 0, 1), (141, .invokestatic 56, 3), (144, .aload_n 0, 1), (145, .getfield 31, 3), (148, .aload_n 0, 1), (149, .getfield 43, 3), (152, .iload_n 1, 1), (153, .aload_n 0, 1), (154, .getfield 25, 3), (157, .invokestatic 92, 3), (160, .aload_n 0, 1), (161, .getfield 25, 3), (164, .iconst 0, 1), (165, .aload_n 0, 1), (166, .getfield 31, 3), (169, .iconst 0, 1), (170, .iload_n 1, 1), (171, .invokestatic 78, 3), (174, .iload_n 2, 1), (175, .iconst 2, 1), (176, .imul, 1), (177, .istore_n 2, 1), (178, .goto (-137), 3), (181, .aload_n 0, 1), (182, .getfield 37, 3), (185, .aload_n 0, 1), (186, .getfield 19, 3), (189, .invokestatic 70, 3), (192, .aload_n 0, 1), (193, .getfield 37, 3), (196, .aload_n 0, 1), (197, .getfield 31, 3), (200, .iload_n 1, 1), (201, .aload_n 0, 1), (202, .getfield 25, 3), (205, .invokestatic 92, 3), (208, .aload_n 0, 1), (209, .getfield 25, 3), (212, .iconst 0, 1), (213, .aload_n 0, 1), (214, .getfield 34, 3), (217, .iconst 0, 1), (218, .iload_n 1, 1), (219, .invokestatic 78, 3), (222, .aload_n 0, 1), (223, .getfield 34, 3), (226, .iload_n 1, 1), (227, .bipush 16, 2), (229, .iconst 0, 1), (230, .invokestatic 56, 3), (233, .aload_n 0, 1), (234, .aload_n 0, 1), (235, .getfield 34, 3), (238, .invokevirtual 139, 3), (241, .aload_n 0, 1), (242, .getfield 22, 3), (245, .aload_n 0, 1), (246, .getfield 34, 3), (249, .bipush 16, 2), (251, .aload_n 0, 1), (252, .getfield 25, 3), (255, .invokestatic 92, 3), (258, .lconst 0, 1), (259, .lstore_n 2, 1), (260, .iconst 0, 1), (261, .istore 4, 2), (263, .iload 4, 2), (265, .bipush 16, 2), (267, .if_icmp .ge 51, 3), (270, .lload_n 2, 1), (271, .aload_n 0, 1), (272, .getfield 19, 3), (275, .iload 4, 2), (277, .iaload, 1), (278, .i2l, 1), (279, .ldc2_w 54, 3), (282, .land, 1), (283, .aload_n 0, 1), (284, .getfield 25, 3), (287, .iload 4, 2), (289, .iaload, 1), (290, .i2l, 1), (291, .ldc2_w 54, 3), (294, .land, 1), (295, .ladd, 1), (296, .ladd, 1), (297, .lstore_n 2, 1), (298, .aload_n 0, 1), (299, .getfield 19, 3), (302, .iload 4, 2), (304, .lload_n 2, 1), (305, .l2i, 1), (306, .iastore, 1), (307, .lload_n 2, 1), (308, .bipush 32, 2), (310, .lushr, 1), (311, .lstore_n 2, 1), (312, .iinc 4 1, 3), (315, .goto (-52), 3), (318, .return_, 1)]
theorem tk_D_join : tb_D_join.all (fun r => decide (decode b_D_join r.1 = .ok r.2)) = true := by decide +kernel
theorem d_D_join_0 : decode b_D_join 0 = .ok (.aload_n 0, 1) := dk tk_D_join 0
theorem d_D_join_1 : decode b_D_join 1 = .ok (.getfield 113, 3) := dk tk_D_join 1
theorem d_D_join_4 : decode b_D_join 4 = .ok (.bipush 31, 2) := dk tk_D_join 2
theorem d_D_join_6 : decode b_D_join 6 = .ok (.iadd, 1) := dk tk_D_join 3
theorem d_D_join_7 : decode b_D_join 7 = .ok (.bipush 32, 2) := dk tk_D_join 4
theorem d_D_join_9 : decode b_D_join 9 = .ok (.idiv, 1) := dk tk_D_join 5
theorem d_D_join_10 : decode b_D_join 10 = .ok (.istore_n 1, 1) := dk tk_D_join 6
theorem d_D_join_11 : decode b_D_join 11 = .ok (.aload_n 0, 1) := dk tk_D_join 7
theorem d_D_join_12 : decode b_D_join 12 = .ok (.aload_n 0, 1) := dk tk_D_join 8
theorem d_D_join_13 : decode b_D_join 13 = .ok (.getfield 37, 3) := dk tk_D_join 9
theorem d_D_join_16 : decode b_D_join 16 = .ok (.invokevirtual 107, 3) := dk tk_D_join 10
theorem d_D_join_19 : decode b_D_join 19 = .ok (.aload_n 0, 1) := dk tk_D_join 11
theorem d_D_join_20 : decode b_D_join 20 = .ok (.getfield 31, 3) := dk tk_D_join 12
theorem d_D_join_23 : decode b_D_join 23 = .ok (.iconst 0, 1) := dk tk_D_join 13
theorem d_D_join_24 : decode b_D_join 24 = .ok (.invokestatic 122, 3) := dk tk_D_join 14
theorem d_D_join_27 : decode b_D_join 27 = .ok (.aload_n 0, 1) := dk tk_D_join 15
theorem d_D_join_28 : decode b_D_join 28 = .ok (.getfield 31, 3) := dk tk_D_join 16
theorem d_D_join_31 : decode b_D_join 31 = .ok (.iconst 0, 1) := dk tk_D_join 17
theorem d_D_join_32 : decode b_D_join 32 = .ok (.aload_n 0, 1) := dk tk_D_join 18
theorem d_D_join_33 : decode b_D_join 33 = .ok (.getfield 119, 3) := dk tk_D_join 19
theorem d_D_join_36 : decode b_D_join 36 = .ok (.ineg, 1) := dk tk_D_join 20
theorem d_D_join_37 : decode b_D_join 37 = .ok (.iastore, 1) := dk tk_D_join 21
theorem d_D_join_38 : decode b_D_join 38 = .ok (.bipush 32, 2) := dk tk_D_join 22
theorem d_D_join_40 : decode b_D_join 40 = .ok (.istore_n 2, 1) := dk tk_D_join 23
theorem d_D_join_41 : decode b_D_join 41 = .ok (.iload_n 2, 1) := dk tk_D_join 24
theorem d_D_join_42 : decode b_D_join 42 = .ok (.aload_n 0, 1) := dk tk_D_join 25
theorem d_D_join_43 : decode b_D_join 43 = .ok (.getfield 113, 3) := dk tk_D_join 26
theorem d_D_join_46 : decode b_D_join 46 = .ok (.if_icmp .ge 135, 3) := dk tk_D_join 27
theorem d_D_join_49 : decode b_D_join 49 = .ok (.aload_n 0, 1) := dk tk_D_join 28
theorem d_D_join_50 : decode b_D_join 50 = .ok (.getfield 22, 3) := dk tk_D_join 29
theorem d_D_join_53 : decode b_D_join 53 = .ok (.aload_n 0, 1) := dk tk_D_join 30
theorem d_D_join_54 : decode b_D_join 54 = .ok (.getfield 31, 3) := dk tk_D_join 31
theorem d_D_join_57 : decode b_D_join 57 = .ok (.iload_n 1, 1) := dk tk_D_join 32
theorem d_D_join_58 : decode b_D_join 58 = .ok (.aload_n 0, 1) := dk tk_D_join 33
theorem d_D_join_59 : decode b_D_join 59 = .ok (.getfield 25, 3) := dk tk_D_join 34
theorem d_D_join_62 : decode b_D_join 62 = .ok (.invokestatic 92, 3) := dk tk_D_join 35
theorem d_D_join_65 : decode b_D_join 65 = .ok (.lconst 0, 1) := dk tk_D_join 36
theorem d_D_join_66 : decode b_D_join 66 = .ok (.lstore_n 3, 1) := dk tk_D_join 37
theorem d_D_join_67 : decode b_D_join 67 = .ok (.iconst 0, 1) := dk tk_D_join 38
theorem d_D_join_68 : decode b_D_join 68 = .ok (.istore 5, 2) := dk tk_D_join 39
theorem d_D_join_70 : decode b_D_join 70 = .ok (.iload 5, 2) := dk tk_D_join 40
theorem d_D_join_72 : decode b_D_join 72 = .ok (.iload_n 1, 1) := dk tk_D_join 41
theorem d_D_join_73 : decode b_D_join 73 = .ok (.if_icmp .ge 60, 3) := dk tk_D_join 42
theorem d_D_join_76 : decode b_D_join 76 = .ok (.iload 5, 2) := dk tk_D_join 43
theorem d_D_join_78 : decode b_D_join 78 = .ok (.ifCond .ne 7, 3) := dk tk_D_join 44
theorem d_D_join_81 : decode b_D_join 81 = .ok (.iconst 2, 1) := dk tk_D_join 45
theorem d_D_join_82 : decode b_D_join 82 = .ok (.goto 4, 3) := dk tk_D_join 46
theorem d_D_join_85 : decode b_D_join 85 = .ok (.iconst 0, 1) := dk tk_D_join 47
theorem d_D_join_86 : decode b_D_join 86 = .ok (.i2l, 1) := dk tk_D_join 48
theorem d_D_join_87 : decode b_D_join 87 = .ok (.aload_n 0, 1) := dk tk_D_join 49
theorem d_D_join_88 : decode b_D_join 88 = .ok (.getfield 25, 3) := dk tk_D_join 50
theorem d_D_join_91 : decode b_D_join 91 = .ok (.iload 5, 2) := dk tk_D_join 51
theorem d_D_join_93 : decode b_D_join 93 = .ok (.iaload, 1) := dk tk_D_join 52
theorem d_D_join_94 : decode b_D_join 94 = .ok (.i2l, 1) := dk tk_D_join 53
theorem d_D_join_95 : decode b_D_join 95 = .ok (.ldc2_w 54, 3) := dk tk_D_join 54
theorem d_D_join_98 : decode b_D_join 98 = .ok (.land, 1) := dk tk_D_join 55
theorem d_D_join_99 : decode b_D_join 99 = .ok (.lsub, 1) := dk tk_D_join 56
theorem d_D_join_100 : decode b_D_join 100 = .ok (.lload_n 3, 1) := dk tk_D_join 57
theorem d_D_join_101 : decode b_D_join 101 = .ok (.lsub, 1) := dk tk_D_join 58
theorem d_D_join_102 : decode b_D_join 102 = .ok (.lstore 6, 2) := dk tk_D_join 59
theorem d_D_join_104 : decode b_D_join 104 = .ok (.aload_n 0, 1) := dk tk_D_join 60
theorem d_D_join_105 : decode b_D_join 105 = .ok (.getfield 43, 3) := dk tk_D_join 61
theorem d_D_join_108 : decode b_D_join 108 = .ok (.iload 5, 2) := dk tk_D_join 62
theorem d_D_join_110 : decode b_D_join 110 = .ok (.lload 6, 2) := dk tk_D_join 63
theorem d_D_join_112 : decode b_D_join 112 = .ok (.l2i, 1) := dk tk_D_join 64
theorem d_D_join_113 : decode b_D_join 113 = .ok (.iastore, 1) := dk tk_D_join 65
theorem d_D_join_114 : decode b_D_join 114 = .ok (.lload 6, 2) := dk tk_D_join 66
theorem d_D_join_116 : decode b_D_join 116 = .ok (.lconst 0, 1) := dk tk_D_join 67
theorem d_D_join_117 : decode b_D_join 117 = .ok (.lcmp, 1) := dk tk_D_join 68
theorem d_D_join_118 : decode b_D_join 118 = .ok (.ifCond .ge 7, 3) := dk tk_D_join 69
theorem d_D_join_121 : decode b_D_join 121 = .ok (.lconst 1, 1) := dk tk_D_join 70
theorem d_D_join_122 : decode b_D_join 122 = .ok (.goto 4, 3) := dk tk_D_join 71
theorem d_D_join_125 : decode b_D_join 125 = .ok (.lconst 0, 1) := dk tk_D_join 72
theorem d_D_join_126 : decode b_D_join 126 = .ok (.lstore_n 3, 1) := dk tk_D_join 73
theorem d_D_join_127 : decode b_D_join 127 = .ok (.iinc 5 1, 3) := dk tk_D_join 74
theorem d_D_join_130 : decode b_D_join 130 = .ok (.goto (-60), 3) := dk tk_D_join 75
theorem d_D_join_133 : decode b_D_join 133 = .ok (.aload_n 0, 1) := dk tk_D_join 76
theorem d_D_join_134 : decode b_D_join 134 = .ok (.getfield 43, 3) := dk tk_D_join 77
theorem d_D_join_137 : decode b_D_join 137 = .ok (.iload_n 1, 1) := dk tk_D_join 78
theorem d_D_join_138 : decode b_D_join 138 = .ok (.bipush 16, 2) := dk tk_D_join 79
theorem d_D_join_140 : decode b_D_join 140 = .ok (.iconst 0, 1) := dk tk_D_join 80
theorem d_D_join_141 : decode b_D_join 141 = .ok (.invokestatic 56, 3) := dk tk_D_join 81
theorem d_D_join_144 : decode b_D_join 144 = .ok (.aload_n 0, 1) := dk tk_D_join 82
theorem d_D_join_145 : decode b_D_join 145 = .ok (.getfield 31, 3) := dk tk_D_join 83
theorem d_D_join_148 : decode b_D_join 148 = .ok (.aload_n 0, 1) := dk tk_D_join 84
theorem d_D_join_149 : decode b_D_join 149 = .ok (.getfield 43, 3) := dk tk_D_join 85
theorem d_D_join_152 : decode b_D_join 152 = .ok (.iload_n 1, 1) := dk tk_D_join 86
theorem d_D_join_153 : decode b_D_join 153 = .ok (.aload_n 0, 1) := dk tk_D_join 87
theorem d_D_join_154 : decode b_D_join 154 = .ok (.getfield 25, 3) := dk tk_D_join 88
theorem d_D_join_157 : decode b_D_join 157 = .ok (.invokestatic 92, 3) := dk tk_D_join 89
theorem d_D_join_160 : decode b_D_join 160 = .ok (.aload_n 0, 1) := dk tk_D_join 90
theorem d_D_join_161 : decode b_D_join 161 = .ok (.getfield 25, 3) := dk tk_D_join 91
theorem d_D_join_164 : decode b_D_join 164 = .ok (.iconst 0, 1) := dk tk_D_join 92
theorem d_D_join_165 : decode b_D_join 165 = .ok (.aload_n 0, 1) := dk tk_D_join 93
theorem d_D_join_166 : decode b_D_join 166 = .ok (.getfield 31, 3) := dk tk_D_join 94
theorem d_D_join_169 : decode b_D_join 169 = .ok (.iconst 0, 1) := dk tk_D_join 95
theorem d_D_join_170 : decode b_D_join 170 = .ok (.iload_n 1, 1) := dk tk_D_join 96
theorem d_D_join_171 : decode b_D_join 171 = .ok (.invokestatic 78, 3) := dk tk_D_join 97
theorem d_D_join_174 : decode b_D_join 174 = .ok (.iload_n 2, 1) := dk tk_D_join 98
theorem d_D_join_175 : decode b_D_join 175 = .ok (.iconst 2, 1) := dk tk_D_join 99
theorem d_D_join_176 : decode b_D_join 176 = .ok (.imul, 1) := dk tk_D_join 100
theorem d_D_join_177 : decode b_D_join 177 = .ok (.istore_n 2, 1) := dk tk_D_join 101
theorem d_D_join_178 : decode b_D_join 178 = .ok (.goto (-137), 3) := dk tk_D_join 102
theorem d_D_join_181 : decode b_D_join 181 = .ok (.aload_n 0, 1) := dk tk_D_join 103
theorem d_D_join_182 : decode b_D_join 182 = .ok (.getfield 37, 3) := dk tk_D_join 104
theorem d_D_join_185 : decode b_D_join 185 = .ok (.aload_n 0, 1) := dk tk_D_join 105
theorem d_D_join_186 : decode b_D_join 186 = .ok (.getfield 19, 3) := dk tk_D_join 106
theorem d_D_join_189 : decode b_D_join 189 = .ok (.invokestatic 70, 3) := dk tk_D_join 107
theorem d_D_join_192 : decode b_D_join 192 = .ok (.aload_n 0, 1) := dk tk_D_join 108
theorem d_D_join_193 : decode b_D_join 193 = .ok (.getfield 37, 3) := dk tk_D_join 109
theorem d_D_join_196 : decode b_D_join 196 = .ok (.aload_n 0, 1) := dk tk_D_join 110
theorem d_D_join_197 : decode b_D_join 197 = .ok (.getfield 31, 3) := dk tk_D_join 111
theorem d_D_join_200 : decode b_D_join 200 = .ok (.iload_n 1, 1) := dk tk_D_join 112
theorem d_D_join_201 : decode b_D_join 201 = .ok (.aload_n 0, 1) := dk tk_D_join 113
theorem d_D_join_202 : decode b_D_join 202 = .ok (.getfield 25, 3) := dk tk_D_join 114
theorem d_D_join_205 : decode b_D_join 205 = .ok (.invokestatic 92, 3) := dk tk_D_join 115
theorem d_D_join_208 : decode b_D_join 208 = .ok (.aload_n 0, 1) := dk tk_D_join 116
theorem d_D_join_209 : decode b_D_join 209 = .ok (.getfield 25, 3) := dk tk_D_join 117
theorem d_D_join_212 : decode b_D_join 212 = .ok (.iconst 0, 1) := dk tk_D_join 118
theorem d_D_join_213 : decode b_D_join 213 = .ok (.aload_n 0, 1) := dk tk_D_join 119
theorem d_D_join_214 : decode b_D_join 214 = .ok (.getfield 34, 3) := dk tk_D_join 120
theorem d_D_join_217 : decode b_D_join 217 = .ok (.iconst 0, 1) := dk tk_D_join 121
theorem d_D_join_218 : decode b_D_join 218 = .ok (.iload_n 1, 1) := dk tk_D_join 122
theorem d_D_join_219 : decode b_D_join 219 = .ok (.invokestatic 78, 3) := dk tk_D_join 123
theorem d_D_join_222 : decode b_D_join 222 = .ok (.aload_n 0, 1) := dk tk_D_join 124
theorem d_D_join_223 : decode b_D_join 223 = .ok (.getfield 34, 3) := dk tk_D_join 125
theorem d_D_join_226 : decode b_D_join 226 = .ok (.iload_n 1, 1) := dk tk_D_join 126
theorem d_D_join_227 : decode b_D_join 227 = .ok (.bipush 16, 2) := dk tk_D_join 127
theorem d_D_join_229 : decode b_D_join 229 = .ok (.iconst 0, 1) := dk tk_D_join 128
theorem d_D_join_230 : decode b_D_join 230 = .ok (.invokestatic 56, 3) := dk tk_D_join 129
theorem d_D_join_233 : decode b_D_join 233 = .ok (.aload_n 0, 1) := dk tk_D_join 130
theorem d_D_join_234 : decode b_D_join 234 = .ok (.aload_n 0, 1) := dk tk_D_join 131
theorem d_D_join_235 : decode b_D_join 235 = .ok (.getfield 34, 3) := dk tk_D_join 132
theorem d_D_join_238 : decode b_D_join 238 = .ok (.invokevirtual 139, 3) := dk tk_D_join 133
theorem d_D_join_241 : decode b_D_join 241 = .ok (.aload_n 0, 1) := dk tk_D_join 134
theorem d_D_join_242 : decode b_D_join 242 = .ok (.getfield 22, 3) := dk tk_D_join 135
theorem d_D_join_245 : decode b_D_join 245 = .ok (.aload_n 0, 1) := dk tk_D_join 136
theorem d_D_join_246 : decode b_D_join 246 = .ok (.getfield 34, 3) := dk tk_D_join 137
theorem d_D_join_249 : decode b_D_join 249 = .ok (.bipush 16, 2) := dk tk_D_join 138
theorem d_D_join_251 : decode b_D_join 251 = .ok (.aload_n 0, 1) := dk tk_D_join 139
theorem d_D_join_252 : decode b_D_join 252 = .ok (.getfield 25, 3) := dk tk_D_join 140
theorem d_D_join_255 : decode b_D_join 255 = .ok (.invokestatic 92, 3) := dk tk_D_join 141
theorem d_D_join_258 : decode b_D_join 258 = .ok (.lconst 0, 1) := dk tk_D_join 142
theorem d_D_join_259 : decode b_D_join 259 = .ok (.lstore_n 2, 1) := dk tk_D_join 143
theorem d_D_join_260 : decode b_D_join 260 = .ok (.iconst 0, 1) := dk tk_D_join 144
theorem d_D_join_261 : decode b_D_join 261 = .ok (.istore 4, 2) := dk tk_D_join 145
theorem d_D_join_263 : decode b_D_join 263 = .ok (.iload 4, 2) := dk tk_D_join 146
theorem d_D_join_265 : decode b_D_join 265 = .ok (.bipush 16, 2) := dk tk_D_join 147
theorem d_D_join_267 : decode b_D_join 267 = .ok (.if_icmp .ge 51, 3) := dk tk_D_join 148
theorem d_D_join_270 : decode b_D_join 270 = .ok (.lload_n 2, 1) := dk tk_D_join 149
theorem d_D_join_271 : decode b_D_join 271 = .ok (.aload_n 0, 1) := dk tk_D_join 150
theorem d_D_join_272 : decode b_D_join 272 = .ok (.getfield 19, 3) := dk tk_D_join 151
theorem d_D_join_275 : decode b_D_join 275 = .ok (.iload 4, 2) := dk tk_D_join 152
theorem d_D_join_277 : decode b_D_join 277 = .ok (.iaload, 1) := dk tk_D_join 153
theorem d_D_join_278 : decode b_D_join 278 = .ok (.i2l, 1) := dk tk_D_join 154
theorem d_D_join_279 : decode b_D_join 279 = .ok (.ldc2_w 54, 3) := dk tk_D_join 155
theorem d_D_join_282 : decode b_D_join 282 = .ok (.land, 1) := dk tk_D_join 156
theorem d_D_join_283 : decode b_D_join 283 = .ok (.aload_n 0, 1) := dk tk_D_join 157
theorem d_D_join_284 : decode b_D_join 284 = .ok (.getfield 25, 3) := dk tk_D_join 158
theorem d_D_join_287 : decode b_D_join 287 = .ok (.iload 4, 2) := dk tk_D_join 159
theorem d_D_join_289 : decode b_D_join 289 = .ok (.iaload, 1) := dk tk_D_join 160
theorem d_D_join_290 : decode b_D_join 290 = .ok (.i2l, 1) := dk tk_D_join 161
theorem d_D_join_291 : decode b_D_join 291 = .ok (.ldc2_w 54, 3) := dk tk_D_join 162
theorem d_D_join_294 : decode b_D_join 294 = .ok (.land, 1) := dk tk_D_join 163
theorem d_D_join_295 : decode b_D_join 295 = .ok (.ladd, 1) := dk tk_D_join 164
theorem d_D_join_296 : decode b_D_join 296 = .ok (.ladd, 1) := dk tk_D_join 165
theorem d_D_join_297 : decode b_D_join 297 = .ok (.lstore_n 2, 1) := dk tk_D_join 166
theorem d_D_join_298 : decode b_D_join 298 = .ok (.aload_n 0, 1) := dk tk_D_join 167
theorem d_D_join_299 : decode b_D_join 299 = .ok (.getfield 19, 3) := dk tk_D_join 168
theorem d_D_join_302 : decode b_D_join 302 = .ok (.iload 4, 2) := dk tk_D_join 169
theorem d_D_join_304 : decode b_D_join 304 = .ok (.lload_n 2, 1) := dk tk_D_join 170
theorem d_D_join_305 : decode b_D_join 305 = .ok (.l2i, 1) := dk tk_D_join 171
theorem d_D_join_306 : decode b_D_join 306 = .ok (.iastore, 1) := dk tk_D_join 172
theorem d_D_join_307 : decode b_D_join 307 = .ok (.lload_n 2, 1) := dk tk_D_join 173
theorem d_D_join_308 : decode b_D_join 308 = .ok (.bipush 32, 2) := dk tk_D_join 174
theorem d_D_join_310 : decode b_D_join 310 = .ok (.lushr, 1) := dk tk_D_join 175
theorem d_D_join_311 : decode b_D_join 311 = .ok (.lstore_n 2, 1) := dk tk_D_join 176
theorem d_D_join_312 : decode b_D_join 312 = .ok (.iinc 4 1, 3) := dk tk_D_join 177
theorem d_D_join_315 : decode b_D_join 315 = .ok (.goto (-52), 3) := dk tk_D_join 178
theorem d_D_join_318 : decode b_D_join 318 = .ok (.return_, 1) := dk tk_D_join 179
def tb_M_init : List (Nat × Instr × Nat) := [(0, .aload_n 0, 1), (1, .invokespecial 1, 3), (4, .aload_n 0, 1), (5, .bipush 33, 2), (7, .newarray .int, 2), (9, .putfield 7, 3), (12, .aload_n 0, 1), (13, .bipush 33, 2), (15, .newarray .int, 2), (17, .putfield 13, 3), (20, .aload_n 0, 1), (21, .bipush 32, 2), (23, .newarray .int, 2), (25, .putfield 16, 3), (28, .aload_n 0, 1), (29, .bipush 33, 2), (31, .newarray .int, 2), (33, .putfield 19, 3), (36, .aload_n 0, 1), (37, .bipush 33, 2), (39, .newarray .int, 2), (41, .putfield 22, 3), (44, .aload_n 0, 1), (45, .bipush 33, 2), (47, .newarray .int, 2), (49, .putfield 25, 3), (52, .aload_n 0, 1), (53, .getfield 7, 3), (56, .iconst 0, 1), (57, .iconst 2, 1), (58, .iastore, 1), (59, .return_, 1)]
theorem tk_M_init : tb_M_init.all (fun r => decide (decode b_M_init r.1 = .ok r.2)) = true := by decide +kernel
theorem d_M_init_0 : decode b_M_init 0 = .ok (.aload_n 0, 1) := dk tk_M_init 0
theorem d_M_init_1 : decode b_M_init 1 = .ok (.invokespecial 1, 3) := dk tk_M_init 1
theorem d_M_init_4 : decode b_M_init 4 = .ok (.aload_n 0, 1) := dk tk_M_init 2
theorem d_M_init_5 : decode b_M_init 5 = .ok (.bipush 33, 2) := dk tk_M_init 3
theorem d_M_init_7 : decode b_M_init 7 = .ok (.newarray .int, 2) := dk tk_M_init 4
theorem d_M_init_9 : decode b_M_init 9 = .ok (.putfield 7, 3) := dk tk_M_init 5
theorem d_M_init_12 : decode b_M_init 12 = .ok (.aload_n 0, 1) := dk tk_M_init 6
theorem d_M_init_13 : decode b_M_init 13 = .ok (.bipush 33, 2) := dk tk_M_init 7
theorem d_M_init_15 : decode b_M_init 15 = .ok (.newarray .int, 2) := dk tk_M_init 8
theorem d_M_init_17 : decode b_M_init 17 = .ok (.putfield 13, 3) := dk tk_M_init 9
theorem d_M_init_20 : decode b_M_init 20 = .ok (.aload_n 0, 1) := dk tk_M_init 10
theorem d_M_init_21 : decode b_M_init 21 = .ok (.bipush 32, 2) := dk tk_M_init 11
theorem d_M_init_23 : decode b_M_init 23 = .ok (.newarray .int, 2) := dk tk_M_init 12
theorem d_M_init_25 : decode b_M_init 25 = .ok (.putfield 16, 3) := dk tk_M_init 13
theorem d_M_init_28 : decode b_M_init 28 = .ok (.aload_n 0, 1) := dk tk_M_init 14
theorem d_M_init_29 : decode b_M_init 29 = .ok (.bipush 33, 2) := dk tk_M_init 15
theorem d_M_init_31 : decode b_M_init 31 = .ok (.newarray .int, 2) := dk tk_M_init 16
theorem d_M_init_33 : decode b_M_init 33 = .ok (.putfield 19, 3) := dk tk_M_init 17
theorem d_M_init_36 : decode b_M_init 36 = .ok (.aload_n 0, 1) := dk tk_M_init 18
theorem d_M_init_37 : decode b_M_init 37 = .ok (.bipush 33, 2) := dk tk_M_init 19
theorem d_M_init_39 : decode b_M_init 39 = .ok (.newarray .int, 2) := dk tk_M_init 20
theorem d_M_init_41 : decode b_M_init 41 = .ok (.putfield 22, 3) := dk tk_M_init 21
theorem d_M_init_44 : decode b_M_init 44 = .ok (.aload_n 0, 1) := dk tk_M_init 22
theorem d_M_init_45 : decode b_M_init 45 = .ok (.bipush 33, 2) := dk tk_M_init 23
theorem d_M_init_47 : decode b_M_init 47 = .ok (.newarray .int, 2) := dk tk_M_init 24
theorem d_M_init_49 : decode b_M_init 49 = .ok (.putfield 25, 3) := dk tk_M_init 25
theorem d_M_init_52 : decode b_M_init 52 = .ok (.aload_n 0, 1) := dk tk_M_init 26
theorem d_M_init_53 : decode b_M_init 53 = .ok (.getfield 7, 3) := dk tk_M_init 27
theorem d_M_init_56 : decode b_M_init 56 = .ok (.iconst 0, 1) := dk tk_M_init 28
theorem d_M_init_57 : decode b_M_init 57 = .ok (.iconst 2, 1) := dk tk_M_init 29
theorem d_M_init_58 : decode b_M_init 58 = .ok (.iastore, 1) := dk tk_M_init 30
theorem d_M_init_59 : decode b_M_init 59 = .ok (.return_, 1) := dk tk_M_init 31
def tb_M_lay : List (Nat × Instr × Nat) := [(0, .iconst 0, 1), (1, .istore 6, 2), (3, .iload 6, 2), (5, .iconst 4, 1), (6, .if_icmp .ge 81, 3), (9, .iload 6, 2), (11, .ifCond .ne 7, 3), (14, .iload_n 2, 1), (15, .goto 26, 3), (18, .iload 6, 2), (20, .iconst 1, 1), (21, .if_icmp .ne 7, 3), (24, .iload_n 3, 1), (25, .goto 16, 3), (28, .iload 6, 2), (30, .iconst 2, 1), (31, .if_icmp .ne 8, 3), (34, .iload 4, 2), (36, .goto 5, 3), (39, .iload 5, 2), (41, .istore 7, 2), (43, .aload_n 0, 1), (44, .bipush 8, 2), (46, .iload_n 1, 1), (47, .iconst 3, 1), (48, .iand, 1), (49, .imul, 1), (50, .iconst 2, 1), (51, .iload 6, 2), (53, .imul, 1), (54, .iadd, 1), (55, .iload 7, 2), (57, .ldc 28, 2), (59, .iand, 1), (60, .iastore, 1), (61, .aload_n 0, 1), (62, .bipush 8, 2), (64, .iload_n 1, 1), (65, .iconst 3, 1), (66, .iand, 1), (67, .imul, 1), (68, .iconst 2, 1), (69, .iload 6, 2), (71, .imul, 1), (72, .iadd, 1), (73, .iconst 1, 1), (74, .iadd, 1), (75, .iload 7, 2), (77, .bipush 16, 2), (79, .iushr, 1), (80, .iastore, 1), (81, .iinc 6 1, 3), (84, .goto (-81), 3), (87, .return_, 1)]
theorem tk_M_lay : tb_M_lay.all (fun r => decide (decode b_M_lay r.1 = .ok r.2)) = true := by decide +kernel
theorem d_M_lay_0 : decode b_M_lay 0 = .ok (.iconst 0, 1) := dk tk_M_lay 0
theorem d_M_lay_1 : decode b_M_lay 1 = .ok (.istore 6, 2) := dk tk_M_lay 1
theorem d_M_lay_3 : decode b_M_lay 3 = .ok (.iload 6, 2) := dk tk_M_lay 2
theorem d_M_lay_5 : decode b_M_lay 5 = .ok (.iconst 4, 1) := dk tk_M_lay 3
theorem d_M_lay_6 : decode b_M_lay 6 = .ok (.if_icmp .ge 81, 3) := dk tk_M_lay 4
theorem d_M_lay_9 : decode b_M_lay 9 = .ok (.iload 6, 2) := dk tk_M_lay 5
theorem d_M_lay_11 : decode b_M_lay 11 = .ok (.ifCond .ne 7, 3) := dk tk_M_lay 6
theorem d_M_lay_14 : decode b_M_lay 14 = .ok (.iload_n 2, 1) := dk tk_M_lay 7
theorem d_M_lay_15 : decode b_M_lay 15 = .ok (.goto 26, 3) := dk tk_M_lay 8
theorem d_M_lay_18 : decode b_M_lay 18 = .ok (.iload 6, 2) := dk tk_M_lay 9
theorem d_M_lay_20 : decode b_M_lay 20 = .ok (.iconst 1, 1) := dk tk_M_lay 10
theorem d_M_lay_21 : decode b_M_lay 21 = .ok (.if_icmp .ne 7, 3) := dk tk_M_lay 11
theorem d_M_lay_24 : decode b_M_lay 24 = .ok (.iload_n 3, 1) := dk tk_M_lay 12
theorem d_M_lay_25 : decode b_M_lay 25 = .ok (.goto 16, 3) := dk tk_M_lay 13
theorem d_M_lay_28 : decode b_M_lay 28 = .ok (.iload 6, 2) := dk tk_M_lay 14
theorem d_M_lay_30 : decode b_M_lay 30 = .ok (.iconst 2, 1) := dk tk_M_lay 15
theorem d_M_lay_31 : decode b_M_lay 31 = .ok (.if_icmp .ne 8, 3) := dk tk_M_lay 16
theorem d_M_lay_34 : decode b_M_lay 34 = .ok (.iload 4, 2) := dk tk_M_lay 17
theorem d_M_lay_36 : decode b_M_lay 36 = .ok (.goto 5, 3) := dk tk_M_lay 18
theorem d_M_lay_39 : decode b_M_lay 39 = .ok (.iload 5, 2) := dk tk_M_lay 19
theorem d_M_lay_41 : decode b_M_lay 41 = .ok (.istore 7, 2) := dk tk_M_lay 20
theorem d_M_lay_43 : decode b_M_lay 43 = .ok (.aload_n 0, 1) := dk tk_M_lay 21
theorem d_M_lay_44 : decode b_M_lay 44 = .ok (.bipush 8, 2) := dk tk_M_lay 22
theorem d_M_lay_46 : decode b_M_lay 46 = .ok (.iload_n 1, 1) := dk tk_M_lay 23
theorem d_M_lay_47 : decode b_M_lay 47 = .ok (.iconst 3, 1) := dk tk_M_lay 24
theorem d_M_lay_48 : decode b_M_lay 48 = .ok (.iand, 1) := dk tk_M_lay 25
theorem d_M_lay_49 : decode b_M_lay 49 = .ok (.imul, 1) := dk tk_M_lay 26
theorem d_M_lay_50 : decode b_M_lay 50 = .ok (.iconst 2, 1) := dk tk_M_lay 27
theorem d_M_lay_51 : decode b_M_lay 51 = .ok (.iload 6, 2) := dk tk_M_lay 28
theorem d_M_lay_53 : decode b_M_lay 53 = .ok (.imul, 1) := dk tk_M_lay 29
theorem d_M_lay_54 : decode b_M_lay 54 = .ok (.iadd, 1) := dk tk_M_lay 30
theorem d_M_lay_55 : decode b_M_lay 55 = .ok (.iload 7, 2) := dk tk_M_lay 31
theorem d_M_lay_57 : decode b_M_lay 57 = .ok (.ldc 28, 2) := dk tk_M_lay 32
theorem d_M_lay_59 : decode b_M_lay 59 = .ok (.iand, 1) := dk tk_M_lay 33
theorem d_M_lay_60 : decode b_M_lay 60 = .ok (.iastore, 1) := dk tk_M_lay 34
theorem d_M_lay_61 : decode b_M_lay 61 = .ok (.aload_n 0, 1) := dk tk_M_lay 35
theorem d_M_lay_62 : decode b_M_lay 62 = .ok (.bipush 8, 2) := dk tk_M_lay 36
theorem d_M_lay_64 : decode b_M_lay 64 = .ok (.iload_n 1, 1) := dk tk_M_lay 37
theorem d_M_lay_65 : decode b_M_lay 65 = .ok (.iconst 3, 1) := dk tk_M_lay 38
theorem d_M_lay_66 : decode b_M_lay 66 = .ok (.iand, 1) := dk tk_M_lay 39
theorem d_M_lay_67 : decode b_M_lay 67 = .ok (.imul, 1) := dk tk_M_lay 40
theorem d_M_lay_68 : decode b_M_lay 68 = .ok (.iconst 2, 1) := dk tk_M_lay 41
theorem d_M_lay_69 : decode b_M_lay 69 = .ok (.iload 6, 2) := dk tk_M_lay 42
theorem d_M_lay_71 : decode b_M_lay 71 = .ok (.imul, 1) := dk tk_M_lay 43
theorem d_M_lay_72 : decode b_M_lay 72 = .ok (.iadd, 1) := dk tk_M_lay 44
theorem d_M_lay_73 : decode b_M_lay 73 = .ok (.iconst 1, 1) := dk tk_M_lay 45
theorem d_M_lay_74 : decode b_M_lay 74 = .ok (.iadd, 1) := dk tk_M_lay 46
theorem d_M_lay_75 : decode b_M_lay 75 = .ok (.iload 7, 2) := dk tk_M_lay 47
theorem d_M_lay_77 : decode b_M_lay 77 = .ok (.bipush 16, 2) := dk tk_M_lay 48
theorem d_M_lay_79 : decode b_M_lay 79 = .ok (.iushr, 1) := dk tk_M_lay 49
theorem d_M_lay_80 : decode b_M_lay 80 = .ok (.iastore, 1) := dk tk_M_lay 50
theorem d_M_lay_81 : decode b_M_lay 81 = .ok (.iinc 6 1, 3) := dk tk_M_lay 51
theorem d_M_lay_84 : decode b_M_lay 84 = .ok (.goto (-81), 3) := dk tk_M_lay 52
theorem d_M_lay_87 : decode b_M_lay 87 = .ok (.return_, 1) := dk tk_M_lay 53
def tb_M_modulus : List (Nat × Instr × Nat) := [(0, .aload_n 0, 1), (1, .getfield 7, 3), (4, .iload_n 1, 1), (5, .iload_n 2, 1), (6, .iload_n 3, 1), (7, .iload 4, 2), (9, .iload 5, 2), (11, .invokestatic 29, 3), (14, .aload_n 0, 1), (15, .getfield 7, 3), (18, .iconst 0, 1), (19, .iaload, 1), (20, .iconst 1, 1), (21, .if_icmp .le 7, 3), (24, .iconst 1, 1), (25, .goto 4, 3), (28, .iconst 0, 1), (29, .istore 6, 2), (31, .iconst 1, 1), (32, .istore 7, 2), (34, .iload 7, 2), (36, .bipush 32, 2), (38, .if_icmp .ge 31, 3), (41, .iload 6, 2), (43, .ifCond .ne 13, 3), (46, .aload_n 0, 1), (47, .getfield 7, 3), (50, .iload 7, 2), (52, .iaload, 1), (53, .ifCond .eq 7, 3), (56, .iconst 1, 1), (57, .goto 4, 3), (60, .iconst 0, 1), (61, .istore 6, 2), (63, .iinc 7 1, 3), (66, .goto (-32), 3), (69, .iload 6, 2), (71, .ifCond .ne 10, 3), (74, .aload_n 0, 1), (75, .getfield 7, 3), (78, .iconst 0, 1), (79, .iconst 2, 1), (80, .iastore, 1), (81, .aload_n 0, 1), (82, .aload_n 0, 1), (83, .getfield 13, 3), (86, .invokevirtual 33, 3), (89, .aload_n 0, 1), (90, .aload_n 0, 1), (91, .getfield 19, 3), (94, .invokevirtual 33, 3), (97, .return_, 1)]
theorem tk_M_modulus : tb_M_modulus.all (fun r => decide (decode b_M_modulus r.1 = .ok r.2)) = true := by decide +kernel
theorem d_M_modulus_0 : decode b_M_modulus 0 = .ok (.aload_n 0, 1) := dk tk_M_modulus 0
theorem d_M_modulus_1 : decode b_M_modulus 1 = .ok (.getfield 7, 3) := dk tk_M_modulus 1
theorem d_M_modulus_4 : decode b_M_modulus 4 = .ok (.iload_n 1, 1) := dk tk_M_modulus 2
theorem d_M_modulus_5 : decode b_M_modulus 5 = .ok (.iload_n 2, 1) := dk tk_M_modulus 3
theorem d_M_modulus_6 : decode b_M_modulus 6 = .ok (.iload_n 3, 1) := dk tk_M_modulus 4
theorem d_M_modulus_7 : decode b_M_modulus 7 = .ok (.iload 4, 2) := dk tk_M_modulus 5
theorem d_M_modulus_9 : decode b_M_modulus 9 = .ok (.iload 5, 2) := dk tk_M_modulus 6
theorem d_M_modulus_11 : decode b_M_modulus 11 = .ok (.invokestatic 29, 3) := dk tk_M_modulus 7
theorem d_M_modulus_14 : decode b_M_modulus 14 = .ok (.aload_n 0, 1) := dk tk_M_modulus 8
theorem d_M_modulus_15 : decode b_M_modulus 15 = .ok (.getfield 7, 3) := dk tk_M_modulus 9
theorem d_M_modulus_18 : decode b_M_modulus 18 = .ok (.iconst 0, 1) := dk tk_M_modulus 10
theorem d_M_modulus_19 : decode b_M_modulus 19 = .ok (.iaload, 1) := dk tk_M_modulus 11
theorem d_M_modulus_20 : decode b_M_modulus 20 = .ok (.iconst 1, 1) := dk tk_M_modulus 12
theorem d_M_modulus_21 : decode b_M_modulus 21 = .ok (.if_icmp .le 7, 3) := dk tk_M_modulus 13
theorem d_M_modulus_24 : decode b_M_modulus 24 = .ok (.iconst 1, 1) := dk tk_M_modulus 14
theorem d_M_modulus_25 : decode b_M_modulus 25 = .ok (.goto 4, 3) := dk tk_M_modulus 15
theorem d_M_modulus_28 : decode b_M_modulus 28 = .ok (.iconst 0, 1) := dk tk_M_modulus 16
theorem d_M_modulus_29 : decode b_M_modulus 29 = .ok (.istore 6, 2) := dk tk_M_modulus 17
theorem d_M_modulus_31 : decode b_M_modulus 31 = .ok (.iconst 1, 1) := dk tk_M_modulus 18
theorem d_M_modulus_32 : decode b_M_modulus 32 = .ok (.istore 7, 2) := dk tk_M_modulus 19
theorem d_M_modulus_34 : decode b_M_modulus 34 = .ok (.iload 7, 2) := dk tk_M_modulus 20
theorem d_M_modulus_36 : decode b_M_modulus 36 = .ok (.bipush 32, 2) := dk tk_M_modulus 21
theorem d_M_modulus_38 : decode b_M_modulus 38 = .ok (.if_icmp .ge 31, 3) := dk tk_M_modulus 22
theorem d_M_modulus_41 : decode b_M_modulus 41 = .ok (.iload 6, 2) := dk tk_M_modulus 23
theorem d_M_modulus_43 : decode b_M_modulus 43 = .ok (.ifCond .ne 13, 3) := dk tk_M_modulus 24
theorem d_M_modulus_46 : decode b_M_modulus 46 = .ok (.aload_n 0, 1) := dk tk_M_modulus 25
theorem d_M_modulus_47 : decode b_M_modulus 47 = .ok (.getfield 7, 3) := dk tk_M_modulus 26
theorem d_M_modulus_50 : decode b_M_modulus 50 = .ok (.iload 7, 2) := dk tk_M_modulus 27
theorem d_M_modulus_52 : decode b_M_modulus 52 = .ok (.iaload, 1) := dk tk_M_modulus 28
theorem d_M_modulus_53 : decode b_M_modulus 53 = .ok (.ifCond .eq 7, 3) := dk tk_M_modulus 29
theorem d_M_modulus_56 : decode b_M_modulus 56 = .ok (.iconst 1, 1) := dk tk_M_modulus 30
theorem d_M_modulus_57 : decode b_M_modulus 57 = .ok (.goto 4, 3) := dk tk_M_modulus 31
theorem d_M_modulus_60 : decode b_M_modulus 60 = .ok (.iconst 0, 1) := dk tk_M_modulus 32
theorem d_M_modulus_61 : decode b_M_modulus 61 = .ok (.istore 6, 2) := dk tk_M_modulus 33
theorem d_M_modulus_63 : decode b_M_modulus 63 = .ok (.iinc 7 1, 3) := dk tk_M_modulus 34
theorem d_M_modulus_66 : decode b_M_modulus 66 = .ok (.goto (-32), 3) := dk tk_M_modulus 35
theorem d_M_modulus_69 : decode b_M_modulus 69 = .ok (.iload 6, 2) := dk tk_M_modulus 36
theorem d_M_modulus_71 : decode b_M_modulus 71 = .ok (.ifCond .ne 10, 3) := dk tk_M_modulus 37
theorem d_M_modulus_74 : decode b_M_modulus 74 = .ok (.aload_n 0, 1) := dk tk_M_modulus 38
theorem d_M_modulus_75 : decode b_M_modulus 75 = .ok (.getfield 7, 3) := dk tk_M_modulus 39
theorem d_M_modulus_78 : decode b_M_modulus 78 = .ok (.iconst 0, 1) := dk tk_M_modulus 40
theorem d_M_modulus_79 : decode b_M_modulus 79 = .ok (.iconst 2, 1) := dk tk_M_modulus 41
theorem d_M_modulus_80 : decode b_M_modulus 80 = .ok (.iastore, 1) := dk tk_M_modulus 42
theorem d_M_modulus_81 : decode b_M_modulus 81 = .ok (.aload_n 0, 1) := dk tk_M_modulus 43
theorem d_M_modulus_82 : decode b_M_modulus 82 = .ok (.aload_n 0, 1) := dk tk_M_modulus 44
theorem d_M_modulus_83 : decode b_M_modulus 83 = .ok (.getfield 13, 3) := dk tk_M_modulus 45
theorem d_M_modulus_86 : decode b_M_modulus 86 = .ok (.invokevirtual 33, 3) := dk tk_M_modulus 46
theorem d_M_modulus_89 : decode b_M_modulus 89 = .ok (.aload_n 0, 1) := dk tk_M_modulus 47
theorem d_M_modulus_90 : decode b_M_modulus 90 = .ok (.aload_n 0, 1) := dk tk_M_modulus 48
theorem d_M_modulus_91 : decode b_M_modulus 91 = .ok (.getfield 19, 3) := dk tk_M_modulus 49
theorem d_M_modulus_94 : decode b_M_modulus 94 = .ok (.invokevirtual 33, 3) := dk tk_M_modulus 50
theorem d_M_modulus_97 : decode b_M_modulus 97 = .ok (.return_, 1) := dk tk_M_modulus 51
def tb_M_base : List (Nat × Instr × Nat) := [(0, .aload_n 0, 1), (1, .getfield 13, 3), (4, .iload_n 1, 1), (5, .iload_n 2, 1), (6, .iload_n 3, 1), (7, .iload 4, 2), (9, .iload 5, 2), (11, .invokestatic 29, 3), (14, .aload_n 0, 1), (15, .aload_n 0, 1), (16, .getfield 13, 3), (19, .invokevirtual 33, 3), (22, .return_, 1)]
theorem tk_M_base : tb_M_base.all (fun r => decide (decode b_M_base r.1 = .ok r.2)) = true := by decide +kernel
theorem d_M_base_0 : decode b_M_base 0 = .ok (.aload_n 0, 1) := dk tk_M_base 0
theorem d_M_base_1 : decode b_M_base 1 = .ok (.getfield 13, 3) := dk tk_M_base 1
theorem d_M_base_4 : decode b_M_base 4 = .ok (.iload_n 1, 1) := dk tk_M_base 2
theorem d_M_base_5 : decode b_M_base 5 = .ok (.iload_n 2, 1) := dk tk_M_base 3
theorem d_M_base_6 : decode b_M_base 6 = .ok (.iload_n 3, 1) := dk tk_M_base 4
theorem d_M_base_7 : decode b_M_base 7 = .ok (.iload 4, 2) := dk tk_M_base 5
theorem d_M_base_9 : decode b_M_base 9 = .ok (.iload 5, 2) := dk tk_M_base 6
theorem d_M_base_11 : decode b_M_base 11 = .ok (.invokestatic 29, 3) := dk tk_M_base 7
theorem d_M_base_14 : decode b_M_base 14 = .ok (.aload_n 0, 1) := dk tk_M_base 8
theorem d_M_base_15 : decode b_M_base 15 = .ok (.aload_n 0, 1) := dk tk_M_base 9
theorem d_M_base_16 : decode b_M_base 16 = .ok (.getfield 13, 3) := dk tk_M_base 10
theorem d_M_base_19 : decode b_M_base 19 = .ok (.invokevirtual 33, 3) := dk tk_M_base 11
theorem d_M_base_22 : decode b_M_base 22 = .ok (.return_, 1) := dk tk_M_base 12
def tb_M_power : List (Nat × Instr × Nat) := [(0, .aload_n 0, 1), (1, .getfield 16, 3), (4, .iload_n 1, 1), (5, .iload_n 2, 1), (6, .iload_n 3, 1), (7, .iload 4, 2), (9, .iload 5, 2), (11, .invokestatic 29, 3), (14, .return_, 1)]
theorem tk_M_power : tb_M_power.all (fun r => decide (decode b_M_power r.1 = .ok r.2)) = true := by decide +kernel
theorem d_M_power_0 : decode b_M_power 0 = .ok (.aload_n 0, 1) := dk tk_M_power 0
theorem d_M_power_1 : decode b_M_power 1 = .ok (.getfield 16, 3) := dk tk_M_power 1
theorem d_M_power_4 : decode b_M_power 4 = .ok (.iload_n 1, 1) := dk tk_M_power 2
theorem d_M_power_5 : decode b_M_power 5 = .ok (.iload_n 2, 1) := dk tk_M_power 3
theorem d_M_power_6 : decode b_M_power 6 = .ok (.iload_n 3, 1) := dk tk_M_power 4
theorem d_M_power_7 : decode b_M_power 7 = .ok (.iload 4, 2) := dk tk_M_power 5
theorem d_M_power_9 : decode b_M_power 9 = .ok (.iload 5, 2) := dk tk_M_power 6
theorem d_M_power_11 : decode b_M_power 11 = .ok (.invokestatic 29, 3) := dk tk_M_power 7
theorem d_M_power_14 : decode b_M_power 14 = .ok (.return_, 1) := dk tk_M_power 8
def tb_M_less : List (Nat × Instr × Nat) := [(0, .bipush 32, 2), (2, .istore_n 2, 1), (3, .iload_n 2, 1), (4, .ifCond .le 22, 3), (7, .aload_n 1, 1), (8, .iload_n 2, 1), (9, .iaload, 1), (10, .aload_n 0, 1), (11, .getfield 7, 3), (14, .iload_n 2, 1), (15, .iaload, 1), (16, .if_icmp .ne 10, 3), (19, .iload_n 2, 1), (20, .iconst 1, 1), (21, .isub, 1), (22, .istore_n 2, 1), (23, .goto (-20), 3), (26, .aload_n 1, 1), (27, .iload_n 2, 1), (28, .iaload, 1), (29, .aload_n 0, 1), (30, .getfield 7, 3), (33, .iload_n 2, 1), (34, .iaload, 1), (35, .if_icmp .ge 7, 3), (38, .iconst 1, 1), (39, .goto 4, 3), (42, .iconst 0, 1), (43, .ireturn, 1)]
theorem tk_M_less : tb_M_less.all (fun r => decide (decode b_M_less r.1 = .ok r.2)) = true := by decide +kernel
theorem d_M_less_0 : decode b_M_less 0 = .ok (.bipush 32, 2) := dk tk_M_less 0
theorem d_M_less_2 : decode b_M_less 2 = .ok (.istore_n 2, 1) := dk tk_M_less 1
theorem d_M_less_3 : decode b_M_less 3 = .ok (.iload_n 2, 1) := dk tk_M_less 2
theorem d_M_less_4 : decode b_M_less 4 = .ok (.ifCond .le 22, 3) := dk tk_M_less 3
theorem d_M_less_7 : decode b_M_less 7 = .ok (.aload_n 1, 1) := dk tk_M_less 4
theorem d_M_less_8 : decode b_M_less 8 = .ok (.iload_n 2, 1) := dk tk_M_less 5
theorem d_M_less_9 : decode b_M_less 9 = .ok (.iaload, 1) := dk tk_M_less 6
theorem d_M_less_10 : decode b_M_less 10 = .ok (.aload_n 0, 1) := dk tk_M_less 7
theorem d_M_less_11 : decode b_M_less 11 = .ok (.getfield 7, 3) := dk tk_M_less 8
theorem d_M_less_14 : decode b_M_less 14 = .ok (.iload_n 2, 1) := dk tk_M_less 9
theorem d_M_less_15 : decode b_M_less 15 = .ok (.iaload, 1) := dk tk_M_less 10
theorem d_M_less_16 : decode b_M_less 16 = .ok (.if_icmp .ne 10, 3) := dk tk_M_less 11
theorem d_M_less_19 : decode b_M_less 19 = .ok (.iload_n 2, 1) := dk tk_M_less 12
theorem d_M_less_20 : decode b_M_less 20 = .ok (.iconst 1, 1) := dk tk_M_less 13
theorem d_M_less_21 : decode b_M_less 21 = .ok (.isub, 1) := dk tk_M_less 14
theorem d_M_less_22 : decode b_M_less 22 = .ok (.istore_n 2, 1) := dk tk_M_less 15
theorem d_M_less_23 : decode b_M_less 23 = .ok (.goto (-20), 3) := dk tk_M_less 16
theorem d_M_less_26 : decode b_M_less 26 = .ok (.aload_n 1, 1) := dk tk_M_less 17
theorem d_M_less_27 : decode b_M_less 27 = .ok (.iload_n 2, 1) := dk tk_M_less 18
theorem d_M_less_28 : decode b_M_less 28 = .ok (.iaload, 1) := dk tk_M_less 19
theorem d_M_less_29 : decode b_M_less 29 = .ok (.aload_n 0, 1) := dk tk_M_less 20
theorem d_M_less_30 : decode b_M_less 30 = .ok (.getfield 7, 3) := dk tk_M_less 21
theorem d_M_less_33 : decode b_M_less 33 = .ok (.iload_n 2, 1) := dk tk_M_less 22
theorem d_M_less_34 : decode b_M_less 34 = .ok (.iaload, 1) := dk tk_M_less 23
theorem d_M_less_35 : decode b_M_less 35 = .ok (.if_icmp .ge 7, 3) := dk tk_M_less 24
theorem d_M_less_38 : decode b_M_less 38 = .ok (.iconst 1, 1) := dk tk_M_less 25
theorem d_M_less_39 : decode b_M_less 39 = .ok (.goto 4, 3) := dk tk_M_less 26
theorem d_M_less_42 : decode b_M_less 42 = .ok (.iconst 0, 1) := dk tk_M_less 27
theorem d_M_less_43 : decode b_M_less 43 = .ok (.ireturn, 1) := dk tk_M_less 28
def tb_M_minus : List (Nat × Instr × Nat) := [(0, .iconst 0, 1), (1, .istore_n 2, 1), (2, .iconst 0, 1), (3, .istore_n 3, 1), (4, .iload_n 3, 1), (5, .bipush 33, 2), (7, .if_icmp .ge 37, 3), (10, .aload_n 1, 1), (11, .iload_n 3, 1), (12, .iaload, 1), (13, .aload_n 0, 1), (14, .getfield 7, 3), (17, .iload_n 3, 1), (18, .iaload, 1), (19, .isub, 1), (20, .iload_n 2, 1), (21, .iadd, 1), (22, .istore 4, 2), (24, .aload_n 1, 1), (25, .iload_n 3, 1), (26, .iload 4, 2), (28, .ldc 28, 2), (30, .iand, 1), (31, .iastore, 1), (32, .iload 4, 2), (34, .bipush 16, 2), (36, .ishr, 1), (37, .istore_n 2, 1), (38, .iinc 3 1, 3), (41, .goto (-37), 3), (44, .return_, 1)]
theorem tk_M_minus : tb_M_minus.all (fun r => decide (decode b_M_minus r.1 = .ok r.2)) = true := by decide +kernel
theorem d_M_minus_0 : decode b_M_minus 0 = .ok (.iconst 0, 1) := dk tk_M_minus 0
theorem d_M_minus_1 : decode b_M_minus 1 = .ok (.istore_n 2, 1) := dk tk_M_minus 1
theorem d_M_minus_2 : decode b_M_minus 2 = .ok (.iconst 0, 1) := dk tk_M_minus 2
theorem d_M_minus_3 : decode b_M_minus 3 = .ok (.istore_n 3, 1) := dk tk_M_minus 3
theorem d_M_minus_4 : decode b_M_minus 4 = .ok (.iload_n 3, 1) := dk tk_M_minus 4
theorem d_M_minus_5 : decode b_M_minus 5 = .ok (.bipush 33, 2) := dk tk_M_minus 5
theorem d_M_minus_7 : decode b_M_minus 7 = .ok (.if_icmp .ge 37, 3) := dk tk_M_minus 6
theorem d_M_minus_10 : decode b_M_minus 10 = .ok (.aload_n 1, 1) := dk tk_M_minus 7
theorem d_M_minus_11 : decode b_M_minus 11 = .ok (.iload_n 3, 1) := dk tk_M_minus 8
theorem d_M_minus_12 : decode b_M_minus 12 = .ok (.iaload, 1) := dk tk_M_minus 9
theorem d_M_minus_13 : decode b_M_minus 13 = .ok (.aload_n 0, 1) := dk tk_M_minus 10
theorem d_M_minus_14 : decode b_M_minus 14 = .ok (.getfield 7, 3) := dk tk_M_minus 11
theorem d_M_minus_17 : decode b_M_minus 17 = .ok (.iload_n 3, 1) := dk tk_M_minus 12
theorem d_M_minus_18 : decode b_M_minus 18 = .ok (.iaload, 1) := dk tk_M_minus 13
theorem d_M_minus_19 : decode b_M_minus 19 = .ok (.isub, 1) := dk tk_M_minus 14
theorem d_M_minus_20 : decode b_M_minus 20 = .ok (.iload_n 2, 1) := dk tk_M_minus 15
theorem d_M_minus_21 : decode b_M_minus 21 = .ok (.iadd, 1) := dk tk_M_minus 16
theorem d_M_minus_22 : decode b_M_minus 22 = .ok (.istore 4, 2) := dk tk_M_minus 17
theorem d_M_minus_24 : decode b_M_minus 24 = .ok (.aload_n 1, 1) := dk tk_M_minus 18
theorem d_M_minus_25 : decode b_M_minus 25 = .ok (.iload_n 3, 1) := dk tk_M_minus 19
theorem d_M_minus_26 : decode b_M_minus 26 = .ok (.iload 4, 2) := dk tk_M_minus 20
theorem d_M_minus_28 : decode b_M_minus 28 = .ok (.ldc 28, 2) := dk tk_M_minus 21
theorem d_M_minus_30 : decode b_M_minus 30 = .ok (.iand, 1) := dk tk_M_minus 22
theorem d_M_minus_31 : decode b_M_minus 31 = .ok (.iastore, 1) := dk tk_M_minus 23
theorem d_M_minus_32 : decode b_M_minus 32 = .ok (.iload 4, 2) := dk tk_M_minus 24
theorem d_M_minus_34 : decode b_M_minus 34 = .ok (.bipush 16, 2) := dk tk_M_minus 25
theorem d_M_minus_36 : decode b_M_minus 36 = .ok (.ishr, 1) := dk tk_M_minus 26
theorem d_M_minus_37 : decode b_M_minus 37 = .ok (.istore_n 2, 1) := dk tk_M_minus 27
theorem d_M_minus_38 : decode b_M_minus 38 = .ok (.iinc 3 1, 3) := dk tk_M_minus 28
theorem d_M_minus_41 : decode b_M_minus 41 = .ok (.goto (-37), 3) := dk tk_M_minus 29
theorem d_M_minus_44 : decode b_M_minus 44 = .ok (.return_, 1) := dk tk_M_minus 30
def tb_M_fold : List (Nat × Instr × Nat) := [(0, .iconst 0, 1), (1, .istore_n 2, 1), (2, .iload_n 2, 1), (3, .bipush 33, 2), (5, .if_icmp .ge 16, 3), (8, .aload_n 0, 1), (9, .getfield 22, 3), (12, .iload_n 2, 1), (13, .iconst 0, 1), (14, .iastore, 1), (15, .iinc 2 1, 3), (18, .goto (-16), 3), (21, .sipush 511, 3), (24, .istore_n 2, 1), (25, .iload_n 2, 1), (26, .ifCond .lt 88, 3), (29, .aload_n 1, 1), (30, .iload_n 2, 1), (31, .iconst 4, 1), (32, .ishr, 1), (33, .iaload, 1), (34, .iload_n 2, 1), (35, .bipush 15, 2), (37, .iand, 1), (38, .ishr, 1), (39, .iconst 1, 1), (40, .iand, 1), (41, .istore_n 3, 1), (42, .iconst 0, 1), (43, .istore 4, 2), (45, .iload 4, 2), (47, .bipush 33, 2), (49, .if_icmp .ge 40, 3), (52, .iconst 2, 1), (53, .aload_n 0, 1), (54, .getfield 22, 3), (57, .iload 4, 2), (59, .iaload, 1), (60, .imul, 1), (61, .iload_n 3, 1), (62, .iadd, 1), (63, .istore 5, 2), (65, .aload_n 0, 1), (66, .getfield 22, 3), (69, .iload 4, 2), (71, .iload 5, 2), (73, .ldc 28, 2), (75, .iand, 1), (76, .iastore, 1), (77, .iload 5, 2), (79, .bipush 16, 2), (81, .ishr, 1), (82, .istore_n 3, 1), (83, .iinc 4 1, 3), (86, .goto (-41), 3), (89, .aload_n 0, 1), (90, .aload_n 0, 1), (91, .getfield 22, 3), (94, .invokevirtual 37, 3), (97, .ifCond .ne 11, 3), (100, .aload_n 0, 1), (101, .aload_n 0, 1), (102, .getfield 22, 3), (105, .invokevirtual 41, 3), (108, .iinc 2 (-1), 3), (111, .goto (-86), 3), (114, .iconst 0, 1), (115, .istore_n 2, 1), (116, .iload_n 2, 1), (117, .bipush 33, 2), (119, .if_icmp .ge 18, 3), (122, .aload_n 1, 1), (123, .iload_n 2, 1), (124, .aload_n 0, 1), (125, .getfield 22, 3), (128, .iload_n 2, 1), (129, .iaload, 1), (130, .iastore, 1), (131, .iinc 2 1, 3), (134, .goto (-18), 3), (137, .return_, 1)]
theorem tk_M_fold : tb_M_fold.all (fun r => decide (decode b_M_fold r.1 = .ok r.2)) = true := by decide +kernel
theorem d_M_fold_0 : decode b_M_fold 0 = .ok (.iconst 0, 1) := dk tk_M_fold 0
theorem d_M_fold_1 : decode b_M_fold 1 = .ok (.istore_n 2, 1) := dk tk_M_fold 1
theorem d_M_fold_2 : decode b_M_fold 2 = .ok (.iload_n 2, 1) := dk tk_M_fold 2
theorem d_M_fold_3 : decode b_M_fold 3 = .ok (.bipush 33, 2) := dk tk_M_fold 3
theorem d_M_fold_5 : decode b_M_fold 5 = .ok (.if_icmp .ge 16, 3) := dk tk_M_fold 4
theorem d_M_fold_8 : decode b_M_fold 8 = .ok (.aload_n 0, 1) := dk tk_M_fold 5
theorem d_M_fold_9 : decode b_M_fold 9 = .ok (.getfield 22, 3) := dk tk_M_fold 6
theorem d_M_fold_12 : decode b_M_fold 12 = .ok (.iload_n 2, 1) := dk tk_M_fold 7
theorem d_M_fold_13 : decode b_M_fold 13 = .ok (.iconst 0, 1) := dk tk_M_fold 8
theorem d_M_fold_14 : decode b_M_fold 14 = .ok (.iastore, 1) := dk tk_M_fold 9
theorem d_M_fold_15 : decode b_M_fold 15 = .ok (.iinc 2 1, 3) := dk tk_M_fold 10
theorem d_M_fold_18 : decode b_M_fold 18 = .ok (.goto (-16), 3) := dk tk_M_fold 11
theorem d_M_fold_21 : decode b_M_fold 21 = .ok (.sipush 511, 3) := dk tk_M_fold 12
theorem d_M_fold_24 : decode b_M_fold 24 = .ok (.istore_n 2, 1) := dk tk_M_fold 13
theorem d_M_fold_25 : decode b_M_fold 25 = .ok (.iload_n 2, 1) := dk tk_M_fold 14
theorem d_M_fold_26 : decode b_M_fold 26 = .ok (.ifCond .lt 88, 3) := dk tk_M_fold 15
theorem d_M_fold_29 : decode b_M_fold 29 = .ok (.aload_n 1, 1) := dk tk_M_fold 16
theorem d_M_fold_30 : decode b_M_fold 30 = .ok (.iload_n 2, 1) := dk tk_M_fold 17
theorem d_M_fold_31 : decode b_M_fold 31 = .ok (.iconst 4, 1) := dk tk_M_fold 18
theorem d_M_fold_32 : decode b_M_fold 32 = .ok (.ishr, 1) := dk tk_M_fold 19
theorem d_M_fold_33 : decode b_M_fold 33 = .ok (.iaload, 1) := dk tk_M_fold 20
theorem d_M_fold_34 : decode b_M_fold 34 = .ok (.iload_n 2, 1) := dk tk_M_fold 21
theorem d_M_fold_35 : decode b_M_fold 35 = .ok (.bipush 15, 2) := dk tk_M_fold 22
theorem d_M_fold_37 : decode b_M_fold 37 = .ok (.iand, 1) := dk tk_M_fold 23
theorem d_M_fold_38 : decode b_M_fold 38 = .ok (.ishr, 1) := dk tk_M_fold 24
theorem d_M_fold_39 : decode b_M_fold 39 = .ok (.iconst 1, 1) := dk tk_M_fold 25
theorem d_M_fold_40 : decode b_M_fold 40 = .ok (.iand, 1) := dk tk_M_fold 26
theorem d_M_fold_41 : decode b_M_fold 41 = .ok (.istore_n 3, 1) := dk tk_M_fold 27
theorem d_M_fold_42 : decode b_M_fold 42 = .ok (.iconst 0, 1) := dk tk_M_fold 28
theorem d_M_fold_43 : decode b_M_fold 43 = .ok (.istore 4, 2) := dk tk_M_fold 29
theorem d_M_fold_45 : decode b_M_fold 45 = .ok (.iload 4, 2) := dk tk_M_fold 30
theorem d_M_fold_47 : decode b_M_fold 47 = .ok (.bipush 33, 2) := dk tk_M_fold 31
theorem d_M_fold_49 : decode b_M_fold 49 = .ok (.if_icmp .ge 40, 3) := dk tk_M_fold 32
theorem d_M_fold_52 : decode b_M_fold 52 = .ok (.iconst 2, 1) := dk tk_M_fold 33
theorem d_M_fold_53 : decode b_M_fold 53 = .ok (.aload_n 0, 1) := dk tk_M_fold 34
theorem d_M_fold_54 : decode b_M_fold 54 = .ok (.getfield 22, 3) := dk tk_M_fold 35
theorem d_M_fold_57 : decode b_M_fold 57 = .ok (.iload 4, 2) := dk tk_M_fold 36
theorem d_M_fold_59 : decode b_M_fold 59 = .ok (.iaload, 1) := dk tk_M_fold 37
theorem d_M_fold_60 : decode b_M_fold 60 = .ok (.imul, 1) := dk tk_M_fold 38
theorem d_M_fold_61 : decode b_M_fold 61 = .ok (.iload_n 3, 1) := dk tk_M_fold 39
theorem d_M_fold_62 : decode b_M_fold 62 = .ok (.iadd, 1) := dk tk_M_fold 40
theorem d_M_fold_63 : decode b_M_fold 63 = .ok (.istore 5, 2) := dk tk_M_fold 41
theorem d_M_fold_65 : decode b_M_fold 65 = .ok (.aload_n 0, 1) := dk tk_M_fold 42
theorem d_M_fold_66 : decode b_M_fold 66 = .ok (.getfield 22, 3) := dk tk_M_fold 43
theorem d_M_fold_69 : decode b_M_fold 69 = .ok (.iload 4, 2) := dk tk_M_fold 44
theorem d_M_fold_71 : decode b_M_fold 71 = .ok (.iload 5, 2) := dk tk_M_fold 45
theorem d_M_fold_73 : decode b_M_fold 73 = .ok (.ldc 28, 2) := dk tk_M_fold 46
theorem d_M_fold_75 : decode b_M_fold 75 = .ok (.iand, 1) := dk tk_M_fold 47
theorem d_M_fold_76 : decode b_M_fold 76 = .ok (.iastore, 1) := dk tk_M_fold 48
theorem d_M_fold_77 : decode b_M_fold 77 = .ok (.iload 5, 2) := dk tk_M_fold 49
theorem d_M_fold_79 : decode b_M_fold 79 = .ok (.bipush 16, 2) := dk tk_M_fold 50
theorem d_M_fold_81 : decode b_M_fold 81 = .ok (.ishr, 1) := dk tk_M_fold 51
theorem d_M_fold_82 : decode b_M_fold 82 = .ok (.istore_n 3, 1) := dk tk_M_fold 52
theorem d_M_fold_83 : decode b_M_fold 83 = .ok (.iinc 4 1, 3) := dk tk_M_fold 53
theorem d_M_fold_86 : decode b_M_fold 86 = .ok (.goto (-41), 3) := dk tk_M_fold 54
theorem d_M_fold_89 : decode b_M_fold 89 = .ok (.aload_n 0, 1) := dk tk_M_fold 55
theorem d_M_fold_90 : decode b_M_fold 90 = .ok (.aload_n 0, 1) := dk tk_M_fold 56
theorem d_M_fold_91 : decode b_M_fold 91 = .ok (.getfield 22, 3) := dk tk_M_fold 57
theorem d_M_fold_94 : decode b_M_fold 94 = .ok (.invokevirtual 37, 3) := dk tk_M_fold 58
theorem d_M_fold_97 : decode b_M_fold 97 = .ok (.ifCond .ne 11, 3) := dk tk_M_fold 59
theorem d_M_fold_100 : decode b_M_fold 100 = .ok (.aload_n 0, 1) := dk tk_M_fold 60
theorem d_M_fold_101 : decode b_M_fold 101 = .ok (.aload_n 0, 1) := dk tk_M_fold 61
theorem d_M_fold_102 : decode b_M_fold 102 = .ok (.getfield 22, 3) := dk tk_M_fold 62
theorem d_M_fold_105 : decode b_M_fold 105 = .ok (.invokevirtual 41, 3) := dk tk_M_fold 63
theorem d_M_fold_108 : decode b_M_fold 108 = .ok (.iinc 2 (-1), 3) := dk tk_M_fold 64
theorem d_M_fold_111 : decode b_M_fold 111 = .ok (.goto (-86), 3) := dk tk_M_fold 65
theorem d_M_fold_114 : decode b_M_fold 114 = .ok (.iconst 0, 1) := dk tk_M_fold 66
theorem d_M_fold_115 : decode b_M_fold 115 = .ok (.istore_n 2, 1) := dk tk_M_fold 67
theorem d_M_fold_116 : decode b_M_fold 116 = .ok (.iload_n 2, 1) := dk tk_M_fold 68
theorem d_M_fold_117 : decode b_M_fold 117 = .ok (.bipush 33, 2) := dk tk_M_fold 69
theorem d_M_fold_119 : decode b_M_fold 119 = .ok (.if_icmp .ge 18, 3) := dk tk_M_fold 70
theorem d_M_fold_122 : decode b_M_fold 122 = .ok (.aload_n 1, 1) := dk tk_M_fold 71
theorem d_M_fold_123 : decode b_M_fold 123 = .ok (.iload_n 2, 1) := dk tk_M_fold 72
theorem d_M_fold_124 : decode b_M_fold 124 = .ok (.aload_n 0, 1) := dk tk_M_fold 73
theorem d_M_fold_125 : decode b_M_fold 125 = .ok (.getfield 22, 3) := dk tk_M_fold 74
theorem d_M_fold_128 : decode b_M_fold 128 = .ok (.iload_n 2, 1) := dk tk_M_fold 75
theorem d_M_fold_129 : decode b_M_fold 129 = .ok (.iaload, 1) := dk tk_M_fold 76
theorem d_M_fold_130 : decode b_M_fold 130 = .ok (.iastore, 1) := dk tk_M_fold 77
theorem d_M_fold_131 : decode b_M_fold 131 = .ok (.iinc 2 1, 3) := dk tk_M_fold 78
theorem d_M_fold_134 : decode b_M_fold 134 = .ok (.goto (-18), 3) := dk tk_M_fold 79
theorem d_M_fold_137 : decode b_M_fold 137 = .ok (.return_, 1) := dk tk_M_fold 80
end
section
def tb_M_times : List (Nat × Instr × Nat) := [(0, .iconst 0, 1), (1, .istore_n 3, 1), (2, .iload_n 3, 1), (3, .bipush 33, 2), (5, .if_icmp .ge 16, 3), (8, .aload_n 0, 1), (9, .getfield 22, 3), (12, .iload_n 3, 1), (13, .iconst 0, 1), (14, .iastore, 1), (15, .iinc 3 1, 3), (18, .goto (-16), 3), (21, .sipush 511, 3), (24, .istore_n 3, 1), (25, .iload_n 3, 1), (26, .ifCond .lt 169, 3), (29, .iconst 0, 1), (30, .istore 4, 2), (32, .iconst 0, 1), (33, .istore 5, 2), (35, .iload 5, 2), (37, .bipush 33, 2), (39, .if_icmp .ge 42, 3), (42, .iconst 2, 1), (43, .aload_n 0, 1), (44, .getfield 22, 3), (47, .iload 5, 2), (49, .iaload, 1), (50, .imul, 1), (51, .iload 4, 2), (53, .iadd, 1), (54, .istore 6, 2), (56, .aload_n 0, 1), (57, .getfield 22, 3), (60, .iload 5, 2), (62, .iload 6, 2), (64, .ldc 28, 2), (66, .iand, 1), (67, .iastore, 1), (68, .iload 6, 2), (70, .bipush 16, 2), (72, .ishr, 1), (73, .istore 4, 2), (75, .iinc 5 1, 3), (78, .goto (-43), 3), (81, .aload_n 0, 1), (82, .aload_n 0, 1), (83, .getfield 22, 3), (86, .invokevirtual 37, 3), (89, .ifCond .ne 11, 3), (92, .aload_n 0, 1), (93, .aload_n 0, 1), (94, .getfield 22, 3), (97, .invokevirtual 41, 3), (100, .aload_n 2, 1), (101, .iload_n 3, 1), (102, .iconst 4, 1), (103, .ishr, 1), (104, .iaload, 1), (105, .iload_n 3, 1), (106, .bipush 15, 2), (108, .iand, 1), (109, .ishr, 1), (110, .iconst 1, 1), (111, .iand, 1), (112, .ifCond .eq 77, 3), (115, .iconst 0, 1), (116, .istore 4, 2), (118, .iconst 0, 1), (119, .istore 5, 2), (121, .iload 5, 2), (123, .bipush 33, 2), (125, .if_icmp .ge 45, 3), (128, .aload_n 0, 1), (129, .getfield 22, 3), (132, .iload 5, 2), (134, .iaload, 1), (135, .aload_n 1, 1), (136, .iload 5, 2), (138, .iaload, 1), (139, .iadd, 1), (140, .iload 4, 2), (142, .iadd, 1), (143, .istore 6, 2), (145, .aload_n 0, 1), (146, .getfield 22, 3), (149, .iload 5, 2), (151, .iload 6, 2), (153, .ldc 28, 2), (155, .iand, 1), (156, .iastore, 1), (157, .iload 6, 2), (159, .bipush 16, 2), (161, .ishr, 1), (162, .istore 4, 2), (164, .iinc 5 1, 3), (167, .goto (-46), 3), (170, .aload_n 0, 1), (171, .aload_n 0, 1), (172, .getfield 22, 3), (175, .invokevirtual 37, 3), (178, .ifCond .ne 11, 3), (181, .aload_n 0, 1), (182, .aload_n 0, 1), (183, .getfield 22, 3), (186, .invokevirtual 41, 3), (189, .iinc 3 (-1), 3), (192, .goto (-167), 3), (195, .iconst 0, 1), (196, .istore_n 3, 1), (197, .iload_n 3, 1), (198, .bipush 33, 2), (200, .if_icmp .ge 18, 3), (203, .aload_n 1, 1), (204, .iload_n 3, 1), (205, .aload_n 0, 1), (206, .getfield 22, 3), (209, .iload_n 3, 1), (210, .iaload, 1), (211, .iastore, 1), (212, .iinc 3 1, 3), (215, .goto (-18), 3), (218, .return_, 1)]
theorem tk_M_times : tb_M_times.all (fun r => decide (decode b_M_times r.1 = .ok r.2)) = true := by decide +kernel
theorem d_M_times_0 : decode b_M_times 0 = .ok (.iconst 0, 1) := dk tk_M_times 0
theorem d_M_times_1 : decode b_M_times 1 = .ok (.istore_n 3, 1) := dk tk_M_times 1
theorem d_M_times_2 : decode b_M_times 2 = .ok (.iload_n 3, 1) := dk tk_M_times 2
theorem d_M_times_3 : decode b_M_times 3 = .ok (.bipush 33, 2) := dk tk_M_times 3
theorem d_M_times_5 : decode b_M_times 5 = .ok (.if_icmp .ge 16, 3) := dk tk_M_times 4
theorem d_M_times_8 : decode b_M_times 8 = .ok (.aload_n 0, 1) := dk tk_M_times 5
theorem d_M_times_9 : decode b_M_times 9 = .ok (.getfield 22, 3) := dk tk_M_times 6
theorem d_M_times_12 : decode b_M_times 12 = .ok (.iload_n 3, 1) := dk tk_M_times 7
theorem d_M_times_13 : decode b_M_times 13 = .ok (.iconst 0, 1) := dk tk_M_times 8
theorem d_M_times_14 : decode b_M_times 14 = .ok (.iastore, 1) := dk tk_M_times 9
theorem d_M_times_15 : decode b_M_times 15 = .ok (.iinc 3 1, 3) := dk tk_M_times 10
theorem d_M_times_18 : decode b_M_times 18 = .ok (.goto (-16), 3) := dk tk_M_times 11
theorem d_M_times_21 : decode b_M_times 21 = .ok (.sipush 511, 3) := dk tk_M_times 12
theorem d_M_times_24 : decode b_M_times 24 = .ok (.istore_n 3, 1) := dk tk_M_times 13
theorem d_M_times_25 : decode b_M_times 25 = .ok (.iload_n 3, 1) := dk tk_M_times 14
theorem d_M_times_26 : decode b_M_times 26 = .ok (.ifCond .lt 169, 3) := dk tk_M_times 15
theorem d_M_times_29 : decode b_M_times 29 = .ok (.iconst 0, 1) := dk tk_M_times 16
theorem d_M_times_30 : decode b_M_times 30 = .ok (.istore 4, 2) := dk tk_M_times 17
theorem d_M_times_32 : decode b_M_times 32 = .ok (.iconst 0, 1) := dk tk_M_times 18
theorem d_M_times_33 : decode b_M_times 33 = .ok (.istore 5, 2) := dk tk_M_times 19
theorem d_M_times_35 : decode b_M_times 35 = .ok (.iload 5, 2) := dk tk_M_times 20
theorem d_M_times_37 : decode b_M_times 37 = .ok (.bipush 33, 2) := dk tk_M_times 21
theorem d_M_times_39 : decode b_M_times 39 = .ok (.if_icmp .ge 42, 3) := dk tk_M_times 22
theorem d_M_times_42 : decode b_M_times 42 = .ok (.iconst 2, 1) := dk tk_M_times 23
theorem d_M_times_43 : decode b_M_times 43 = .ok (.aload_n 0, 1) := dk tk_M_times 24
theorem d_M_times_44 : decode b_M_times 44 = .ok (.getfield 22, 3) := dk tk_M_times 25
theorem d_M_times_47 : decode b_M_times 47 = .ok (.iload 5, 2) := dk tk_M_times 26
theorem d_M_times_49 : decode b_M_times 49 = .ok (.iaload, 1) := dk tk_M_times 27
theorem d_M_times_50 : decode b_M_times 50 = .ok (.imul, 1) := dk tk_M_times 28
theorem d_M_times_51 : decode b_M_times 51 = .ok (.iload 4, 2) := dk tk_M_times 29
theorem d_M_times_53 : decode b_M_times 53 = .ok (.iadd, 1) := dk tk_M_times 30
theorem d_M_times_54 : decode b_M_times 54 = .ok (.istore 6, 2) := dk tk_M_times 31
theorem d_M_times_56 : decode b_M_times 56 = .ok (.aload_n 0, 1) := dk tk_M_times 32
theorem d_M_times_57 : decode b_M_times 57 = .ok (.getfield 22, 3) := dk tk_M_times 33
theorem d_M_times_60 : decode b_M_times 60 = .ok (.iload 5, 2) := dk tk_M_times 34
theorem d_M_times_62 : decode b_M_times 62 = .ok (.iload 6, 2) := dk tk_M_times 35
theorem d_M_times_64 : decode b_M_times 64 = .ok (.ldc 28, 2) := dk tk_M_times 36
theorem d_M_times_66 : decode b_M_times 66 = .ok (.iand, 1) := dk tk_M_times 37
theorem d_M_times_67 : decode b_M_times 67 = .ok (.iastore, 1) := dk tk_M_times 38
theorem d_M_times_68 : decode b_M_times 68 = .ok (.iload 6, 2) := dk tk_M_times 39
theorem d_M_times_70 : decode b_M_times 70 = .ok (.bipush 16, 2) := dk tk_M_times 40
theorem d_M_times_72 : decode b_M_times 72 = .ok (.ishr, 1) := dk tk_M_times 41
theorem d_M_times_73 : decode b_M_times 73 = .ok (.istore 4, 2) := dk tk_M_times 42
theorem d_M_times_75 : decode b_M_times 75 = .ok (.iinc 5 1, 3) := dk tk_M_times 43
theorem d_M_times_78 : decode b_M_times 78 = .ok (.goto (-43), 3) := dk tk_M_times 44
theorem d_M_times_81 : decode b_M_times 81 = .ok (.aload_n 0, 1) := dk tk_M_times 45
theorem d_M_times_82 : decode b_M_times 82 = .ok (.aload_n 0, 1) := dk tk_M_times 46
theorem d_M_times_83 : decode b_M_times 83 = .ok (.getfield 22, 3) := dk tk_M_times 47
theorem d_M_times_86 : decode b_M_times 86 = .ok (.invokevirtual 37, 3) := dk tk_M_times 48
theorem d_M_times_89 : decode b_M_times 89 = .ok (.ifCond .ne 11, 3) := dk tk_M_times 49
theorem d_M_times_92 : decode b_M_times 92 = .ok (.aload_n 0, 1) := dk tk_M_times 50
theorem d_M_times_93 : decode b_M_times 93 = .ok (.aload_n 0, 1) := dk tk_M_times 51
theorem d_M_times_94 : decode b_M_times 94 = .ok (.getfield 22, 3) := dk tk_M_times 52
theorem d_M_times_97 : decode b_M_times 97 = .ok (.invokevirtual 41, 3) := dk tk_M_times 53
theorem d_M_times_100 : decode b_M_times 100 = .ok (.aload_n 2, 1) := dk tk_M_times 54
theorem d_M_times_101 : decode b_M_times 101 = .ok (.iload_n 3, 1) := dk tk_M_times 55
theorem d_M_times_102 : decode b_M_times 102 = .ok (.iconst 4, 1) := dk tk_M_times 56
theorem d_M_times_103 : decode b_M_times 103 = .ok (.ishr, 1) := dk tk_M_times 57
theorem d_M_times_104 : decode b_M_times 104 = .ok (.iaload, 1) := dk tk_M_times 58
theorem d_M_times_105 : decode b_M_times 105 = .ok (.iload_n 3, 1) := dk tk_M_times 59
theorem d_M_times_106 : decode b_M_times 106 = .ok (.bipush 15, 2) := dk tk_M_times 60
theorem d_M_times_108 : decode b_M_times 108 = .ok (.iand, 1) := dk tk_M_times 61
theorem d_M_times_109 : decode b_M_times 109 = .ok (.ishr, 1) := dk tk_M_times 62
theorem d_M_times_110 : decode b_M_times 110 = .ok (.iconst 1, 1) := dk tk_M_times 63
theorem d_M_times_111 : decode b_M_times 111 = .ok (.iand, 1) := dk tk_M_times 64
theorem d_M_times_112 : decode b_M_times 112 = .ok (.ifCond .eq 77, 3) := dk tk_M_times 65
theorem d_M_times_115 : decode b_M_times 115 = .ok (.iconst 0, 1) := dk tk_M_times 66
theorem d_M_times_116 : decode b_M_times 116 = .ok (.istore 4, 2) := dk tk_M_times 67
theorem d_M_times_118 : decode b_M_times 118 = .ok (.iconst 0, 1) := dk tk_M_times 68
theorem d_M_times_119 : decode b_M_times 119 = .ok (.istore 5, 2) := dk tk_M_times 69
theorem d_M_times_121 : decode b_M_times 121 = .ok (.iload 5, 2) := dk tk_M_times 70
theorem d_M_times_123 : decode b_M_times 123 = .ok (.bipush 33, 2) := dk tk_M_times 71
theorem d_M_times_125 : decode b_M_times 125 = .ok (.if_icmp .ge 45, 3) := dk tk_M_times 72
theorem d_M_times_128 : decode b_M_times 128 = .ok (.aload_n 0, 1) := dk tk_M_times 73
theorem d_M_times_129 : decode b_M_times 129 = .ok (.getfield 22, 3) := dk tk_M_times 74
theorem d_M_times_132 : decode b_M_times 132 = .ok (.iload 5, 2) := dk tk_M_times 75
theorem d_M_times_134 : decode b_M_times 134 = .ok (.iaload, 1) := dk tk_M_times 76
theorem d_M_times_135 : decode b_M_times 135 = .ok (.aload_n 1, 1) := dk tk_M_times 77
theorem d_M_times_136 : decode b_M_times 136 = .ok (.iload 5, 2) := dk tk_M_times 78
theorem d_M_times_138 : decode b_M_times 138 = .ok (.iaload, 1) := dk tk_M_times 79
theorem d_M_times_139 : decode b_M_times 139 = .ok (.iadd, 1) := dk tk_M_times 80
theorem d_M_times_140 : decode b_M_times 140 = .ok (.iload 4, 2) := dk tk_M_times 81
theorem d_M_times_142 : decode b_M_times 142 = .ok (.iadd, 1) := dk tk_M_times 82
theorem d_M_times_143 : decode b_M_times 143 = .ok (.istore 6, 2) := dk tk_M_times 83
theorem d_M_times_145 : decode b_M_times 145 = .ok (.aload_n 0, 1) := dk tk_M_times 84
theorem d_M_times_146 : decode b_M_times 146 = .ok (.getfield 22, 3) := dk tk_M_times 85
theorem d_M_times_149 : decode b_M_times 149 = .ok (.iload 5, 2) := dk tk_M_times 86
theorem d_M_times_151 : decode b_M_times 151 = .ok (.iload 6, 2) := dk tk_M_times 87
theorem d_M_times_153 : decode b_M_times 153 = .ok (.ldc 28, 2) := dk tk_M_times 88
theorem d_M_times_155 : decode b_M_times 155 = .ok (.iand, 1) := dk tk_M_times 89
theorem d_M_times_156 : decode b_M_times 156 = .ok (.iastore, 1) := dk tk_M_times 90
theorem d_M_times_157 : decode b_M_times 157 = .ok (.iload 6, 2) := dk tk_M_times 91
theorem d_M_times_159 : decode b_M_times 159 = .ok (.bipush 16, 2) := dk tk_M_times 92
theorem d_M_times_161 : decode b_M_times 161 = .ok (.ishr, 1) := dk tk_M_times 93
theorem d_M_times_162 : decode b_M_times 162 = .ok (.istore 4, 2) := dk tk_M_times 94
theorem d_M_times_164 : decode b_M_times 164 = .ok (.iinc 5 1, 3) := dk tk_M_times 95
theorem d_M_times_167 : decode b_M_times 167 = .ok (.goto (-46), 3) := dk tk_M_times 96
theorem d_M_times_170 : decode b_M_times 170 = .ok (.aload_n 0, 1) := dk tk_M_times 97
theorem d_M_times_171 : decode b_M_times 171 = .ok (.aload_n 0, 1) := dk tk_M_times 98
theorem d_M_times_172 : decode b_M_times 172 = .ok (.getfield 22, 3) := dk tk_M_times 99
theorem d_M_times_175 : decode b_M_times 175 = .ok (.invokevirtual 37, 3) := dk tk_M_times 100
theorem d_M_times_178 : decode b_M_times 178 = .ok (.ifCond .ne 11, 3) := dk tk_M_times 101
theorem d_M_times_181 : decode b_M_times 181 = .ok (.aload_n 0, 1) := dk tk_M_times 102
theorem d_M_times_182 : decode b_M_times 182 = .ok (.aload_n 0, 1) := dk tk_M_times 103
theorem d_M_times_183 : decode b_M_times 183 = .ok (.getfield 22, 3) := dk tk_M_times 104
theorem d_M_times_186 : decode b_M_times 186 = .ok (.invokevirtual 41, 3) := dk tk_M_times 105
theorem d_M_times_189 : decode b_M_times 189 = .ok (.iinc 3 (-1), 3) := dk tk_M_times 106
theorem d_M_times_192 : decode b_M_times 192 = .ok (.goto (-167), 3) := dk tk_M_times 107
theorem d_M_times_195 : decode b_M_times 195 = .ok (.iconst 0, 1) := dk tk_M_times 108
theorem d_M_times_196 : decode b_M_times 196 = .ok (.istore_n 3, 1) := dk tk_M_times 109
theorem d_M_times_197 : decode b_M_times 197 = .ok (.iload_n 3, 1) := dk tk_M_times 110
theorem d_M_times_198 : decode b_M_times 198 = .ok (.bipush 33, 2) := dk tk_M_times 111
theorem d_M_times_200 : decode b_M_times 200 = .ok (.if_icmp .ge 18, 3) := dk tk_M_times 112
theorem d_M_times_203 : decode b_M_times 203 = .ok (.aload_n 1, 1) := dk tk_M_times 113
theorem d_M_times_204 : decode b_M_times 204 = .ok (.iload_n 3, 1) := dk tk_M_times 114
theorem d_M_times_205 : decode b_M_times 205 = .ok (.aload_n 0, 1) := dk tk_M_times 115
theorem d_M_times_206 : decode b_M_times 206 = .ok (.getfield 22, 3) := dk tk_M_times 116
theorem d_M_times_209 : decode b_M_times 209 = .ok (.iload_n 3, 1) := dk tk_M_times 117
theorem d_M_times_210 : decode b_M_times 210 = .ok (.iaload, 1) := dk tk_M_times 118
theorem d_M_times_211 : decode b_M_times 211 = .ok (.iastore, 1) := dk tk_M_times 119
theorem d_M_times_212 : decode b_M_times 212 = .ok (.iinc 3 1, 3) := dk tk_M_times 120
theorem d_M_times_215 : decode b_M_times 215 = .ok (.goto (-18), 3) := dk tk_M_times 121
theorem d_M_times_218 : decode b_M_times 218 = .ok (.return_, 1) := dk tk_M_times 122
def tb_M_raise : List (Nat × Instr × Nat) := [(0, .iconst 0, 1), (1, .istore_n 1, 1), (2, .iload_n 1, 1), (3, .bipush 33, 2), (5, .if_icmp .ge 16, 3), (8, .aload_n 0, 1), (9, .getfield 25, 3), (12, .iload_n 1, 1), (13, .iconst 0, 1), (14, .iastore, 1), (15, .iinc 1 1, 3), (18, .goto (-16), 3), (21, .aload_n 0, 1), (22, .getfield 25, 3), (25, .iconst 0, 1), (26, .iconst 1, 1), (27, .iastore, 1), (28, .sipush 511, 3), (31, .istore_n 1, 1), (32, .iload_n 1, 1), (33, .ifCond .lt 28, 3), (36, .aload_n 0, 1), (37, .getfield 16, 3), (40, .iload_n 1, 1), (41, .iconst 4, 1), (42, .ishr, 1), (43, .iaload, 1), (44, .iload_n 1, 1), (45, .bipush 15, 2), (47, .iand, 1), (48, .ishr, 1), (49, .iconst 1, 1), (50, .iand, 1), (51, .ifCond .ne 10, 3), (54, .iload_n 1, 1), (55, .iconst 1, 1), (56, .isub, 1), (57, .istore_n 1, 1), (58, .goto (-26), 3), (61, .iload_n 1, 1), (62, .ifCond .lt 51, 3), (65, .aload_n 0, 1), (66, .aload_n 0, 1), (67, .getfield 25, 3), (70, .aload_n 0, 1), (71, .getfield 25, 3), (74, .invokevirtual 44, 3), (77, .aload_n 0, 1), (78, .getfield 16, 3), (81, .iload_n 1, 1), (82, .iconst 4, 1), (83, .ishr, 1), (84, .iaload, 1), (85, .iload_n 1, 1), (86, .bipush 15, 2), (88, .iand, 1), (89, .ishr, 1), (90, .iconst 1, 1), (91, .iand, 1), (92, .ifCond .eq 15, 3), (95, .aload_n 0, 1), (96, .aload_n 0, 1), (97, .getfield 25, 3), (100, .aload_n 0, 1), (101, .getfield 13, 3), (104, .invokevirtual 44, 3), (107, .iinc 1 (-1), 3), (110, .goto (-49), 3), (113, .iconst 0, 1), (114, .istore_n 2, 1), (115, .iload_n 2, 1), (116, .bipush 33, 2), (118, .if_icmp .ge 21, 3), (121, .aload_n 0, 1), (122, .getfield 19, 3), (125, .iload_n 2, 1), (126, .aload_n 0, 1), (127, .getfield 25, 3), (130, .iload_n 2, 1), (131, .iaload, 1), (132, .iastore, 1), (133, .iinc 2 1, 3), (136, .goto (-21), 3), (139, .return_, 1)]
theorem tk_M_raise : tb_M_raise.all (fun r => decide (decode b_M_raise r.1 = .ok r.2)) = true := by decide +kernel
theorem d_M_raise_0 : decode b_M_raise 0 = .ok (.iconst 0, 1) := dk tk_M_raise 0
theorem d_M_raise_1 : decode b_M_raise 1 = .ok (.istore_n 1, 1) := dk tk_M_raise 1
theorem d_M_raise_2 : decode b_M_raise 2 = .ok (.iload_n 1, 1) := dk tk_M_raise 2
theorem d_M_raise_3 : decode b_M_raise 3 = .ok (.bipush 33, 2) := dk tk_M_raise 3
theorem d_M_raise_5 : decode b_M_raise 5 = .ok (.if_icmp .ge 16, 3) := dk tk_M_raise 4
theorem d_M_raise_8 : decode b_M_raise 8 = .ok (.aload_n 0, 1) := dk tk_M_raise 5
theorem d_M_raise_9 : decode b_M_raise 9 = .ok (.getfield 25, 3) := dk tk_M_raise 6
theorem d_M_raise_12 : decode b_M_raise 12 = .ok (.iload_n 1, 1) := dk tk_M_raise 7
theorem d_M_raise_13 : decode b_M_raise 13 = .ok (.iconst 0, 1) := dk tk_M_raise 8
theorem d_M_raise_14 : decode b_M_raise 14 = .ok (.iastore, 1) := dk tk_M_raise 9
theorem d_M_raise_15 : decode b_M_raise 15 = .ok (.iinc 1 1, 3) := dk tk_M_raise 10
theorem d_M_raise_18 : decode b_M_raise 18 = .ok (.goto (-16), 3) := dk tk_M_raise 11
theorem d_M_raise_21 : decode b_M_raise 21 = .ok (.aload_n 0, 1) := dk tk_M_raise 12
theorem d_M_raise_22 : decode b_M_raise 22 = .ok (.getfield 25, 3) := dk tk_M_raise 13
theorem d_M_raise_25 : decode b_M_raise 25 = .ok (.iconst 0, 1) := dk tk_M_raise 14
theorem d_M_raise_26 : decode b_M_raise 26 = .ok (.iconst 1, 1) := dk tk_M_raise 15
theorem d_M_raise_27 : decode b_M_raise 27 = .ok (.iastore, 1) := dk tk_M_raise 16
theorem d_M_raise_28 : decode b_M_raise 28 = .ok (.sipush 511, 3) := dk tk_M_raise 17
theorem d_M_raise_31 : decode b_M_raise 31 = .ok (.istore_n 1, 1) := dk tk_M_raise 18
theorem d_M_raise_32 : decode b_M_raise 32 = .ok (.iload_n 1, 1) := dk tk_M_raise 19
theorem d_M_raise_33 : decode b_M_raise 33 = .ok (.ifCond .lt 28, 3) := dk tk_M_raise 20
theorem d_M_raise_36 : decode b_M_raise 36 = .ok (.aload_n 0, 1) := dk tk_M_raise 21
theorem d_M_raise_37 : decode b_M_raise 37 = .ok (.getfield 16, 3) := dk tk_M_raise 22
theorem d_M_raise_40 : decode b_M_raise 40 = .ok (.iload_n 1, 1) := dk tk_M_raise 23
theorem d_M_raise_41 : decode b_M_raise 41 = .ok (.iconst 4, 1) := dk tk_M_raise 24
theorem d_M_raise_42 : decode b_M_raise 42 = .ok (.ishr, 1) := dk tk_M_raise 25
theorem d_M_raise_43 : decode b_M_raise 43 = .ok (.iaload, 1) := dk tk_M_raise 26
theorem d_M_raise_44 : decode b_M_raise 44 = .ok (.iload_n 1, 1) := dk tk_M_raise 27
theorem d_M_raise_45 : decode b_M_raise 45 = .ok (.bipush 15, 2) := dk tk_M_raise 28
theorem d_M_raise_47 : decode b_M_raise 47 = .ok (.iand, 1) := dk tk_M_raise 29
theorem d_M_raise_48 : decode b_M_raise 48 = .ok (.ishr, 1) := dk tk_M_raise 30
theorem d_M_raise_49 : decode b_M_raise 49 = .ok (.iconst 1, 1) := dk tk_M_raise 31
theorem d_M_raise_50 : decode b_M_raise 50 = .ok (.iand, 1) := dk tk_M_raise 32
theorem d_M_raise_51 : decode b_M_raise 51 = .ok (.ifCond .ne 10, 3) := dk tk_M_raise 33
theorem d_M_raise_54 : decode b_M_raise 54 = .ok (.iload_n 1, 1) := dk tk_M_raise 34
theorem d_M_raise_55 : decode b_M_raise 55 = .ok (.iconst 1, 1) := dk tk_M_raise 35
theorem d_M_raise_56 : decode b_M_raise 56 = .ok (.isub, 1) := dk tk_M_raise 36
theorem d_M_raise_57 : decode b_M_raise 57 = .ok (.istore_n 1, 1) := dk tk_M_raise 37
theorem d_M_raise_58 : decode b_M_raise 58 = .ok (.goto (-26), 3) := dk tk_M_raise 38
theorem d_M_raise_61 : decode b_M_raise 61 = .ok (.iload_n 1, 1) := dk tk_M_raise 39
theorem d_M_raise_62 : decode b_M_raise 62 = .ok (.ifCond .lt 51, 3) := dk tk_M_raise 40
theorem d_M_raise_65 : decode b_M_raise 65 = .ok (.aload_n 0, 1) := dk tk_M_raise 41
theorem d_M_raise_66 : decode b_M_raise 66 = .ok (.aload_n 0, 1) := dk tk_M_raise 42
theorem d_M_raise_67 : decode b_M_raise 67 = .ok (.getfield 25, 3) := dk tk_M_raise 43
theorem d_M_raise_70 : decode b_M_raise 70 = .ok (.aload_n 0, 1) := dk tk_M_raise 44
theorem d_M_raise_71 : decode b_M_raise 71 = .ok (.getfield 25, 3) := dk tk_M_raise 45
theorem d_M_raise_74 : decode b_M_raise 74 = .ok (.invokevirtual 44, 3) := dk tk_M_raise 46
theorem d_M_raise_77 : decode b_M_raise 77 = .ok (.aload_n 0, 1) := dk tk_M_raise 47
theorem d_M_raise_78 : decode b_M_raise 78 = .ok (.getfield 16, 3) := dk tk_M_raise 48
theorem d_M_raise_81 : decode b_M_raise 81 = .ok (.iload_n 1, 1) := dk tk_M_raise 49
theorem d_M_raise_82 : decode b_M_raise 82 = .ok (.iconst 4, 1) := dk tk_M_raise 50
theorem d_M_raise_83 : decode b_M_raise 83 = .ok (.ishr, 1) := dk tk_M_raise 51
theorem d_M_raise_84 : decode b_M_raise 84 = .ok (.iaload, 1) := dk tk_M_raise 52
theorem d_M_raise_85 : decode b_M_raise 85 = .ok (.iload_n 1, 1) := dk tk_M_raise 53
theorem d_M_raise_86 : decode b_M_raise 86 = .ok (.bipush 15, 2) := dk tk_M_raise 54
theorem d_M_raise_88 : decode b_M_raise 88 = .ok (.iand, 1) := dk tk_M_raise 55
theorem d_M_raise_89 : decode b_M_raise 89 = .ok (.ishr, 1) := dk tk_M_raise 56
theorem d_M_raise_90 : decode b_M_raise 90 = .ok (.iconst 1, 1) := dk tk_M_raise 57
theorem d_M_raise_91 : decode b_M_raise 91 = .ok (.iand, 1) := dk tk_M_raise 58
theorem d_M_raise_92 : decode b_M_raise 92 = .ok (.ifCond .eq 15, 3) := dk tk_M_raise 59
theorem d_M_raise_95 : decode b_M_raise 95 = .ok (.aload_n 0, 1) := dk tk_M_raise 60
theorem d_M_raise_96 : decode b_M_raise 96 = .ok (.aload_n 0, 1) := dk tk_M_raise 61
theorem d_M_raise_97 : decode b_M_raise 97 = .ok (.getfield 25, 3) := dk tk_M_raise 62
theorem d_M_raise_100 : decode b_M_raise 100 = .ok (.aload_n 0, 1) := dk tk_M_raise 63
theorem d_M_raise_101 : decode b_M_raise 101 = .ok (.getfield 13, 3) := dk tk_M_raise 64
theorem d_M_raise_104 : decode b_M_raise 104 = .ok (.invokevirtual 44, 3) := dk tk_M_raise 65
theorem d_M_raise_107 : decode b_M_raise 107 = .ok (.iinc 1 (-1), 3) := dk tk_M_raise 66
theorem d_M_raise_110 : decode b_M_raise 110 = .ok (.goto (-49), 3) := dk tk_M_raise 67
theorem d_M_raise_113 : decode b_M_raise 113 = .ok (.iconst 0, 1) := dk tk_M_raise 68
theorem d_M_raise_114 : decode b_M_raise 114 = .ok (.istore_n 2, 1) := dk tk_M_raise 69
theorem d_M_raise_115 : decode b_M_raise 115 = .ok (.iload_n 2, 1) := dk tk_M_raise 70
theorem d_M_raise_116 : decode b_M_raise 116 = .ok (.bipush 33, 2) := dk tk_M_raise 71
theorem d_M_raise_118 : decode b_M_raise 118 = .ok (.if_icmp .ge 21, 3) := dk tk_M_raise 72
theorem d_M_raise_121 : decode b_M_raise 121 = .ok (.aload_n 0, 1) := dk tk_M_raise 73
theorem d_M_raise_122 : decode b_M_raise 122 = .ok (.getfield 19, 3) := dk tk_M_raise 74
theorem d_M_raise_125 : decode b_M_raise 125 = .ok (.iload_n 2, 1) := dk tk_M_raise 75
theorem d_M_raise_126 : decode b_M_raise 126 = .ok (.aload_n 0, 1) := dk tk_M_raise 76
theorem d_M_raise_127 : decode b_M_raise 127 = .ok (.getfield 25, 3) := dk tk_M_raise 77
theorem d_M_raise_130 : decode b_M_raise 130 = .ok (.iload_n 2, 1) := dk tk_M_raise 78
theorem d_M_raise_131 : decode b_M_raise 131 = .ok (.iaload, 1) := dk tk_M_raise 79
theorem d_M_raise_132 : decode b_M_raise 132 = .ok (.iastore, 1) := dk tk_M_raise 80
theorem d_M_raise_133 : decode b_M_raise 133 = .ok (.iinc 2 1, 3) := dk tk_M_raise 81
theorem d_M_raise_136 : decode b_M_raise 136 = .ok (.goto (-21), 3) := dk tk_M_raise 82
theorem d_M_raise_139 : decode b_M_raise 139 = .ok (.return_, 1) := dk tk_M_raise 83
def tb_M_multiply : List (Nat × Instr × Nat) := [(0, .aload_n 0, 1), (1, .aload_n 0, 1), (2, .getfield 19, 3), (5, .aload_n 0, 1), (6, .getfield 13, 3), (9, .invokevirtual 44, 3), (12, .return_, 1)]
theorem tk_M_multiply : tb_M_multiply.all (fun r => decide (decode b_M_multiply r.1 = .ok r.2)) = true := by decide +kernel
theorem d_M_multiply_0 : decode b_M_multiply 0 = .ok (.aload_n 0, 1) := dk tk_M_multiply 0
theorem d_M_multiply_1 : decode b_M_multiply 1 = .ok (.aload_n 0, 1) := dk tk_M_multiply 1
theorem d_M_multiply_2 : decode b_M_multiply 2 = .ok (.getfield 19, 3) := dk tk_M_multiply 2
theorem d_M_multiply_5 : decode b_M_multiply 5 = .ok (.aload_n 0, 1) := dk tk_M_multiply 3
theorem d_M_multiply_6 : decode b_M_multiply 6 = .ok (.getfield 13, 3) := dk tk_M_multiply 4
theorem d_M_multiply_9 : decode b_M_multiply 9 = .ok (.invokevirtual 44, 3) := dk tk_M_multiply 5
theorem d_M_multiply_12 : decode b_M_multiply 12 = .ok (.return_, 1) := dk tk_M_multiply 6
def tb_M_keep : List (Nat × Instr × Nat) := [(0, .iconst 0, 1), (1, .istore_n 1, 1), (2, .iload_n 1, 1), (3, .bipush 33, 2), (5, .if_icmp .ge 21, 3), (8, .aload_n 0, 1), (9, .getfield 13, 3), (12, .iload_n 1, 1), (13, .aload_n 0, 1), (14, .getfield 19, 3), (17, .iload_n 1, 1), (18, .iaload, 1), (19, .iastore, 1), (20, .iinc 1 1, 3), (23, .goto (-21), 3), (26, .return_, 1)]
theorem tk_M_keep : tb_M_keep.all (fun r => decide (decode b_M_keep r.1 = .ok r.2)) = true := by decide +kernel
theorem d_M_keep_0 : decode b_M_keep 0 = .ok (.iconst 0, 1) := dk tk_M_keep 0
theorem d_M_keep_1 : decode b_M_keep 1 = .ok (.istore_n 1, 1) := dk tk_M_keep 1
theorem d_M_keep_2 : decode b_M_keep 2 = .ok (.iload_n 1, 1) := dk tk_M_keep 2
theorem d_M_keep_3 : decode b_M_keep 3 = .ok (.bipush 33, 2) := dk tk_M_keep 3
theorem d_M_keep_5 : decode b_M_keep 5 = .ok (.if_icmp .ge 21, 3) := dk tk_M_keep 4
theorem d_M_keep_8 : decode b_M_keep 8 = .ok (.aload_n 0, 1) := dk tk_M_keep 5
theorem d_M_keep_9 : decode b_M_keep 9 = .ok (.getfield 13, 3) := dk tk_M_keep 6
theorem d_M_keep_12 : decode b_M_keep 12 = .ok (.iload_n 1, 1) := dk tk_M_keep 7
theorem d_M_keep_13 : decode b_M_keep 13 = .ok (.aload_n 0, 1) := dk tk_M_keep 8
theorem d_M_keep_14 : decode b_M_keep 14 = .ok (.getfield 19, 3) := dk tk_M_keep 9
theorem d_M_keep_17 : decode b_M_keep 17 = .ok (.iload_n 1, 1) := dk tk_M_keep 10
theorem d_M_keep_18 : decode b_M_keep 18 = .ok (.iaload, 1) := dk tk_M_keep 11
theorem d_M_keep_19 : decode b_M_keep 19 = .ok (.iastore, 1) := dk tk_M_keep 12
theorem d_M_keep_20 : decode b_M_keep 20 = .ok (.iinc 1 1, 3) := dk tk_M_keep 13
theorem d_M_keep_23 : decode b_M_keep 23 = .ok (.goto (-21), 3) := dk tk_M_keep 14
theorem d_M_keep_26 : decode b_M_keep 26 = .ok (.return_, 1) := dk tk_M_keep 15
def tb_M_answer : List (Nat × Instr × Nat) := [(0, .iconst 2, 1), (1, .iload_n 1, 1), (2, .bipush 15, 2), (4, .iand, 1), (5, .imul, 1), (6, .istore_n 2, 1), (7, .aload_n 0, 1), (8, .getfield 19, 3), (11, .iload_n 2, 1), (12, .iaload, 1), (13, .aload_n 0, 1), (14, .getfield 19, 3), (17, .iload_n 2, 1), (18, .iconst 1, 1), (19, .iadd, 1), (20, .iaload, 1), (21, .bipush 16, 2), (23, .ishl, 1), (24, .ior, 1), (25, .ireturn, 1)]
theorem tk_M_answer : tb_M_answer.all (fun r => decide (decode b_M_answer r.1 = .ok r.2)) = true := by decide +kernel
theorem d_M_answer_0 : decode b_M_answer 0 = .ok (.iconst 2, 1) := dk tk_M_answer 0
theorem d_M_answer_1 : decode b_M_answer 1 = .ok (.iload_n 1, 1) := dk tk_M_answer 1
theorem d_M_answer_2 : decode b_M_answer 2 = .ok (.bipush 15, 2) := dk tk_M_answer 2
theorem d_M_answer_4 : decode b_M_answer 4 = .ok (.iand, 1) := dk tk_M_answer 3
theorem d_M_answer_5 : decode b_M_answer 5 = .ok (.imul, 1) := dk tk_M_answer 4
theorem d_M_answer_6 : decode b_M_answer 6 = .ok (.istore_n 2, 1) := dk tk_M_answer 5
theorem d_M_answer_7 : decode b_M_answer 7 = .ok (.aload_n 0, 1) := dk tk_M_answer 6
theorem d_M_answer_8 : decode b_M_answer 8 = .ok (.getfield 19, 3) := dk tk_M_answer 7
theorem d_M_answer_11 : decode b_M_answer 11 = .ok (.iload_n 2, 1) := dk tk_M_answer 8
theorem d_M_answer_12 : decode b_M_answer 12 = .ok (.iaload, 1) := dk tk_M_answer 9
theorem d_M_answer_13 : decode b_M_answer 13 = .ok (.aload_n 0, 1) := dk tk_M_answer 10
theorem d_M_answer_14 : decode b_M_answer 14 = .ok (.getfield 19, 3) := dk tk_M_answer 11
theorem d_M_answer_17 : decode b_M_answer 17 = .ok (.iload_n 2, 1) := dk tk_M_answer 12
theorem d_M_answer_18 : decode b_M_answer 18 = .ok (.iconst 1, 1) := dk tk_M_answer 13
theorem d_M_answer_19 : decode b_M_answer 19 = .ok (.iadd, 1) := dk tk_M_answer 14
theorem d_M_answer_20 : decode b_M_answer 20 = .ok (.iaload, 1) := dk tk_M_answer 15
theorem d_M_answer_21 : decode b_M_answer 21 = .ok (.bipush 16, 2) := dk tk_M_answer 16
theorem d_M_answer_23 : decode b_M_answer 23 = .ok (.ishl, 1) := dk tk_M_answer 17
theorem d_M_answer_24 : decode b_M_answer 24 = .ok (.ior, 1) := dk tk_M_answer 18
theorem d_M_answer_25 : decode b_M_answer 25 = .ok (.ireturn, 1) := dk tk_M_answer 19
def tb_M_factor : List (Nat × Instr × Nat) := [(0, .iconst 2, 1), (1, .iload_n 1, 1), (2, .bipush 15, 2), (4, .iand, 1), (5, .imul, 1), (6, .istore_n 2, 1), (7, .aload_n 0, 1), (8, .getfield 13, 3), (11, .iload_n 2, 1), (12, .iaload, 1), (13, .aload_n 0, 1), (14, .getfield 13, 3), (17, .iload_n 2, 1), (18, .iconst 1, 1), (19, .iadd, 1), (20, .iaload, 1), (21, .bipush 16, 2), (23, .ishl, 1), (24, .ior, 1), (25, .ireturn, 1)]
theorem tk_M_factor : tb_M_factor.all (fun r => decide (decode b_M_factor r.1 = .ok r.2)) = true := by decide +kernel
theorem d_M_factor_0 : decode b_M_factor 0 = .ok (.iconst 2, 1) := dk tk_M_factor 0
theorem d_M_factor_1 : decode b_M_factor 1 = .ok (.iload_n 1, 1) := dk tk_M_factor 1
theorem d_M_factor_2 : decode b_M_factor 2 = .ok (.bipush 15, 2) := dk tk_M_factor 2
theorem d_M_factor_4 : decode b_M_factor 4 = .ok (.iand, 1) := dk tk_M_factor 3
theorem d_M_factor_5 : decode b_M_factor 5 = .ok (.imul, 1) := dk tk_M_factor 4
theorem d_M_factor_6 : decode b_M_factor 6 = .ok (.istore_n 2, 1) := dk tk_M_factor 5
theorem d_M_factor_7 : decode b_M_factor 7 = .ok (.aload_n 0, 1) := dk tk_M_factor 6
theorem d_M_factor_8 : decode b_M_factor 8 = .ok (.getfield 13, 3) := dk tk_M_factor 7
theorem d_M_factor_11 : decode b_M_factor 11 = .ok (.iload_n 2, 1) := dk tk_M_factor 8
theorem d_M_factor_12 : decode b_M_factor 12 = .ok (.iaload, 1) := dk tk_M_factor 9
theorem d_M_factor_13 : decode b_M_factor 13 = .ok (.aload_n 0, 1) := dk tk_M_factor 10
theorem d_M_factor_14 : decode b_M_factor 14 = .ok (.getfield 13, 3) := dk tk_M_factor 11
theorem d_M_factor_17 : decode b_M_factor 17 = .ok (.iload_n 2, 1) := dk tk_M_factor 12
theorem d_M_factor_18 : decode b_M_factor 18 = .ok (.iconst 1, 1) := dk tk_M_factor 13
theorem d_M_factor_19 : decode b_M_factor 19 = .ok (.iadd, 1) := dk tk_M_factor 14
theorem d_M_factor_20 : decode b_M_factor 20 = .ok (.iaload, 1) := dk tk_M_factor 15
theorem d_M_factor_21 : decode b_M_factor 21 = .ok (.bipush 16, 2) := dk tk_M_factor 16
theorem d_M_factor_23 : decode b_M_factor 23 = .ok (.ishl, 1) := dk tk_M_factor 17
theorem d_M_factor_24 : decode b_M_factor 24 = .ok (.ior, 1) := dk tk_M_factor 18
theorem d_M_factor_25 : decode b_M_factor 25 = .ok (.ireturn, 1) := dk tk_M_factor 19
def tb_L_law : List (Nat × Instr × Nat) := [(0, .new 7, 3), (3, .dup, 1), (4, .invokespecial 9, 3), (7, .astore_n 1, 1), (8, .new 10, 3), (11, .dup, 1), (12, .invokespecial 12, 3), (15, .astore_n 2, 1), (16, .iconst 0, 1), (17, .istore_n 3, 1), (18, .iload_n 3, 1), (19, .aload_n 0, 1), (20, .arraylength, 1), (21, .bipush 6, 2), (23, .isub, 1), (24, .if_icmp .gt 324, 3), (27, .aload_n 0, 1), (28, .iload_n 3, 1), (29, .iaload, 1), (30, .bipush 7, 2), (32, .iand, 1), (33, .tableswitch 309 0 7 #[47, 108, 169, 230, 241, 252, 263, 286], 47), (80, .aload_n 1, 1), (81, .aload_n 0, 1), (82, .iload_n 3, 1), (83, .iconst 1, 1), (84, .iadd, 1), (85, .iaload, 1), (86, .aload_n 0, 1), (87, .iload_n 3, 1), (88, .iconst 2, 1), (89, .iadd, 1), (90, .iaload, 1), (91, .aload_n 0, 1), (92, .iload_n 3, 1), (93, .iconst 3, 1), (94, .iadd, 1), (95, .iaload, 1), (96, .aload_n 0, 1), (97, .iload_n 3, 1), (98, .iconst 4, 1), (99, .iadd, 1), (100, .iaload, 1), (101, .aload_n 0, 1), (102, .iload_n 3, 1), (103, .iconst 5, 1), (104, .iadd, 1), (105, .iaload, 1), (106, .invokevirtual 13, 3), (109, .aload_n 2, 1), (110, .aload_n 0, 1), (111, .iload_n 3, 1), (112, .iconst 1, 1), (113, .iadd, 1), (114, .iaload, 1), (115, .aload_n 0, 1), (116, .iload_n 3, 1), (117, .iconst 2, 1), (118, .iadd, 1), (119, .iaload, 1), (120, .aload_n 0, 1), (121, .iload_n 3, 1), (122, .iconst 3, 1), (123, .iadd, 1), (124, .iaload, 1), (125, .aload_n 0, 1), (126, .iload_n 3, 1), (127, .iconst 4, 1), (128, .iadd, 1), (129, .iaload, 1), (130, .aload_n 0, 1), (131, .iload_n 3, 1), (132, .iconst 5, 1), (133, .iadd, 1), (134, .iaload, 1), (135, .invokevirtual 17, 3), (138, .goto 204, 3), (141, .aload_n 1, 1), (142, .aload_n 0, 1), (143, .iload_n 3, 1), (144, .iconst 1, 1), (145, .iadd, 1), (146, .iaload, 1), (147, .aload_n 0, 1), (148, .iload_n 3, 1), (149, .iconst 2, 1), (150, .iadd, 1), (151, .iaload, 1), (152, .aload_n 0, 1), (153, .iload_n 3, 1), (154, .iconst 3, 1), (155, .iadd, 1), (156, .iaload, 1), (157, .aload_n 0, 1), (158, .iload_n 3, 1), (159, .iconst 4, 1), (160, .iadd, 1), (161, .iaload, 1), (162, .aload_n 0, 1), (163, .iload_n 3, 1), (164, .iconst 5, 1), (165, .iadd, 1), (166, .iaload, 1), (167, .invokevirtual 18, 3), (170, .aload_n 2, 1), (171, .aload_n 0, 1), (172, .iload_n 3, 1), (173, .iconst 1, 1), (174, .iadd, 1), (175, .iaload, 1), (176, .aload_n 0, 1), (177, .iload_n 3, 1), (178, .iconst 2, 1), (179, .iadd, 1), (180, .iaload, 1), (181, .aload_n 0, 1), (182, .iload_n 3, 1), (183, .iconst 3, 1), (184, .iadd, 1), (185, .iaload, 1), (186, .aload_n 0, 1), (187, .iload_n 3, 1), (188, .iconst 4, 1), (189, .iadd, 1), (190, .iaload, 1), (191, .aload_n 0, 1), (192, .iload_n 3, 1), (193, .iconst 5, 1), (194, .iadd, 1), (195, .iaload, 1), (196, .invokevirtual 21, 3), (199, .goto 143, 3), (202, .aload_n 1, 1), (203, .aload_n 0, 1), (204, .iload_n 3, 1), (205, .iconst 1, 1), (206, .iadd, 1), (207, .iaload, 1), (208, .aload_n 0, 1), (209, .iload_n 3, 1), (210, .iconst 2, 1), (211, .iadd, 1), (212, .iaload, 1), (213, .aload_n 0, 1), (214, .iload_n 3, 1), (215, .iconst 3, 1), (216, .iadd, 1), (217, .iaload, 1), (218, .aload_n 0, 1), (219, .iload_n 3, 1), (220, .iconst 4, 1), (221, .iadd, 1), (222, .iaload, 1), (223, .aload_n 0, 1), (224, .iload_n 3, 1), (225, .iconst 5, 1), (226, .iadd, 1), (227, .iaload, 1), (228, .invokevirtual 22, 3), (231, .aload_n 2, 1), (232, .aload_n 0, 1), (233, .iload_n 3, 1), (234, .iconst 1, 1), (235, .iadd, 1), (236, .iaload, 1), (237, .aload_n 0, 1), (238, .iload_n 3, 1), (239, .iconst 2, 1), (240, .iadd, 1), (241, .iaload, 1), (242, .aload_n 0, 1), (243, .iload_n 3, 1), (244, .iconst 3, 1), (245, .iadd, 1), (246, .iaload, 1), (247, .aload_n 0, 1), (248, .iload_n 3, 1), (249, .iconst 4, 1), (250, .iadd, 1), (251, .iaload, 1), (252, .aload_n 0, 1), (253, .iload_n 3, 1), (254, .iconst 5, 1), (255, .iadd, 1), (256, .iaload, 1), (257, .invokevirtual 25, 3), (260, .goto 82, 3), (263, .aload_n 1, 1), (264, .invokevirtual 26, 3), (267, .aload_n 2, 1), (268, .invokevirtual 29, 3), (271, .goto 71, 3), (274, .aload_n 1, 1), (275, .invokevirtual 30, 3), (278, .aload_n 2, 1), (279, .invokevirtual 33, 3), (282, .goto 60, 3), (285, .aload_n 1, 1), (286, .invokevirtual 34, 3), (289, .aload_n 2, 1), (290, .invokevirtual 37, 3), (293, .goto 49, 3), (296, .aload_n 1, 1), (297, .aload_n 0, 1), (298, .iload_n 3, 1), (299, .iconst 1, 1), (300, .iadd, 1), (301, .iaload, 1), (302, .invokevirtual 38, 3), (305, .aload_n 2, 1), (306, .aload_n 0, 1), (307, .iload_n 3, 1), (308, .iconst 1, 1), (309, .iadd, 1), (310, .iaload, 1), (311, .invokevirtual 42, 3), (314, .if_icmp .eq 28, 3), (317, .iconst 0, 1), (318, .ireturn, 1), (319, .aload_n 1, 1), (320, .aload_n 0, 1), (321, .iload_n 3, 1), (322, .iconst 1, 1), (323, .iadd, 1), (324, .iaload, 1), (325, .invokevirtual 43, 3), (328, .aload_n 2, 1), (329, .aload_n 0, 1), (330, .iload_n 3, 1), (331, .iconst 1, 1), (332, .iadd, 1), (333, .iaload, 1), (334, .invokevirtual 46, 3), (337, .if_icmp .eq 5, 3), (340, .iconst 0, 1), (341, .ireturn, 1), (342, .iinc 3 6, 3), (345, .goto (-327), 3), (348, .iconst 1, 1), (349, .ireturn, 1)]
theorem tk_L_law : tb_L_law.all (fun r => decide (decode code r.1 = .ok r.2)) = true := by decide +kernel
theorem d_L_law_0 : decode code 0 = .ok (.new 7, 3) := dk tk_L_law 0
theorem d_L_law_3 : decode code 3 = .ok (.dup, 1) := dk tk_L_law 1
theorem d_L_law_4 : decode code 4 = .ok (.invokespecial 9, 3) := dk tk_L_law 2
theorem d_L_law_7 : decode code 7 = .ok (.astore_n 1, 1) := dk tk_L_law 3
theorem d_L_law_8 : decode code 8 = .ok (.new 10, 3) := dk tk_L_law 4
theorem d_L_law_11 : decode code 11 = .ok (.dup, 1) := dk tk_L_law 5
theorem d_L_law_12 : decode code 12 = .ok (.invokespecial 12, 3) := dk tk_L_law 6
theorem d_L_law_15 : decode code 15 = .ok (.astore_n 2, 1) := dk tk_L_law 7
theorem d_L_law_16 : decode code 16 = .ok (.iconst 0, 1) := dk tk_L_law 8
theorem d_L_law_17 : decode code 17 = .ok (.istore_n 3, 1) := dk tk_L_law 9
theorem d_L_law_18 : decode code 18 = .ok (.iload_n 3, 1) := dk tk_L_law 10
theorem d_L_law_19 : decode code 19 = .ok (.aload_n 0, 1) := dk tk_L_law 11
theorem d_L_law_20 : decode code 20 = .ok (.arraylength, 1) := dk tk_L_law 12
theorem d_L_law_21 : decode code 21 = .ok (.bipush 6, 2) := dk tk_L_law 13
theorem d_L_law_23 : decode code 23 = .ok (.isub, 1) := dk tk_L_law 14
theorem d_L_law_24 : decode code 24 = .ok (.if_icmp .gt 324, 3) := dk tk_L_law 15
theorem d_L_law_27 : decode code 27 = .ok (.aload_n 0, 1) := dk tk_L_law 16
theorem d_L_law_28 : decode code 28 = .ok (.iload_n 3, 1) := dk tk_L_law 17
theorem d_L_law_29 : decode code 29 = .ok (.iaload, 1) := dk tk_L_law 18
theorem d_L_law_30 : decode code 30 = .ok (.bipush 7, 2) := dk tk_L_law 19
theorem d_L_law_32 : decode code 32 = .ok (.iand, 1) := dk tk_L_law 20
theorem d_L_law_33 : decode code 33 = .ok (.tableswitch 309 0 7 #[47, 108, 169, 230, 241, 252, 263, 286], 47) := dk tk_L_law 21
theorem d_L_law_80 : decode code 80 = .ok (.aload_n 1, 1) := dk tk_L_law 22
theorem d_L_law_81 : decode code 81 = .ok (.aload_n 0, 1) := dk tk_L_law 23
theorem d_L_law_82 : decode code 82 = .ok (.iload_n 3, 1) := dk tk_L_law 24
theorem d_L_law_83 : decode code 83 = .ok (.iconst 1, 1) := dk tk_L_law 25
theorem d_L_law_84 : decode code 84 = .ok (.iadd, 1) := dk tk_L_law 26
theorem d_L_law_85 : decode code 85 = .ok (.iaload, 1) := dk tk_L_law 27
theorem d_L_law_86 : decode code 86 = .ok (.aload_n 0, 1) := dk tk_L_law 28
theorem d_L_law_87 : decode code 87 = .ok (.iload_n 3, 1) := dk tk_L_law 29
theorem d_L_law_88 : decode code 88 = .ok (.iconst 2, 1) := dk tk_L_law 30
theorem d_L_law_89 : decode code 89 = .ok (.iadd, 1) := dk tk_L_law 31
theorem d_L_law_90 : decode code 90 = .ok (.iaload, 1) := dk tk_L_law 32
theorem d_L_law_91 : decode code 91 = .ok (.aload_n 0, 1) := dk tk_L_law 33
theorem d_L_law_92 : decode code 92 = .ok (.iload_n 3, 1) := dk tk_L_law 34
theorem d_L_law_93 : decode code 93 = .ok (.iconst 3, 1) := dk tk_L_law 35
theorem d_L_law_94 : decode code 94 = .ok (.iadd, 1) := dk tk_L_law 36
theorem d_L_law_95 : decode code 95 = .ok (.iaload, 1) := dk tk_L_law 37
theorem d_L_law_96 : decode code 96 = .ok (.aload_n 0, 1) := dk tk_L_law 38
theorem d_L_law_97 : decode code 97 = .ok (.iload_n 3, 1) := dk tk_L_law 39
theorem d_L_law_98 : decode code 98 = .ok (.iconst 4, 1) := dk tk_L_law 40
theorem d_L_law_99 : decode code 99 = .ok (.iadd, 1) := dk tk_L_law 41
theorem d_L_law_100 : decode code 100 = .ok (.iaload, 1) := dk tk_L_law 42
theorem d_L_law_101 : decode code 101 = .ok (.aload_n 0, 1) := dk tk_L_law 43
theorem d_L_law_102 : decode code 102 = .ok (.iload_n 3, 1) := dk tk_L_law 44
theorem d_L_law_103 : decode code 103 = .ok (.iconst 5, 1) := dk tk_L_law 45
theorem d_L_law_104 : decode code 104 = .ok (.iadd, 1) := dk tk_L_law 46
theorem d_L_law_105 : decode code 105 = .ok (.iaload, 1) := dk tk_L_law 47
theorem d_L_law_106 : decode code 106 = .ok (.invokevirtual 13, 3) := dk tk_L_law 48
theorem d_L_law_109 : decode code 109 = .ok (.aload_n 2, 1) := dk tk_L_law 49
theorem d_L_law_110 : decode code 110 = .ok (.aload_n 0, 1) := dk tk_L_law 50
theorem d_L_law_111 : decode code 111 = .ok (.iload_n 3, 1) := dk tk_L_law 51
theorem d_L_law_112 : decode code 112 = .ok (.iconst 1, 1) := dk tk_L_law 52
theorem d_L_law_113 : decode code 113 = .ok (.iadd, 1) := dk tk_L_law 53
theorem d_L_law_114 : decode code 114 = .ok (.iaload, 1) := dk tk_L_law 54
theorem d_L_law_115 : decode code 115 = .ok (.aload_n 0, 1) := dk tk_L_law 55
theorem d_L_law_116 : decode code 116 = .ok (.iload_n 3, 1) := dk tk_L_law 56
theorem d_L_law_117 : decode code 117 = .ok (.iconst 2, 1) := dk tk_L_law 57
theorem d_L_law_118 : decode code 118 = .ok (.iadd, 1) := dk tk_L_law 58
theorem d_L_law_119 : decode code 119 = .ok (.iaload, 1) := dk tk_L_law 59
theorem d_L_law_120 : decode code 120 = .ok (.aload_n 0, 1) := dk tk_L_law 60
theorem d_L_law_121 : decode code 121 = .ok (.iload_n 3, 1) := dk tk_L_law 61
theorem d_L_law_122 : decode code 122 = .ok (.iconst 3, 1) := dk tk_L_law 62
theorem d_L_law_123 : decode code 123 = .ok (.iadd, 1) := dk tk_L_law 63
theorem d_L_law_124 : decode code 124 = .ok (.iaload, 1) := dk tk_L_law 64
theorem d_L_law_125 : decode code 125 = .ok (.aload_n 0, 1) := dk tk_L_law 65
theorem d_L_law_126 : decode code 126 = .ok (.iload_n 3, 1) := dk tk_L_law 66
theorem d_L_law_127 : decode code 127 = .ok (.iconst 4, 1) := dk tk_L_law 67
theorem d_L_law_128 : decode code 128 = .ok (.iadd, 1) := dk tk_L_law 68
theorem d_L_law_129 : decode code 129 = .ok (.iaload, 1) := dk tk_L_law 69
theorem d_L_law_130 : decode code 130 = .ok (.aload_n 0, 1) := dk tk_L_law 70
theorem d_L_law_131 : decode code 131 = .ok (.iload_n 3, 1) := dk tk_L_law 71
theorem d_L_law_132 : decode code 132 = .ok (.iconst 5, 1) := dk tk_L_law 72
theorem d_L_law_133 : decode code 133 = .ok (.iadd, 1) := dk tk_L_law 73
theorem d_L_law_134 : decode code 134 = .ok (.iaload, 1) := dk tk_L_law 74
theorem d_L_law_135 : decode code 135 = .ok (.invokevirtual 17, 3) := dk tk_L_law 75
theorem d_L_law_138 : decode code 138 = .ok (.goto 204, 3) := dk tk_L_law 76
theorem d_L_law_141 : decode code 141 = .ok (.aload_n 1, 1) := dk tk_L_law 77
theorem d_L_law_142 : decode code 142 = .ok (.aload_n 0, 1) := dk tk_L_law 78
theorem d_L_law_143 : decode code 143 = .ok (.iload_n 3, 1) := dk tk_L_law 79
theorem d_L_law_144 : decode code 144 = .ok (.iconst 1, 1) := dk tk_L_law 80
theorem d_L_law_145 : decode code 145 = .ok (.iadd, 1) := dk tk_L_law 81
theorem d_L_law_146 : decode code 146 = .ok (.iaload, 1) := dk tk_L_law 82
theorem d_L_law_147 : decode code 147 = .ok (.aload_n 0, 1) := dk tk_L_law 83
theorem d_L_law_148 : decode code 148 = .ok (.iload_n 3, 1) := dk tk_L_law 84
theorem d_L_law_149 : decode code 149 = .ok (.iconst 2, 1) := dk tk_L_law 85
theorem d_L_law_150 : decode code 150 = .ok (.iadd, 1) := dk tk_L_law 86
theorem d_L_law_151 : decode code 151 = .ok (.iaload, 1) := dk tk_L_law 87
theorem d_L_law_152 : decode code 152 = .ok (.aload_n 0, 1) := dk tk_L_law 88
theorem d_L_law_153 : decode code 153 = .ok (.iload_n 3, 1) := dk tk_L_law 89
theorem d_L_law_154 : decode code 154 = .ok (.iconst 3, 1) := dk tk_L_law 90
theorem d_L_law_155 : decode code 155 = .ok (.iadd, 1) := dk tk_L_law 91
theorem d_L_law_156 : decode code 156 = .ok (.iaload, 1) := dk tk_L_law 92
theorem d_L_law_157 : decode code 157 = .ok (.aload_n 0, 1) := dk tk_L_law 93
theorem d_L_law_158 : decode code 158 = .ok (.iload_n 3, 1) := dk tk_L_law 94
theorem d_L_law_159 : decode code 159 = .ok (.iconst 4, 1) := dk tk_L_law 95
theorem d_L_law_160 : decode code 160 = .ok (.iadd, 1) := dk tk_L_law 96
theorem d_L_law_161 : decode code 161 = .ok (.iaload, 1) := dk tk_L_law 97
theorem d_L_law_162 : decode code 162 = .ok (.aload_n 0, 1) := dk tk_L_law 98
theorem d_L_law_163 : decode code 163 = .ok (.iload_n 3, 1) := dk tk_L_law 99
theorem d_L_law_164 : decode code 164 = .ok (.iconst 5, 1) := dk tk_L_law 100
theorem d_L_law_165 : decode code 165 = .ok (.iadd, 1) := dk tk_L_law 101
theorem d_L_law_166 : decode code 166 = .ok (.iaload, 1) := dk tk_L_law 102
theorem d_L_law_167 : decode code 167 = .ok (.invokevirtual 18, 3) := dk tk_L_law 103
theorem d_L_law_170 : decode code 170 = .ok (.aload_n 2, 1) := dk tk_L_law 104
theorem d_L_law_171 : decode code 171 = .ok (.aload_n 0, 1) := dk tk_L_law 105
theorem d_L_law_172 : decode code 172 = .ok (.iload_n 3, 1) := dk tk_L_law 106
theorem d_L_law_173 : decode code 173 = .ok (.iconst 1, 1) := dk tk_L_law 107
theorem d_L_law_174 : decode code 174 = .ok (.iadd, 1) := dk tk_L_law 108
theorem d_L_law_175 : decode code 175 = .ok (.iaload, 1) := dk tk_L_law 109
theorem d_L_law_176 : decode code 176 = .ok (.aload_n 0, 1) := dk tk_L_law 110
theorem d_L_law_177 : decode code 177 = .ok (.iload_n 3, 1) := dk tk_L_law 111
theorem d_L_law_178 : decode code 178 = .ok (.iconst 2, 1) := dk tk_L_law 112
theorem d_L_law_179 : decode code 179 = .ok (.iadd, 1) := dk tk_L_law 113
theorem d_L_law_180 : decode code 180 = .ok (.iaload, 1) := dk tk_L_law 114
theorem d_L_law_181 : decode code 181 = .ok (.aload_n 0, 1) := dk tk_L_law 115
theorem d_L_law_182 : decode code 182 = .ok (.iload_n 3, 1) := dk tk_L_law 116
theorem d_L_law_183 : decode code 183 = .ok (.iconst 3, 1) := dk tk_L_law 117
theorem d_L_law_184 : decode code 184 = .ok (.iadd, 1) := dk tk_L_law 118
theorem d_L_law_185 : decode code 185 = .ok (.iaload, 1) := dk tk_L_law 119
theorem d_L_law_186 : decode code 186 = .ok (.aload_n 0, 1) := dk tk_L_law 120
theorem d_L_law_187 : decode code 187 = .ok (.iload_n 3, 1) := dk tk_L_law 121
theorem d_L_law_188 : decode code 188 = .ok (.iconst 4, 1) := dk tk_L_law 122
theorem d_L_law_189 : decode code 189 = .ok (.iadd, 1) := dk tk_L_law 123
theorem d_L_law_190 : decode code 190 = .ok (.iaload, 1) := dk tk_L_law 124
theorem d_L_law_191 : decode code 191 = .ok (.aload_n 0, 1) := dk tk_L_law 125
theorem d_L_law_192 : decode code 192 = .ok (.iload_n 3, 1) := dk tk_L_law 126
theorem d_L_law_193 : decode code 193 = .ok (.iconst 5, 1) := dk tk_L_law 127
theorem d_L_law_194 : decode code 194 = .ok (.iadd, 1) := dk tk_L_law 128
theorem d_L_law_195 : decode code 195 = .ok (.iaload, 1) := dk tk_L_law 129
theorem d_L_law_196 : decode code 196 = .ok (.invokevirtual 21, 3) := dk tk_L_law 130
theorem d_L_law_199 : decode code 199 = .ok (.goto 143, 3) := dk tk_L_law 131
theorem d_L_law_202 : decode code 202 = .ok (.aload_n 1, 1) := dk tk_L_law 132
theorem d_L_law_203 : decode code 203 = .ok (.aload_n 0, 1) := dk tk_L_law 133
theorem d_L_law_204 : decode code 204 = .ok (.iload_n 3, 1) := dk tk_L_law 134
theorem d_L_law_205 : decode code 205 = .ok (.iconst 1, 1) := dk tk_L_law 135
theorem d_L_law_206 : decode code 206 = .ok (.iadd, 1) := dk tk_L_law 136
theorem d_L_law_207 : decode code 207 = .ok (.iaload, 1) := dk tk_L_law 137
theorem d_L_law_208 : decode code 208 = .ok (.aload_n 0, 1) := dk tk_L_law 138
theorem d_L_law_209 : decode code 209 = .ok (.iload_n 3, 1) := dk tk_L_law 139
theorem d_L_law_210 : decode code 210 = .ok (.iconst 2, 1) := dk tk_L_law 140
theorem d_L_law_211 : decode code 211 = .ok (.iadd, 1) := dk tk_L_law 141
theorem d_L_law_212 : decode code 212 = .ok (.iaload, 1) := dk tk_L_law 142
theorem d_L_law_213 : decode code 213 = .ok (.aload_n 0, 1) := dk tk_L_law 143
theorem d_L_law_214 : decode code 214 = .ok (.iload_n 3, 1) := dk tk_L_law 144
theorem d_L_law_215 : decode code 215 = .ok (.iconst 3, 1) := dk tk_L_law 145
theorem d_L_law_216 : decode code 216 = .ok (.iadd, 1) := dk tk_L_law 146
theorem d_L_law_217 : decode code 217 = .ok (.iaload, 1) := dk tk_L_law 147
theorem d_L_law_218 : decode code 218 = .ok (.aload_n 0, 1) := dk tk_L_law 148
theorem d_L_law_219 : decode code 219 = .ok (.iload_n 3, 1) := dk tk_L_law 149
theorem d_L_law_220 : decode code 220 = .ok (.iconst 4, 1) := dk tk_L_law 150
theorem d_L_law_221 : decode code 221 = .ok (.iadd, 1) := dk tk_L_law 151
theorem d_L_law_222 : decode code 222 = .ok (.iaload, 1) := dk tk_L_law 152
theorem d_L_law_223 : decode code 223 = .ok (.aload_n 0, 1) := dk tk_L_law 153
theorem d_L_law_224 : decode code 224 = .ok (.iload_n 3, 1) := dk tk_L_law 154
theorem d_L_law_225 : decode code 225 = .ok (.iconst 5, 1) := dk tk_L_law 155
theorem d_L_law_226 : decode code 226 = .ok (.iadd, 1) := dk tk_L_law 156
theorem d_L_law_227 : decode code 227 = .ok (.iaload, 1) := dk tk_L_law 157
theorem d_L_law_228 : decode code 228 = .ok (.invokevirtual 22, 3) := dk tk_L_law 158
theorem d_L_law_231 : decode code 231 = .ok (.aload_n 2, 1) := dk tk_L_law 159
theorem d_L_law_232 : decode code 232 = .ok (.aload_n 0, 1) := dk tk_L_law 160
theorem d_L_law_233 : decode code 233 = .ok (.iload_n 3, 1) := dk tk_L_law 161
theorem d_L_law_234 : decode code 234 = .ok (.iconst 1, 1) := dk tk_L_law 162
theorem d_L_law_235 : decode code 235 = .ok (.iadd, 1) := dk tk_L_law 163
theorem d_L_law_236 : decode code 236 = .ok (.iaload, 1) := dk tk_L_law 164
theorem d_L_law_237 : decode code 237 = .ok (.aload_n 0, 1) := dk tk_L_law 165
theorem d_L_law_238 : decode code 238 = .ok (.iload_n 3, 1) := dk tk_L_law 166
theorem d_L_law_239 : decode code 239 = .ok (.iconst 2, 1) := dk tk_L_law 167
theorem d_L_law_240 : decode code 240 = .ok (.iadd, 1) := dk tk_L_law 168
theorem d_L_law_241 : decode code 241 = .ok (.iaload, 1) := dk tk_L_law 169
theorem d_L_law_242 : decode code 242 = .ok (.aload_n 0, 1) := dk tk_L_law 170
theorem d_L_law_243 : decode code 243 = .ok (.iload_n 3, 1) := dk tk_L_law 171
theorem d_L_law_244 : decode code 244 = .ok (.iconst 3, 1) := dk tk_L_law 172
theorem d_L_law_245 : decode code 245 = .ok (.iadd, 1) := dk tk_L_law 173
theorem d_L_law_246 : decode code 246 = .ok (.iaload, 1) := dk tk_L_law 174
theorem d_L_law_247 : decode code 247 = .ok (.aload_n 0, 1) := dk tk_L_law 175
theorem d_L_law_248 : decode code 248 = .ok (.iload_n 3, 1) := dk tk_L_law 176
theorem d_L_law_249 : decode code 249 = .ok (.iconst 4, 1) := dk tk_L_law 177
theorem d_L_law_250 : decode code 250 = .ok (.iadd, 1) := dk tk_L_law 178
theorem d_L_law_251 : decode code 251 = .ok (.iaload, 1) := dk tk_L_law 179
theorem d_L_law_252 : decode code 252 = .ok (.aload_n 0, 1) := dk tk_L_law 180
theorem d_L_law_253 : decode code 253 = .ok (.iload_n 3, 1) := dk tk_L_law 181
theorem d_L_law_254 : decode code 254 = .ok (.iconst 5, 1) := dk tk_L_law 182
theorem d_L_law_255 : decode code 255 = .ok (.iadd, 1) := dk tk_L_law 183
theorem d_L_law_256 : decode code 256 = .ok (.iaload, 1) := dk tk_L_law 184
theorem d_L_law_257 : decode code 257 = .ok (.invokevirtual 25, 3) := dk tk_L_law 185
theorem d_L_law_260 : decode code 260 = .ok (.goto 82, 3) := dk tk_L_law 186
theorem d_L_law_263 : decode code 263 = .ok (.aload_n 1, 1) := dk tk_L_law 187
theorem d_L_law_264 : decode code 264 = .ok (.invokevirtual 26, 3) := dk tk_L_law 188
theorem d_L_law_267 : decode code 267 = .ok (.aload_n 2, 1) := dk tk_L_law 189
theorem d_L_law_268 : decode code 268 = .ok (.invokevirtual 29, 3) := dk tk_L_law 190
theorem d_L_law_271 : decode code 271 = .ok (.goto 71, 3) := dk tk_L_law 191
theorem d_L_law_274 : decode code 274 = .ok (.aload_n 1, 1) := dk tk_L_law 192
theorem d_L_law_275 : decode code 275 = .ok (.invokevirtual 30, 3) := dk tk_L_law 193
theorem d_L_law_278 : decode code 278 = .ok (.aload_n 2, 1) := dk tk_L_law 194
theorem d_L_law_279 : decode code 279 = .ok (.invokevirtual 33, 3) := dk tk_L_law 195
theorem d_L_law_282 : decode code 282 = .ok (.goto 60, 3) := dk tk_L_law 196
theorem d_L_law_285 : decode code 285 = .ok (.aload_n 1, 1) := dk tk_L_law 197
theorem d_L_law_286 : decode code 286 = .ok (.invokevirtual 34, 3) := dk tk_L_law 198
theorem d_L_law_289 : decode code 289 = .ok (.aload_n 2, 1) := dk tk_L_law 199
theorem d_L_law_290 : decode code 290 = .ok (.invokevirtual 37, 3) := dk tk_L_law 200
theorem d_L_law_293 : decode code 293 = .ok (.goto 49, 3) := dk tk_L_law 201
theorem d_L_law_296 : decode code 296 = .ok (.aload_n 1, 1) := dk tk_L_law 202
theorem d_L_law_297 : decode code 297 = .ok (.aload_n 0, 1) := dk tk_L_law 203
theorem d_L_law_298 : decode code 298 = .ok (.iload_n 3, 1) := dk tk_L_law 204
theorem d_L_law_299 : decode code 299 = .ok (.iconst 1, 1) := dk tk_L_law 205
theorem d_L_law_300 : decode code 300 = .ok (.iadd, 1) := dk tk_L_law 206
theorem d_L_law_301 : decode code 301 = .ok (.iaload, 1) := dk tk_L_law 207
theorem d_L_law_302 : decode code 302 = .ok (.invokevirtual 38, 3) := dk tk_L_law 208
theorem d_L_law_305 : decode code 305 = .ok (.aload_n 2, 1) := dk tk_L_law 209
theorem d_L_law_306 : decode code 306 = .ok (.aload_n 0, 1) := dk tk_L_law 210
theorem d_L_law_307 : decode code 307 = .ok (.iload_n 3, 1) := dk tk_L_law 211
theorem d_L_law_308 : decode code 308 = .ok (.iconst 1, 1) := dk tk_L_law 212
theorem d_L_law_309 : decode code 309 = .ok (.iadd, 1) := dk tk_L_law 213
theorem d_L_law_310 : decode code 310 = .ok (.iaload, 1) := dk tk_L_law 214
theorem d_L_law_311 : decode code 311 = .ok (.invokevirtual 42, 3) := dk tk_L_law 215
theorem d_L_law_314 : decode code 314 = .ok (.if_icmp .eq 28, 3) := dk tk_L_law 216
theorem d_L_law_317 : decode code 317 = .ok (.iconst 0, 1) := dk tk_L_law 217
theorem d_L_law_318 : decode code 318 = .ok (.ireturn, 1) := dk tk_L_law 218
theorem d_L_law_319 : decode code 319 = .ok (.aload_n 1, 1) := dk tk_L_law 219
theorem d_L_law_320 : decode code 320 = .ok (.aload_n 0, 1) := dk tk_L_law 220
theorem d_L_law_321 : decode code 321 = .ok (.iload_n 3, 1) := dk tk_L_law 221
theorem d_L_law_322 : decode code 322 = .ok (.iconst 1, 1) := dk tk_L_law 222
theorem d_L_law_323 : decode code 323 = .ok (.iadd, 1) := dk tk_L_law 223
theorem d_L_law_324 : decode code 324 = .ok (.iaload, 1) := dk tk_L_law 224
theorem d_L_law_325 : decode code 325 = .ok (.invokevirtual 43, 3) := dk tk_L_law 225
theorem d_L_law_328 : decode code 328 = .ok (.aload_n 2, 1) := dk tk_L_law 226
theorem d_L_law_329 : decode code 329 = .ok (.aload_n 0, 1) := dk tk_L_law 227
theorem d_L_law_330 : decode code 330 = .ok (.iload_n 3, 1) := dk tk_L_law 228
theorem d_L_law_331 : decode code 331 = .ok (.iconst 1, 1) := dk tk_L_law 229
theorem d_L_law_332 : decode code 332 = .ok (.iadd, 1) := dk tk_L_law 230
theorem d_L_law_333 : decode code 333 = .ok (.iaload, 1) := dk tk_L_law 231
theorem d_L_law_334 : decode code 334 = .ok (.invokevirtual 46, 3) := dk tk_L_law 232
theorem d_L_law_337 : decode code 337 = .ok (.if_icmp .eq 5, 3) := dk tk_L_law 233
theorem d_L_law_340 : decode code 340 = .ok (.iconst 0, 1) := dk tk_L_law 234
theorem d_L_law_341 : decode code 341 = .ok (.ireturn, 1) := dk tk_L_law 235
theorem d_L_law_342 : decode code 342 = .ok (.iinc 3 6, 3) := dk tk_L_law 236
theorem d_L_law_345 : decode code 345 = .ok (.goto (-327), 3) := dk tk_L_law 237
theorem d_L_law_348 : decode code 348 = .ok (.iconst 1, 1) := dk tk_L_law 238
theorem d_L_law_349 : decode code 349 = .ok (.ireturn, 1) := dk tk_L_law 239
def tb_A_fill2 : List (Nat × Instr × Nat) := [(0, .iconst 0, 1), (1, .istore_n 2, 1), (2, .aload_n 0, 1), (3, .arraylength, 1), (4, .istore_n 3, 1), (5, .iload_n 2, 1), (6, .iload_n 3, 1), (7, .if_icmp .ge 13, 3), (10, .aload_n 0, 1), (11, .iload_n 2, 1), (12, .iload_n 1, 1), (13, .iastore, 1), (14, .iinc 2 1, 3), (17, .goto (-12), 3), (20, .return_, 1)]
theorem tk_A_fill2 : tb_A_fill2.all (fun r => decide (decode b_A_fill2 r.1 = .ok r.2)) = true := by decide +kernel
theorem d_A_fill2_0 : decode b_A_fill2 0 = .ok (.iconst 0, 1) := dk tk_A_fill2 0
theorem d_A_fill2_1 : decode b_A_fill2 1 = .ok (.istore_n 2, 1) := dk tk_A_fill2 1
theorem d_A_fill2_2 : decode b_A_fill2 2 = .ok (.aload_n 0, 1) := dk tk_A_fill2 2
theorem d_A_fill2_3 : decode b_A_fill2 3 = .ok (.arraylength, 1) := dk tk_A_fill2 3
theorem d_A_fill2_4 : decode b_A_fill2 4 = .ok (.istore_n 3, 1) := dk tk_A_fill2 4
theorem d_A_fill2_5 : decode b_A_fill2 5 = .ok (.iload_n 2, 1) := dk tk_A_fill2 5
theorem d_A_fill2_6 : decode b_A_fill2 6 = .ok (.iload_n 3, 1) := dk tk_A_fill2 6
theorem d_A_fill2_7 : decode b_A_fill2 7 = .ok (.if_icmp .ge 13, 3) := dk tk_A_fill2 7
theorem d_A_fill2_10 : decode b_A_fill2 10 = .ok (.aload_n 0, 1) := dk tk_A_fill2 8
theorem d_A_fill2_11 : decode b_A_fill2 11 = .ok (.iload_n 2, 1) := dk tk_A_fill2 9
theorem d_A_fill2_12 : decode b_A_fill2 12 = .ok (.iload_n 1, 1) := dk tk_A_fill2 10
theorem d_A_fill2_13 : decode b_A_fill2 13 = .ok (.iastore, 1) := dk tk_A_fill2 11
theorem d_A_fill2_14 : decode b_A_fill2 14 = .ok (.iinc 2 1, 3) := dk tk_A_fill2 12
theorem d_A_fill2_17 : decode b_A_fill2 17 = .ok (.goto (-12), 3) := dk tk_A_fill2 13
theorem d_A_fill2_20 : decode b_A_fill2 20 = .ok (.return_, 1) := dk tk_A_fill2 14
def tb_A_fill4 : List (Nat × Instr × Nat) := [(0, .aload_n 0, 1), (1, .arraylength, 1), (2, .iload_n 1, 1), (3, .iload_n 2, 1), (4, .invokestatic 13, 3), (7, .iload_n 1, 1), (8, .istore 4, 2), (10, .iload 4, 2), (12, .iload_n 2, 1), (13, .if_icmp .ge 14, 3), (16, .aload_n 0, 1), (17, .iload 4, 2), (19, .iload_n 3, 1), (20, .iastore, 1), (21, .iinc 4 1, 3), (24, .goto (-14), 3), (27, .return_, 1)]
theorem tk_A_fill4 : tb_A_fill4.all (fun r => decide (decode b_A_fill4 r.1 = .ok r.2)) = true := by decide +kernel
theorem d_A_fill4_0 : decode b_A_fill4 0 = .ok (.aload_n 0, 1) := dk tk_A_fill4 0
theorem d_A_fill4_1 : decode b_A_fill4 1 = .ok (.arraylength, 1) := dk tk_A_fill4 1
theorem d_A_fill4_2 : decode b_A_fill4 2 = .ok (.iload_n 1, 1) := dk tk_A_fill4 2
theorem d_A_fill4_3 : decode b_A_fill4 3 = .ok (.iload_n 2, 1) := dk tk_A_fill4 3
theorem d_A_fill4_4 : decode b_A_fill4 4 = .ok (.invokestatic 13, 3) := dk tk_A_fill4 4
theorem d_A_fill4_7 : decode b_A_fill4 7 = .ok (.iload_n 1, 1) := dk tk_A_fill4 5
theorem d_A_fill4_8 : decode b_A_fill4 8 = .ok (.istore 4, 2) := dk tk_A_fill4 6
theorem d_A_fill4_10 : decode b_A_fill4 10 = .ok (.iload 4, 2) := dk tk_A_fill4 7
theorem d_A_fill4_12 : decode b_A_fill4 12 = .ok (.iload_n 2, 1) := dk tk_A_fill4 8
theorem d_A_fill4_13 : decode b_A_fill4 13 = .ok (.if_icmp .ge 14, 3) := dk tk_A_fill4 9
theorem d_A_fill4_16 : decode b_A_fill4 16 = .ok (.aload_n 0, 1) := dk tk_A_fill4 10
theorem d_A_fill4_17 : decode b_A_fill4 17 = .ok (.iload 4, 2) := dk tk_A_fill4 11
theorem d_A_fill4_19 : decode b_A_fill4 19 = .ok (.iload_n 3, 1) := dk tk_A_fill4 12
theorem d_A_fill4_20 : decode b_A_fill4 20 = .ok (.iastore, 1) := dk tk_A_fill4 13
theorem d_A_fill4_21 : decode b_A_fill4 21 = .ok (.iinc 4 1, 3) := dk tk_A_fill4 14
theorem d_A_fill4_24 : decode b_A_fill4 24 = .ok (.goto (-14), 3) := dk tk_A_fill4 15
theorem d_A_fill4_27 : decode b_A_fill4 27 = .ok (.return_, 1) := dk tk_A_fill4 16
def tb_A_rangeCheck : List (Nat × Instr × Nat) := [(0, .iload_n 1, 1), (1, .iload_n 2, 1), (2, .if_icmp .le 44, 3), (46, .iload_n 1, 1), (47, .ifCond .ge 12, 3), (59, .iload_n 2, 1), (60, .iload_n 0, 1), (61, .if_icmp .le 12, 3), (73, .return_, 1)]
theorem tk_A_rangeCheck : tb_A_rangeCheck.all (fun r => decide (decode b_A_rangeCheck r.1 = .ok r.2)) = true := by decide +kernel
theorem d_A_rangeCheck_0 : decode b_A_rangeCheck 0 = .ok (.iload_n 1, 1) := dk tk_A_rangeCheck 0
theorem d_A_rangeCheck_1 : decode b_A_rangeCheck 1 = .ok (.iload_n 2, 1) := dk tk_A_rangeCheck 1
theorem d_A_rangeCheck_2 : decode b_A_rangeCheck 2 = .ok (.if_icmp .le 44, 3) := dk tk_A_rangeCheck 2
theorem d_A_rangeCheck_46 : decode b_A_rangeCheck 46 = .ok (.iload_n 1, 1) := dk tk_A_rangeCheck 3
theorem d_A_rangeCheck_47 : decode b_A_rangeCheck 47 = .ok (.ifCond .ge 12, 3) := dk tk_A_rangeCheck 4
theorem d_A_rangeCheck_59 : decode b_A_rangeCheck 59 = .ok (.iload_n 2, 1) := dk tk_A_rangeCheck 5
theorem d_A_rangeCheck_60 : decode b_A_rangeCheck 60 = .ok (.iload_n 0, 1) := dk tk_A_rangeCheck 6
theorem d_A_rangeCheck_61 : decode b_A_rangeCheck 61 = .ok (.if_icmp .le 12, 3) := dk tk_A_rangeCheck 7
theorem d_A_rangeCheck_73 : decode b_A_rangeCheck 73 = .ok (.return_, 1) := dk tk_A_rangeCheck 8
end
section
theorem s_l : ∀ n, n < 32 → ((nI n &&& 31).toBitVec.smod 32).toNat = n := by decide +kernel
theorem s_u : ∀ n, n < 32 → (((nI n).toUInt32 &&& Int32.toUInt32 31).toBitVec % 32).toNat = n := by decide +kernel
theorem wb_tb (n : Nat) : (lN n).toBitVec = BitVec.ofNat 64 n := rfl
theorem wb_inj {a b : Int64} (h : a.toBitVec = b.toBitVec) : a = b := Int64.toBitVec_inj.mp h
theorem wb_tn {n : Nat} (h : n < 2 ^ 64) : (lN n).toBitVec.toNat = n := by rw [wb_tb, BitVec.toNat_ofNat, Nat.mod_eq_of_lt h]
theorem wb_of (x : Int64) : ∃ n, n < 2 ^ 64 ∧ x = lN n := ⟨x.toBitVec.toNat, x.toBitVec.isLt, wb_inj (by rw [wb_tb]; simp)⟩
theorem wb_of32 (x : Int32) : ∃ n, n < 2 ^ 32 ∧ x = nI n := ⟨x.toBitVec.toNat, x.toBitVec.isLt, Int32.toBitVec_inj.mp (by show _ = BitVec.ofNat 32 _; simp)⟩
theorem wb_c : ∀ k, k < 64 → ((nI k).toInt64 &&& 63) = lN k := by decide +kernel
theorem wb_cu : ∀ k, k < 64 → ((nI k).toInt64.toUInt64 &&& Int64.toUInt64 63) = UInt64.ofNat k := by decide +kernel
theorem wb_sm : ∀ k, k < 64 → (BitVec.ofNat 64 k).smod 64 = BitVec.ofNat 64 k := by decide +kernel
theorem wb_pw {a b : Nat} (h : a ≤ b) : 2 ^ b = 2 ^ a * 2 ^ (b - a) := by rw [← Nat.pow_add]; congr 1; omega
theorem wb_lt2 {a b : Nat} (h : a < b) : 2 ^ a < 2 ^ b := Nat.pow_lt_pow_right (by decide) h
theorem wb_mod (n : Nat) : lN n = lN (n % 2 ^ 64) := wb_inj (by rw [wb_tb, wb_tb]; apply BitVec.eq_of_toNat_eq; rw [BitVec.toNat_ofNat, BitVec.toNat_ofNat, Nat.mod_mod])
theorem wb_shr {n k : Nat} (hn : n < 2 ^ 64) (hk : k < 64) : ((lN n).toUInt64 >>> ((nI k).toInt64.toUInt64 &&& Int64.toUInt64 63)).toInt64 = lN (n / 2 ^ k) := by
  rw [wb_cu k hk]
  apply wb_inj
  apply BitVec.eq_of_toNat_eq
  show ((lN n).toUInt64 >>> UInt64.ofNat k).toNat = (BitVec.ofNat 64 _).toNat
  have h1 : (UInt64.ofNat k).toNat = k := by
    show (BitVec.ofNat 64 k).toNat = k
    rw [BitVec.toNat_ofNat, Nat.mod_eq_of_lt (by omega)]
  have h2 : (lN n).toUInt64.toNat = n := wb_tn hn
  rw [UInt64.toNat_shiftRight, h1, h2, Nat.mod_eq_of_lt hk, Nat.shiftRight_eq_div_pow, BitVec.toNat_ofNat, Nat.mod_eq_of_lt (Nat.lt_of_le_of_lt (Nat.div_le_self _ _) hn)]
theorem wb_shl (n : Nat) {k : Nat} (hk : k < 64) : lN n <<< ((nI k).toInt64 &&& 63) = lN (n * 2 ^ k) := by
  rw [wb_c k hk]
  apply wb_inj
  rw [Int64.toBitVec_shiftLeft, wb_tb, wb_tb, wb_tb, wb_sm k hk]
  apply BitVec.eq_of_toNat_eq
  rw [BitVec.shiftLeft_eq', BitVec.toNat_shiftLeft, BitVec.toNat_ofNat, BitVec.toNat_ofNat, BitVec.toNat_ofNat, Nat.mod_eq_of_lt (show k < 2 ^ 64 by omega), Nat.shiftLeft_eq, Nat.mul_mod, Nat.mod_mod, ← Nat.mul_mod]
theorem wb_and {a b : Nat} (ha : a < 2 ^ 64) (hb : b < 2 ^ 64) : lN a &&& lN b = lN (a &&& b) := by
  apply wb_inj
  rw [Int64.toBitVec_and, wb_tb, wb_tb, wb_tb]
  apply BitVec.eq_of_toNat_eq
  rw [BitVec.toNat_and, BitVec.toNat_ofNat, BitVec.toNat_ofNat, BitVec.toNat_ofNat, Nat.mod_eq_of_lt ha, Nat.mod_eq_of_lt hb, Nat.mod_eq_of_lt (Nat.and_lt_two_pow _ hb)]
theorem wb_or {a b : Nat} (ha : a < 2 ^ 64) (hb : b < 2 ^ 64) : lN a ||| lN b = lN (a ||| b) := by
  apply wb_inj
  rw [Int64.toBitVec_or, wb_tb, wb_tb, wb_tb]
  apply BitVec.eq_of_toNat_eq
  rw [BitVec.toNat_or, BitVec.toNat_ofNat, BitVec.toNat_ofNat, BitVec.toNat_ofNat, Nat.mod_eq_of_lt ha, Nat.mod_eq_of_lt hb, Nat.mod_eq_of_lt (Nat.or_lt_two_pow ha hb)]
theorem wb_mask {n k : Nat} (hn : n < 2 ^ 64) (hk : k < 64) : lN n &&& lN (2 ^ k - 1) = lN (n % 2 ^ k) := by
  rw [wb_and hn (by have := wb_lt2 hk; omega), Nat.and_two_pow_sub_one_eq_mod]
theorem wb_a1 {n : Nat} (hn : n < 2 ^ 64) : lN n &&& 1 = lN (n % 2) := wb_mask (k := 1) hn (by decide)
theorem lN_bv (n : Nat) : (lN n).toBitVec = BitVec.ofNat 64 n := rfl
theorem lN_nat {n : Nat} (h : n < 2 ^ 64) : (lN n).toBitVec.toNat = n := by rw [lN_bv, BitVec.toNat_ofNat]; exact Nat.mod_eq_of_lt h
theorem lN_ti {m : Nat} (h : m < 2 ^ 64) : (lN m).toInt = if m < 2 ^ 63 then (m : Int) else (m : Int) - 2 ^ 64 := by
  have c := BitVec.toInt_eq_toNat_cond (lN m).toBitVec
  rw [lN_nat h] at c
  show (lN m).toBitVec.toInt = _
  rw [c]
  split <;> split <;> omega
/-! own rows: ints as naturals below 2^32 (nI n), longs as naturals below 2^64 (lN n) -/
theorem nb_inj {a b : Int32} (h : a.toBitVec.toNat = b.toBitVec.toNat) : a = b := Int32.toBitVec_inj.mp (BitVec.eq_of_toNat_eq h)
theorem nb_tn (n : Nat) : (nI n).toBitVec.toNat = n % 4294967296 := rfl
theorem nb_mod (n : Nat) : nI (n % 4294967296) = nI n := nb_inj (by rw [nb_tn, nb_tn, Nat.mod_mod])
theorem nb_cong {a b : Nat} (h : a % 4294967296 = b % 4294967296) : nI a = nI b := nb_inj (by rw [nb_tn, nb_tn, h])
theorem nb_eq {a b : Nat} (ha : a < 4294967296) (hb : b < 4294967296) : nI a = nI b ↔ a = b := by
  constructor
  · intro h
    have h2 : (nI a).toBitVec.toNat = (nI b).toBitVec.toNat := by rw [h]
    rw [nb_tn, nb_tn, Nat.mod_eq_of_lt ha, Nat.mod_eq_of_lt hb] at h2
    exact h2
  · intro h; rw [h]
theorem nb_toInt {a : Nat} (ha : a < 4294967296) : (nI a).toInt = if a < 2147483648 then (a : Int) else (a : Int) - 4294967296 := by
  have c := BitVec.toInt_eq_toNat_cond (nI a).toBitVec
  rw [nb_tn, Nat.mod_eq_of_lt ha] at c
  show (nI a).toBitVec.toInt = _
  rw [c]
  split <;> split <;> omega
theorem nb_neg {a : Nat} (ha : a < 4294967296) : nI a < 0 ↔ 2147483648 ≤ a := by
  rw [Int32.lt_iff_toInt_lt, nb_toInt ha, show (0 : Int32).toInt = 0 from by decide]
  split <;> omega
theorem nb_add (a b : Nat) : nI a + nI b = nI (a + b) := nI_add a b
theorem nb_sub {a b : Nat} (h : b ≤ 4294967296) : nI a - nI b = nI (a + 4294967296 - b) := by
  have e : nI a = nI (a + 4294967296) := nb_cong (by omega)
  rw [e, pk_sub (by omega)]
theorem nb_neg' {b : Nat} (h : b ≤ 4294967296) : - nI b = nI (4294967296 - b) := by
  have e := nb_sub (a := 0) h
  rw [Nat.zero_add, nI_0, Int32.zero_sub] at e
  exact e
theorem nb_or {a b : Nat} (ha : a < 4294967296) (hb : b < 4294967296) : nI a ||| nI b = nI (a ||| b) := by
  apply nb_inj
  rw [Int32.toBitVec_or, BitVec.toNat_or, nb_tn, nb_tn, nb_tn, Nat.mod_eq_of_lt ha, Nat.mod_eq_of_lt hb, Nat.mod_eq_of_lt (Nat.or_lt_two_pow (n := 32) ha hb)]
theorem nb_or1 {a c : Nat} (hc : c < 2) : nI (a * 2) ||| nI c = nI (a * 2 + c) := by
  rw [← nb_mod (a * 2), nb_or (by omega) (by omega)]
  obtain ⟨q, hq⟩ : ∃ q, a * 2 % 4294967296 = q * 2 := ⟨a % 2147483648, by omega⟩
  have h1 : q * 2 ||| c = q * 2 + c := by
    have := Nat.shiftLeft_add_eq_or_of_lt (i := 1) (show c < 2 ^ 1 from hc) q
    rw [Nat.shiftLeft_eq] at this
    exact this.symm
  rw [hq, h1]
  apply nb_cong
  omega
theorem nb_or16 {a b : Nat} (ha : a < 65536) : nI a ||| nI (b * 65536) = nI (a + b * 65536) := by
  rw [← nb_mod (b * 65536), nb_or (by omega) (by omega)]
  obtain ⟨q, hq⟩ : ∃ q, b * 65536 % 4294967296 = q * 65536 := ⟨b % 65536, by omega⟩
  have h1 : a ||| q * 65536 = a + q * 65536 := by
    have := Nat.shiftLeft_add_eq_or_of_lt (i := 16) (show a < 2 ^ 16 from ha) q
    rw [Nat.shiftLeft_eq] at this
    rw [Nat.or_comm, ← this, Nat.add_comm]
  rw [hq, h1]
  apply nb_cong
  omega
theorem nb_shl (n : Nat) {k : Nat} (hk : k < 32) : nI n <<< (nI k &&& 31) = nI (n * 2 ^ k) := by
  apply nb_inj
  rw [pk_shl _ _ k (s_l k hk), nb_tn, nb_tn]
  show _ % 4294967296 = _
  rw [Nat.mul_mod, Nat.mod_mod, ← Nat.mul_mod]
theorem nb_shr {n k : Nat} (h : n < 2147483648) (hk : k < 32) : nI n >>> (nI k &&& 31) = nI (n / 2 ^ k) := pk_shrN h _ k (s_l k hk)
theorem nb_ushr {n k : Nat} (h : n < 4294967296) (hk : k < 32) : ((nI n).toUInt32 >>> ((nI k).toUInt32 &&& Int32.toUInt32 31)).toInt32 = nI (n / 2 ^ k) := pk_ushrN h _ k (s_u k hk)
/-- an int shifted right by 16 with its sign -/
def sar (v : Nat) : Nat := if v < 2147483648 then v / 65536 else v / 65536 + 4294901760
theorem nb_sar {n : Nat} (h : n < 4294967296) : nI n >>> (nI 16 &&& 31) = nI (sar n) := by
  have hs : sar n < 4294967296 := by unfold sar; split <;> omega
  apply Int32.toInt_inj.mp
  rw [pk_shr _ _ 16 (s_l 16 (by decide)), nb_toInt h, nb_toInt hs, Int.shiftRight_eq_div_pow]
  unfold sar
  split <;> split <;> (try split) <;> omega
theorem nb_m2 {n : Nat} (h : n < 4294967296) : nI n &&& nI 4294967294 = nI (n / 2 * 2) := by
  apply nb_inj
  rw [Int32.toBitVec_and, BitVec.toNat_and, nb_tn, nb_tn, nb_tn, Nat.mod_eq_of_lt h, Nat.mod_eq_of_lt (show 4294967294 < 4294967296 by decide), Nat.mod_eq_of_lt (show n / 2 * 2 < 4294967296 by omega)]
  apply Nat.eq_of_testBit_eq
  intro i
  rw [Nat.testBit_and]
  have e : n / 2 * 2 = (n >>> 1) <<< 1 := by rw [Nat.shiftLeft_eq, Nat.shiftRight_eq_div_pow]
  rw [e, Nat.testBit_shiftLeft, Nat.testBit_shiftRight]
  by_cases h0 : i = 0
  · subst h0; simp
  · by_cases h32 : i < 32
    · have hm : (4294967294 : Nat).testBit i = true := by
        have : ∀ i, i < 32 → i ≠ 0 → (4294967294 : Nat).testBit i = true := by decide +kernel
        exact this i h32 h0
      rw [hm, show 1 + (i - 1) = i by omega]
      simp
      omega
    · have hz : n.testBit i = false := Nat.testBit_lt_two_pow (Nat.lt_of_lt_of_le h (show 2 ^ 32 ≤ 2 ^ i from Nat.pow_le_pow_right (by decide) (by omega)))
      rw [show 1 + (i - 1) = i by omega, hz]
      simp
theorem lb_cong {a b : Nat} (h : a % 18446744073709551616 = b % 18446744073709551616) : lN a = lN b := wb_inj (BitVec.eq_of_toNat_eq (by rw [wb_tb, wb_tb, BitVec.toNat_ofNat, BitVec.toNat_ofNat]; exact h))
theorem lb_word {n : Nat} (h : n < 4294967296) : (nI n).toInt64 &&& 4294967295 = lN n := by
  apply wb_inj
  apply BitVec.eq_of_toNat_eq
  rw [wb_tn (by omega), Int64.toBitVec_and, BitVec.toNat_and]
  show (((nI n).toBitVec.signExtend 64).toNat &&& 2 ^ 32 - 1) = n
  rw [Nat.and_two_pow_sub_one_eq_mod, BitVec.toNat_signExtend, BitVec.toNat_setWidth, nb_tn, Nat.mod_eq_of_lt h]
  split <;> omega
theorem lb_hi {n : Nat} (h : n < 4294967296) : (nI n).toInt64 <<< ((nI 32).toInt64 &&& 63) = lN (n * 4294967296) := by
  obtain ⟨m, hm, e⟩ := wb_of (nI n).toInt64
  have hmn : m % 4294967296 = n := by
    have e2 := lb_word h
    rw [e] at e2
    have e3 := wb_mask (n := m) (k := 32) hm (by decide)
    have e4 : lN (m % 2 ^ 32) = lN n := e3.symm.trans e2
    have e5 := congrArg (fun z : Int64 => z.toBitVec.toNat) e4
    rw [wb_tn (by omega), wb_tn (by omega)] at e5
    exact e5
  rw [e, wb_shl m (by decide)]
  exact lb_cong (by omega)
theorem lb_sub {a b : Nat} (h : b ≤ 18446744073709551616) : lN a - lN b = lN (a + 18446744073709551616 - b) := by
  have e : lN a = lN (a + 18446744073709551616) := lb_cong (by omega)
  rw [e, lN_sub (by omega)]
theorem lb_or {a b : Nat} (ha : a < 4294967296) (hb : b < 4294967296) : lN a ||| lN (b * 4294967296) = lN (a + b * 4294967296) := by
  rw [wb_or (by omega) (by omega)]
  have := Nat.shiftLeft_add_eq_or_of_lt (i := 32) (show a < 2 ^ 32 from ha) b
  rw [Nat.shiftLeft_eq] at this
  rw [Nat.or_comm]
  show lN (b * 2 ^ 32 ||| a) = _
  rw [← this, Nat.add_comm]
theorem lb_le {a b : Nat} (ha : a < 9223372036854775808) (hb : b < 9223372036854775808) : lN a ≤ lN b ↔ a ≤ b := pk_lLE ha hb
theorem lb_neg {a : Nat} (ha : a < 18446744073709551616) : lN 0 ≤ lN a ↔ a < 9223372036854775808 := by
  rw [Int64.le_iff_toInt_le, lN_ti ha, lN_ti (by decide)]
  split <;> split <;> omega
end
section
/-! THE ONE WORLD: the desk, the model, the grid of rows, 35 int arrays; and the judgement J over it -/
/-- addresses and classes: classes' numbers and slots; desk, model, grid; the int arrays' addresses; the classes int[] and int[][] -/
abbrev En : Type := va_G × (Nat × Nat × Nat) × (Nat → Nat) × (ClassId × ClassId)
abbrev ex (E : En) : Nat := E.2.1.1
abbrev em (E : En) : Nat := E.2.1.2.1
abbrev eg (E : En) : Nat := E.2.1.2.2
abbrev ea (E : En) (k : Nat) : Nat := E.2.2.1 k
abbrev eI (E : En) : ClassId := E.2.2.2.1
abbrev eG (E : En) : ClassId := E.2.2.2.2
/-- lengths -/
def ln (k : Nat) : Nat := if k = 5 then 32 else if k = 6 then 17 else if k = 12 then 18 else if k = 31 then 32 else if 29 ≤ k then 33 else 16
abbrev fD (E : En) (mn iv tw : Nat) : List Value := [.ref (ea E 0), .ref (ea E 1), .ref (ea E 2), .ref (ea E 3), .ref (ea E 4), .int (nI mn), .int (nI iv), .int (nI tw), .ref (ea E 5), .ref (ea E 6), .ref (ea E 7), .ref (ea E 8), .ref (ea E 9), .ref (ea E 10), .ref (ea E 11), .ref (eg E), .ref (ea E 12)]
abbrev fM (E : En) : List Value := [.ref (ea E 29), .ref (ea E 30), .ref (ea E 31), .ref (ea E 32), .ref (ea E 33), .ref (ea E 34)]
def wa (E : En) (σ : Nat → Nat → Nat) (k : Nat) : Nat × va_E := (ea E k, .inl (eI E, ln k, .inl (fun j => nI (σ k j))))
def wl (E : En) (σ : Nat → Nat → Nat) (mn iv tw : Nat) : va_W := (ex E, .inr (0, fD E mn iv tw)) :: (em E, .inr (1, fM E)) :: (eg E, .inl (eG E, 16, .inr (.inr (.inr (.inr (fun j => some (ea E (13 + j)))))))) :: (List.range 35).map (wa E σ)
def up (σ : Nat → Nat → Nat) (k : Nat) (f : Nat → Nat) : Nat → Nat → Nat := fun k' => if k' = k then f else σ k'
def uf (f : Nat → Nat) (j v : Nat) : Nat → Nat := fun j' => if j' = j then v else f j'
theorem up_s {σ : Nat → Nat → Nat} {k : Nat} {f : Nat → Nat} : up σ k f k = f := if_pos rfl
theorem up_n {σ : Nat → Nat → Nat} {k k' : Nat} {f : Nat → Nat} (h : k' ≠ k) : up σ k f k' = σ k' := if_neg h
theorem uf_s {f : Nat → Nat} {j v : Nat} : uf f j v j = v := if_pos rfl
theorem uf_n {f : Nat → Nat} {j v j' : Nat} (h : j' ≠ j) : uf f j v j' = f j' := if_neg h
theorem up_up {σ : Nat → Nat → Nat} {k : Nat} {f g : Nat → Nat} : up (up σ k f) k g = up σ k g := by
  funext k'; unfold up; split <;> rfl
theorem up_id {σ : Nat → Nat → Nat} {k : Nat} : up σ k (σ k) = σ := by
  funext k'; unfold up; split
  · next h => rw [h]
  · rfl
theorem wl_at {E : En} {σ : Nat → Nat → Nat} {mn iv tw k : Nat} (h : k < 35) : (wl E σ mn iv tw)[k + 3]? = some (wa E σ k) := by
  show ((List.range 35).map (wa E σ))[k]? = _
  rw [List.getElem?_map, List.getElem?_range h]
  rfl
theorem wl_set {E : En} {σ : Nat → Nat → Nat} {mn iv tw k : Nat} (h : k < 35) (f : Nat → Nat) : (wl E σ mn iv tw).set (k + 3) (ea E k, .inl (eI E, ln k, .inl (fun j => nI (f j)))) = wl E (up σ k f) mn iv tw := by
  have e : ((List.range 35).map (wa E σ)).set k (ea E k, .inl (eI E, ln k, .inl (fun j => nI (f j)))) = (List.range 35).map (wa E (up σ k f)) := by
    apply List.ext_getElem?
    intro i
    rw [List.getElem?_set, List.getElem?_map, List.getElem?_map]
    by_cases hi : i < 35
    · rw [List.getElem?_range hi]
      by_cases hk : k = i
      · subst hk
        simp [h, wa, up]
      · simp [hk, wa, up, Ne.symm hk]
    · have hr : (List.range 35)[i]? = none := by simp; omega
      rw [hr]
      have hk : k ≠ i := by omega
      simp [hk]
  show _ :: _ :: _ :: (((List.range 35).map (wa E σ)).set k _) = _
  rw [e]
  rfl
def Wb (σ : Nat → Nat → Nat) : Prop := ∀ k j, σ k j < 4294967296
theorem Wb_up {σ : Nat → Nat → Nat} {k : Nat} {f : Nat → Nat} (h : Wb σ) (hf : ∀ j, f j < 4294967296) : Wb (up σ k f) := by
  intro k' j
  unfold up
  split
  · exact hf j
  · exact h k' j
theorem uf_b {f : Nat → Nat} {j v : Nat} (h : ∀ j, f j < 4294967296) (hv : v < 4294967296) : ∀ j', uf f j v j' < 4294967296 := by
  intro j'
  unfold uf
  split
  · exact hv
  · exact h j'
abbrev tyl (E : En) : List (ClassId × FieldType) := [(eI E, .int), (eG E, .array .int)]
/-- what a contract says of the world -/
def Wst (E : En) (A : Nat → Prop) (σ : Nat → Nat → Nat) (mn iv tw : Nat) (U : State) : Prop := va_P E.1 classes (wl E σ mn iv tw) U.heap ∧ va_D A (wl E σ mn iv tw) ∧ va_K E.1 classes (tyl E) U ∧ Wb σ
abbrev Ctx : Type := Program × Launch × Env × Room × State × MethodId × Array Value × List Frame × Method × Code × (Nat × Nat × Nat) × En × (Nat → Prop) × (State → Prop)
abbrev xp (X : Ctx) : Program := X.1
abbrev xl (X : Ctx) : Launch := X.2.1
abbrev xe (X : Ctx) : Env := X.2.2.1
abbrev xR (X : Ctx) : Room := X.2.2.2.1
abbrev xs (X : Ctx) : State := X.2.2.2.2.1
abbrev xm (X : Ctx) : MethodId := X.2.2.2.2.2.1
abbrev xa (X : Ctx) : Array Value := X.2.2.2.2.2.2.1
abbrev xb (X : Ctx) : List Frame := X.2.2.2.2.2.2.2.1
abbrev xh (X : Ctx) : Method := X.2.2.2.2.2.2.2.2.1
abbrev xc (X : Ctx) : Code := X.2.2.2.2.2.2.2.2.2.1
abbrev xn (X : Ctx) : Nat := X.2.2.2.2.2.2.2.2.2.2.1.1
abbrev xk (X : Ctx) : Nat := X.2.2.2.2.2.2.2.2.2.2.1.2.1
abbrev xt (X : Ctx) : Nat := X.2.2.2.2.2.2.2.2.2.2.1.2.2
abbrev xE (X : Ctx) : En := X.2.2.2.2.2.2.2.2.2.2.2.1
abbrev xA (X : Ctx) : Nat → Prop := X.2.2.2.2.2.2.2.2.2.2.2.2.1
abbrev xQ (X : Ctx) : State → Prop := X.2.2.2.2.2.2.2.2.2.2.2.2.2
def Wd (X : Ctx) (σ : Nat → Nat → Nat) (mn iv tw : Nat) (H : Heap) (locs : List Loc) : Prop := va_P (xE X).1 classes (wl (xE X) σ mn iv tw) H ∧ va_D (xA X) (wl (xE X) σ mn iv tw) ∧ va_S (xA X) (xs X).heap H locs ∧ Wb σ
def J (X : Ctx) (pc : Nat) (lv : List (Nat × Value)) (st : List Value) (σ : Nat → Nat → Nat) (mn iv tw : Nat) : Prop := ∀ (H : Heap) (locs : List Loc) (ls : Array Slot), Wd X σ mn iv tw H locs → lv_has ls (xn X) lv → W (xp X) (xl X) (xe X) (xR X) (xs X) (xm X) (xa X) (xb X) (xh X) (xc X) H locs (xk X) (xt X) (xQ X) (F0 (xm X) pc ls st)
/-- a frame that runs the code cc of the class own -/
def Cx (X : Ctx) (cc : ByteArray) (nL : Nat) (own : String) : Prop := (xp X).tables.exec = Jvm.exec ∧ (xc X).code = cc ∧ (xc X).maxLocals = nL ∧ (xs X).vm.findClass own = some (xm X).cls ∧ (∀ w ∈ gtb, w.before (xa X) (xs X) = true) ∧ (xn X = nL ∧ xk X ≤ (xR X).cells ∧ xt X ≤ (xR X).slots) ∧ va_K (xE X).1 classes (tyl (xE X)) (xs X)
def lvg : List (Nat × Value) → Nat → Option Value
  | [], _ => none
  | q :: r, i => bif Nat.beq q.1 i then some q.2 else lvg r i
theorem lvg_mem : ∀ {lv : List (Nat × Value)} {i : Nat} {v : Value}, lvg lv i = some v → (i, v) ∈ lv
  | [], i, v, h => by cases h
  | q :: r, i, v, h => by
    unfold lvg at h
    cases hb : Nat.beq q.1 i with
    | true =>
      rw [hb] at h
      have e : q.1 = i := Nat.eq_of_beq_eq_true hb
      have e2 : q.2 = v := Option.some.inj h
      rw [← e, ← e2]
      exact List.mem_cons_self
    | false =>
      rw [hb] at h
      exact List.mem_cons_of_mem _ (lvg_mem h)
theorem lvg_at {ls : Array Slot} {nL : Nat} {lv : List (Nat × Value)} {i : Nat} {v : Value} (hl : lv_has ls nL lv) (h : lvg lv i = some v) : ls[i]? = some (.val v) := hl.2.2 (i, v) (lvg_mem h)
def lvs : List (Nat × Value) → Nat → Value → List (Nat × Value)
  | [], i, v => [(i, v)]
  | q :: r, i, v => bif Nat.beq q.1 i then (i, v) :: r else bif Nat.blt i q.1 then (i, v) :: q :: r else q :: lvs r i v
def lvc (F : Nat × Value → Bool) : List (Nat × Value) → Nat → Bool
  | [], _ => true
  | q :: r, i => bif Nat.beq q.1 i then r.all F else F q && (bif Nat.blt i q.1 then r.all F else lvc F r i)
theorem lvs_in {F : Nat × Value → Bool} : ∀ {lv : List (Nat × Value)} {i : Nat} {v : Value}, lvc F lv i = true → ∀ q ∈ lvs lv i v, q = (i, v) ∨ (q ∈ lv ∧ F q = true)
  | [], i, v, _, q, hq => by
    unfold lvs at hq
    exact Or.inl (List.mem_singleton.mp hq)
  | p :: r, i, v, h, q, hq => by
    unfold lvs at hq
    unfold lvc at h
    cases hb : Nat.beq p.1 i with
    | true =>
      rw [hb] at h hq
      rcases List.mem_cons.mp hq with e | e
      · exact Or.inl e
      · exact Or.inr ⟨List.mem_cons_of_mem _ e, List.all_eq_true.mp h q e⟩
    | false =>
      rw [hb] at h hq
      have h' : (F p && (bif Nat.blt i p.1 then r.all F else lvc F r i)) = true := h
      rw [Bool.and_eq_true] at h'
      obtain ⟨h1, h2⟩ := h'
      cases hc : Nat.blt i p.1 with
      | true =>
        rw [hc] at h2 hq
        rcases List.mem_cons.mp hq with e | e
        · exact Or.inl e
        · rcases List.mem_cons.mp e with e | e
          · exact Or.inr ⟨by rw [e]; exact List.mem_cons_self, by rw [e]; exact h1⟩
          · exact Or.inr ⟨List.mem_cons_of_mem _ e, List.all_eq_true.mp h2 q e⟩
      | false =>
        rw [hc] at h2 hq
        rcases List.mem_cons.mp hq with e | e
        · exact Or.inr ⟨by rw [e]; exact List.mem_cons_self, by rw [e]; exact h1⟩
        · rcases lvs_in h2 q e with e | ⟨e, e'⟩
          · exact Or.inl e
          · exact Or.inr ⟨List.mem_cons_of_mem _ e, e'⟩
def lvF1 (i : Nat) (q : Nat × Value) : Bool := !(q.1 == i) && !(q.1 + 1 == i && q.2.category == 2)
def lvF2 (i : Nat) (q : Nat × Value) : Bool := !(q.1 == i) && (!(q.1 == i + 1) && !(q.1 + 1 == i && q.2.category == 2))
theorem lvs_has {F : Nat × Value → Bool} {ls : Array Slot} {nL : Nat} {lv : List (Nat × Value)} {i : Nat} {v : Value} (hc : lvc F lv i = true) (h : lv_has ls nL ((i, v) :: lv.filter F)) : lv_has ls nL (lvs lv i v) := by
  refine ⟨h.1, h.2.1, fun q hq => ?_⟩
  rcases lvs_in hc q hq with e | ⟨e, e'⟩
  · exact h.2.2 q (by rw [e]; exact List.mem_cons_self)
  · exact h.2.2 q (List.mem_cons_of_mem _ (List.mem_filter.mpr ⟨e, e'⟩))
end
section
section JR
variable {X : Ctx} {cc : ByteArray} {nL : Nat} {own : String} {pc : Nat} {lv : List (Nat × Value)} {st : List Value} {σ : Nat → Nat → Nat} {mn iv tw : Nat}
theorem J_iconst (C : Cx X cc nL own) {z : Int} (hdg : decode cc pc = .ok (.iconst z, 1)) (n : Nat) (hz : Int32.ofInt z = nI n) (k : J X (pc + 1) lv (.int (nI n) :: st) σ mn iv tw) : J X (pc) lv (st) σ mn iv tw :=
  fun H locs ls hW hl => lv_iconst C.1 C.2.1 hdg hz (k H locs ls hW hl)
theorem J_bipush (C : Cx X cc nL own) {z : Int} (hdg : decode cc pc = .ok (.bipush z, 2)) (n : Nat) (hz : (Int8.ofInt z).toInt32 = nI n) (k : J X (pc + 2) lv (.int (nI n) :: st) σ mn iv tw) : J X (pc) lv (st) σ mn iv tw :=
  fun H locs ls hW hl => lv_bipush C.1 C.2.1 hdg hz (k H locs ls hW hl)
theorem J_sipush (C : Cx X cc nL own) {z : Int} (hdg : decode cc pc = .ok (.sipush z, 3)) (n : Nat) (hz : (Int16.ofInt z).toInt32 = nI n) (k : J X (pc + 3) lv (.int (nI n) :: st) σ mn iv tw) : J X (pc) lv (st) σ mn iv tw :=
  fun H locs ls hW hl => lv_sipush C.1 C.2.1 hdg hz (k H locs ls hW hl)
theorem J_lconst (C : Cx X cc nL own) {z : Fin 2} (hdg : decode cc pc = .ok (.lconst z, 1)) (n : Nat) (hz : Int64.ofNat (z : Nat) = lN n) (k : J X (pc + 1) lv (.long (lN n) :: st) σ mn iv tw) : J X (pc) lv (st) σ mn iv tw :=
  fun H locs ls hW hl => lv_lconst C.1 C.2.1 hdg hz (k H locs ls hW hl)
theorem J_iload_n (C : Cx X cc nL own) {q : Fin 4} {x : Int32} (hdg : decode cc pc = .ok (.iload_n q, 1)) (i : Nat) (hi : (q : Nat) = i) (hv : lvg lv i = some (.int x)) (k : J X (pc + 1) lv (.int x :: st) σ mn iv tw) : J X (pc) lv (st) σ mn iv tw :=
  fun H locs ls hW hl => lv_iload_n C.1 C.2.1 hdg hi (lvg_at hl hv) (k H locs ls hW hl)
theorem J_iload (C : Cx X cc nL own) {i : Nat} {x : Int32} (hdg : decode cc pc = .ok (.iload i, 2)) (hv : lvg lv i = some (.int x)) (k : J X (pc + 2) lv (.int x :: st) σ mn iv tw) : J X (pc) lv (st) σ mn iv tw :=
  fun H locs ls hW hl => lv_iload C.1 C.2.1 hdg (lvg_at hl hv) (k H locs ls hW hl)
theorem J_istore_n (C : Cx X cc nL own) {q : Fin 4} {x : Int32} {lv' : List (Nat × Value)} (hdg : decode cc pc = .ok (.istore_n q, 1)) (i : Nat) (hi : (q : Nat) = i) (hn : i < nL) (hc : lvc (lvF1 i) lv i = true) (hl' : lvs lv i (.int x) = lv') (k : J X (pc + 1) lv' (st) σ mn iv tw) : J X (pc) lv (.int x :: st) σ mn iv tw :=
  fun H locs ls hW hl => lv_istore_n C.1 C.2.1 hdg hi hl (by rw [C.2.2.2.2.2.1.1]; exact hn) rfl (fun ls' h => k H locs ls' hW (hl' ▸ lvs_has hc h))
theorem J_istore (C : Cx X cc nL own) {i : Nat} {x : Int32} {lv' : List (Nat × Value)} (hdg : decode cc pc = .ok (.istore i, 2)) (hn : i < nL) (hc : lvc (lvF1 i) lv i = true) (hl' : lvs lv i (.int x) = lv') (k : J X (pc + 2) lv' (st) σ mn iv tw) : J X (pc) lv (.int x :: st) σ mn iv tw :=
  fun H locs ls hW hl => lv_istore C.1 C.2.1 hdg hl (by rw [C.2.2.2.2.2.1.1]; exact hn) rfl (fun ls' h => k H locs ls' hW (hl' ▸ lvs_has hc h))
theorem J_lload_n (C : Cx X cc nL own) {q : Fin 4} {x : Int64} (hdg : decode cc pc = .ok (.lload_n q, 1)) (i : Nat) (hi : (q : Nat) = i) (hv : lvg lv i = some (.long x)) (k : J X (pc + 1) lv (.long x :: st) σ mn iv tw) : J X (pc) lv (st) σ mn iv tw :=
  fun H locs ls hW hl => lv_lload_n C.1 C.2.1 hdg hi (lvg_at hl hv) (k H locs ls hW hl)
theorem J_lload (C : Cx X cc nL own) {i : Nat} {x : Int64} (hdg : decode cc pc = .ok (.lload i, 2)) (hv : lvg lv i = some (.long x)) (k : J X (pc + 2) lv (.long x :: st) σ mn iv tw) : J X (pc) lv (st) σ mn iv tw :=
  fun H locs ls hW hl => lv_lload C.1 C.2.1 hdg (lvg_at hl hv) (k H locs ls hW hl)
theorem J_lstore_n (C : Cx X cc nL own) {q : Fin 4} {x : Int64} {lv' : List (Nat × Value)} (hdg : decode cc pc = .ok (.lstore_n q, 1)) (i : Nat) (hi : (q : Nat) = i) (hn : i + 1 < nL) (hc : lvc (lvF2 i) lv i = true) (hl' : lvs lv i (.long x) = lv') (k : J X (pc + 1) lv' (st) σ mn iv tw) : J X (pc) lv (.long x :: st) σ mn iv tw :=
  fun H locs ls hW hl => lv_lstore_n C.1 C.2.1 hdg hi hl (by rw [C.2.2.2.2.2.1.1]; exact hn) rfl (fun ls' h => k H locs ls' hW (hl' ▸ lvs_has hc h))
theorem J_lstore (C : Cx X cc nL own) {i : Nat} {x : Int64} {lv' : List (Nat × Value)} (hdg : decode cc pc = .ok (.lstore i, 2)) (hn : i + 1 < nL) (hc : lvc (lvF2 i) lv i = true) (hl' : lvs lv i (.long x) = lv') (k : J X (pc + 2) lv' (st) σ mn iv tw) : J X (pc) lv (.long x :: st) σ mn iv tw :=
  fun H locs ls hW hl => lv_lstore C.1 C.2.1 hdg hl (by rw [C.2.2.2.2.2.1.1]; exact hn) rfl (fun ls' h => k H locs ls' hW (hl' ▸ lvs_has hc h))
theorem J_aload_n (C : Cx X cc nL own) {q : Fin 4} {x : Nat} (hdg : decode cc pc = .ok (.aload_n q, 1)) (i : Nat) (hi : (q : Nat) = i) (hv : lvg lv i = some (.ref x)) (k : J X (pc + 1) lv (.ref x :: st) σ mn iv tw) : J X (pc) lv (st) σ mn iv tw :=
  fun H locs ls hW hl => lv_aload_n C.1 C.2.1 hdg hi (lvg_at hl hv) (k H locs ls hW hl)
theorem J_aload (C : Cx X cc nL own) {i : Nat} {x : Nat} (hdg : decode cc pc = .ok (.aload i, 2)) (hv : lvg lv i = some (.ref x)) (k : J X (pc + 2) lv (.ref x :: st) σ mn iv tw) : J X (pc) lv (st) σ mn iv tw :=
  fun H locs ls hW hl => lv_aload C.1 C.2.1 hdg (lvg_at hl hv) (k H locs ls hW hl)
theorem J_astore_n (C : Cx X cc nL own) {q : Fin 4} {x : Nat} {lv' : List (Nat × Value)} (hdg : decode cc pc = .ok (.astore_n q, 1)) (i : Nat) (hi : (q : Nat) = i) (hn : i < nL) (hc : lvc (lvF1 i) lv i = true) (hl' : lvs lv i (.ref x) = lv') (k : J X (pc + 1) lv' (st) σ mn iv tw) : J X (pc) lv (.ref x :: st) σ mn iv tw :=
  fun H locs ls hW hl => lv_astore_n C.1 C.2.1 hdg hi hl (by rw [C.2.2.2.2.2.1.1]; exact hn) rfl (fun ls' h => k H locs ls' hW (hl' ▸ lvs_has hc h))
theorem J_astore (C : Cx X cc nL own) {i : Nat} {x : Nat} {lv' : List (Nat × Value)} (hdg : decode cc pc = .ok (.astore i, 2)) (hn : i < nL) (hc : lvc (lvF1 i) lv i = true) (hl' : lvs lv i (.ref x) = lv') (k : J X (pc + 2) lv' (st) σ mn iv tw) : J X (pc) lv (.ref x :: st) σ mn iv tw :=
  fun H locs ls hW hl => lv_astore C.1 C.2.1 hdg hl (by rw [C.2.2.2.2.2.1.1]; exact hn) rfl (fun ls' h => k H locs ls' hW (hl' ▸ lvs_has hc h))
theorem J_iinc (C : Cx X cc nL own) {i : Nat} {z : Int} {x y : Int32} {lv' : List (Nat × Value)} (hdg : decode cc pc = .ok (.iinc i z, 3)) (hv : lvg lv i = some (.int x)) (hz : x + Int32.ofInt z = y) (hn : i < nL) (hc : lvc (lvF1 i) lv i = true) (hl' : lvs lv i (.int y) = lv') (k : J X (pc + 3) lv' (st) σ mn iv tw) : J X (pc) lv (st) σ mn iv tw :=
  by
  intro H locs ls hW hl
  obtain ⟨q, hq⟩ := List.getElem?_of_mem (lvg_mem hv)
  exact lv_iinc C.1 C.2.1 hdg hl hq hz (by rw [C.2.2.2.2.2.1.1]; exact hn) rfl (fun ls' h => k H locs ls' hW (hl' ▸ lvs_has hc h))
theorem J_iadd (C : Cx X cc nL own) {a b : Nat} (hdg : decode cc pc = .ok (.iadd, 1)) (k : J X (pc + 1) lv (.int (nI (a + b)) :: st) σ mn iv tw) : J X (pc) lv (.int (nI b) :: .int (nI a) :: st) σ mn iv tw :=
  fun H locs ls hW hl => lv_iadd C.1 C.2.1 hdg (by rw [nI_add]; exact k H locs ls hW hl)
theorem J_isub (C : Cx X cc nL own) {a b : Nat} (hdg : decode cc pc = .ok (.isub, 1)) (h : b ≤ a) (k : J X (pc + 1) lv (.int (nI (a - b)) :: st) σ mn iv tw) : J X (pc) lv (.int (nI b) :: .int (nI a) :: st) σ mn iv tw :=
  fun H locs ls hW hl => lv_isub C.1 C.2.1 hdg (by rw [pk_sub h]; exact k H locs ls hW hl)
theorem J_isub1 (C : Cx X cc nL own) {a : Nat} (hdg : decode cc pc = .ok (.isub, 1)) (k : J X (pc + 1) lv (.int (nI a + (-1)) :: st) σ mn iv tw) : J X (pc) lv (.int (nI 1) :: .int (nI a) :: st) σ mn iv tw :=
  fun H locs ls hW hl => lv_isub C.1 C.2.1 hdg (by rw [Int32.sub_eq_add_neg]; exact k H locs ls hW hl)
theorem J_isubm (C : Cx X cc nL own) {a b : Nat} (hdg : decode cc pc = .ok (.isub, 1)) (h : b ≤ 4294967296) (k : J X (pc + 1) lv (.int (nI (a + 4294967296 - b)) :: st) σ mn iv tw) : J X (pc) lv (.int (nI b) :: .int (nI a) :: st) σ mn iv tw :=
  fun H locs ls hW hl => lv_isub C.1 C.2.1 hdg (by rw [nb_sub h]; exact k H locs ls hW hl)
theorem J_imul (C : Cx X cc nL own) {a b : Nat} (hdg : decode cc pc = .ok (.imul, 1)) (k : J X (pc + 1) lv (.int (nI (a * b)) :: st) σ mn iv tw) : J X (pc) lv (.int (nI b) :: .int (nI a) :: st) σ mn iv tw :=
  fun H locs ls hW hl => lv_imul C.1 C.2.1 hdg (by rw [pk_mul]; exact k H locs ls hW hl)
theorem J_ior (C : Cx X cc nL own) {a b : Nat} (hdg : decode cc pc = .ok (.ior, 1)) (ha : a < 4294967296) (hb : b < 4294967296) (k : J X (pc + 1) lv (.int (nI (a ||| b)) :: st) σ mn iv tw) : J X (pc) lv (.int (nI b) :: .int (nI a) :: st) σ mn iv tw :=
  fun H locs ls hW hl => lv_ior C.1 C.2.1 hdg (by rw [nb_or ha hb]; exact k H locs ls hW hl)
theorem J_ior1 (C : Cx X cc nL own) {a c : Nat} (hdg : decode cc pc = .ok (.ior, 1)) (hc : c < 2) (k : J X (pc + 1) lv (.int (nI (a * 2 + c)) :: st) σ mn iv tw) : J X (pc) lv (.int (nI c) :: .int (nI (a * 2)) :: st) σ mn iv tw :=
  fun H locs ls hW hl => lv_ior C.1 C.2.1 hdg (by rw [nb_or1 hc]; exact k H locs ls hW hl)
theorem J_ior16 (C : Cx X cc nL own) {a b : Nat} (hdg : decode cc pc = .ok (.ior, 1)) (ha : a < 65536) (k : J X (pc + 1) lv (.int (nI (a + b * 65536)) :: st) σ mn iv tw) : J X (pc) lv (.int (nI (b * 65536)) :: .int (nI a) :: st) σ mn iv tw :=
  fun H locs ls hW hl => lv_ior C.1 C.2.1 hdg (by rw [nb_or16 ha]; exact k H locs ls hW hl)
theorem J_idiv (C : Cx X cc nL own) {a b : Nat} (hdg : decode cc pc = .ok (.idiv, 1)) (ha : a < 2147483648) (h0 : 0 < b) (hb : b < 2147483648) (k : J X (pc + 1) lv (.int (nI (a / b)) :: st) σ mn iv tw) : J X (pc) lv (.int (nI b) :: .int (nI a) :: st) σ mn iv tw :=
  fun H locs ls hW hl => lv_idiv C.1 C.2.1 hdg (nI_ne0 h0 hb) (by rw [pk_div ha h0 hb]; exact k H locs ls hW hl)
theorem J_ineg (C : Cx X cc nL own) {a : Nat} (hdg : decode cc pc = .ok (.ineg, 1)) (ha : a ≤ 4294967296) (k : J X (pc + 1) lv (.int (nI (4294967296 - a)) :: st) σ mn iv tw) : J X (pc) lv (.int (nI a) :: st) σ mn iv tw :=
  fun H locs ls hW hl => lv_ineg C.1 C.2.1 hdg (by rw [nb_neg' ha]; exact k H locs ls hW hl)
theorem J_iand (C : Cx X cc nL own) {a m : Nat} (hdg : decode cc pc = .ok (.iand, 1)) (q p : Nat) (hp : 2 ^ q = p) (ha : a < 4294967296) (hm : m < 4294967296) (hm2 : m = p - 1) (k : J X (pc + 1) lv (.int (nI (a % p)) :: st) σ mn iv tw) : J X (pc) lv (.int (nI m) :: .int (nI a) :: st) σ mn iv tw :=
  by
  subst hp
  exact fun H locs ls hW hl => lv_iand C.1 C.2.1 hdg (by rw [pk_andN ha q (by rw [nb_tn, Nat.mod_eq_of_lt hm]; exact hm2)]; exact k H locs ls hW hl)
theorem J_iand_m2 (C : Cx X cc nL own) {a : Nat} (hdg : decode cc pc = .ok (.iand, 1)) (ha : a < 4294967296) (k : J X (pc + 1) lv (.int (nI (a / 2 * 2)) :: st) σ mn iv tw) : J X (pc) lv (.int (nI 4294967294) :: .int (nI a) :: st) σ mn iv tw :=
  fun H locs ls hW hl => lv_iand C.1 C.2.1 hdg (by rw [nb_m2 ha]; exact k H locs ls hW hl)
theorem J_ishl (C : Cx X cc nL own) {a s : Nat} (hdg : decode cc pc = .ok (.ishl, 1)) (p : Nat) (hp : 2 ^ s = p) (hs : s < 32) (k : J X (pc + 1) lv (.int (nI (a * p)) :: st) σ mn iv tw) : J X (pc) lv (.int (nI s) :: .int (nI a) :: st) σ mn iv tw :=
  by
  subst hp
  exact fun H locs ls hW hl => lv_ishl C.1 C.2.1 hdg (by rw [nb_shl a hs]; exact k H locs ls hW hl)
theorem J_ishr (C : Cx X cc nL own) {a s : Nat} (hdg : decode cc pc = .ok (.ishr, 1)) (p : Nat) (hp : 2 ^ s = p) (ha : a < 2147483648) (hs : s < 32) (k : J X (pc + 1) lv (.int (nI (a / p)) :: st) σ mn iv tw) : J X (pc) lv (.int (nI s) :: .int (nI a) :: st) σ mn iv tw :=
  by
  subst hp
  exact fun H locs ls hW hl => lv_ishr C.1 C.2.1 hdg (by rw [nb_shr ha hs]; exact k H locs ls hW hl)
theorem J_isar (C : Cx X cc nL own) {a : Nat} (hdg : decode cc pc = .ok (.ishr, 1)) (ha : a < 4294967296) (k : J X (pc + 1) lv (.int (nI (sar a)) :: st) σ mn iv tw) : J X (pc) lv (.int (nI 16) :: .int (nI a) :: st) σ mn iv tw :=
  fun H locs ls hW hl => lv_ishr C.1 C.2.1 hdg (by rw [nb_sar ha]; exact k H locs ls hW hl)
theorem J_iushr (C : Cx X cc nL own) {a s : Nat} (hdg : decode cc pc = .ok (.iushr, 1)) (p : Nat) (hp : 2 ^ s = p) (ha : a < 4294967296) (hs : s < 32) (k : J X (pc + 1) lv (.int (nI (a / p)) :: st) σ mn iv tw) : J X (pc) lv (.int (nI s) :: .int (nI a) :: st) σ mn iv tw :=
  by
  subst hp
  exact fun H locs ls hW hl => lv_iushr C.1 C.2.1 hdg (nb_ushr ha hs) (k H locs ls hW hl)
theorem J_ladd (C : Cx X cc nL own) {a b : Nat} (hdg : decode cc pc = .ok (.ladd, 1)) (k : J X (pc + 1) lv (.long (lN (a + b)) :: st) σ mn iv tw) : J X (pc) lv (.long (lN b) :: .long (lN a) :: st) σ mn iv tw :=
  fun H locs ls hW hl => lv_ladd C.1 C.2.1 hdg (by rw [lN_add]; exact k H locs ls hW hl)
theorem J_lmul (C : Cx X cc nL own) {a b : Nat} (hdg : decode cc pc = .ok (.lmul, 1)) (k : J X (pc + 1) lv (.long (lN (a * b)) :: st) σ mn iv tw) : J X (pc) lv (.long (lN b) :: .long (lN a) :: st) σ mn iv tw :=
  fun H locs ls hW hl => lv_lmul C.1 C.2.1 hdg (by rw [lN_mul]; exact k H locs ls hW hl)
theorem J_lsub (C : Cx X cc nL own) {a b : Nat} (hdg : decode cc pc = .ok (.lsub, 1)) (h : b ≤ 18446744073709551616) (k : J X (pc + 1) lv (.long (lN (a + 18446744073709551616 - b)) :: st) σ mn iv tw) : J X (pc) lv (.long (lN b) :: .long (lN a) :: st) σ mn iv tw :=
  fun H locs ls hW hl => lv_lsub C.1 C.2.1 hdg (by rw [lb_sub h]; exact k H locs ls hW hl)
theorem J_lor (C : Cx X cc nL own) {a b : Nat} (hdg : decode cc pc = .ok (.lor, 1)) (ha : a < 4294967296) (hb : b < 4294967296) (k : J X (pc + 1) lv (.long (lN (a + b * 4294967296)) :: st) σ mn iv tw) : J X (pc) lv (.long (lN (b * 4294967296)) :: .long (lN a) :: st) σ mn iv tw :=
  fun H locs ls hW hl => lv_lor C.1 C.2.1 hdg (by rw [lb_or ha hb]; exact k H locs ls hW hl)
theorem J_lushr (C : Cx X cc nL own) {a s : Nat} (hdg : decode cc pc = .ok (.lushr, 1)) (p : Nat) (hp : 2 ^ s = p) (ha : a < 18446744073709551616) (hs : s < 64) (k : J X (pc + 1) lv (.long (lN (a / p)) :: st) σ mn iv tw) : J X (pc) lv (.int (nI s) :: .long (lN a) :: st) σ mn iv tw :=
  by
  subst hp
  exact fun H locs ls hW hl => lv_lushr C.1 C.2.1 hdg (wb_shr ha hs) (k H locs ls hW hl)
theorem J_lushrm (C : Cx X cc nL own) {a s : Nat} (hdg : decode cc pc = .ok (.lushr, 1)) (p : Nat) (hp : 2 ^ s = p) (hs : s < 64) (k : J X (pc + 1) lv (.long (lN (a % 18446744073709551616 / p)) :: st) σ mn iv tw) : J X (pc) lv (.int (nI s) :: .long (lN a) :: st) σ mn iv tw :=
  by
  subst hp
  exact fun H locs ls hW hl => lv_lushr C.1 C.2.1 hdg (by rw [wb_mod a]; exact wb_shr (Nat.mod_lt _ (by decide)) hs) (k H locs ls hW hl)
theorem J_l2i (C : Cx X cc nL own) {a : Nat} (hdg : decode cc pc = .ok (.l2i, 1)) (k : J X (pc + 1) lv (.int (nI a) :: st) σ mn iv tw) : J X (pc) lv (.long (lN a) :: st) σ mn iv tw :=
  fun H locs ls hW hl => lv_l2i C.1 C.2.1 hdg (lN_i a) (k H locs ls hW hl)
theorem J_i2l (C : Cx X cc nL own) {a : Nat} (hdg : decode cc pc = .ok (.i2l, 1)) (ha : a < 2147483648) (k : J X (pc + 1) lv (.long (lN a) :: st) σ mn iv tw) : J X (pc) lv (.int (nI a) :: st) σ mn iv tw :=
  fun H locs ls hW hl => lv_i2l C.1 C.2.1 hdg (nI_l ha) (k H locs ls hW hl)
theorem J_word (C : Cx X cc nL R_D) {a : Nat} (d1 : decode cc pc = .ok (.i2l, 1)) (d2 : decode cc (pc + 1) = .ok (.ldc2_w 54, 3)) (d3 : decode cc (pc + 4) = .ok (.land, 1)) (ha : a < 4294967296) (k : J X (pc + 5) lv (.long (lN a) :: st) σ mn iv tw) : J X (pc) lv (.int (nI a) :: st) σ mn iv tw :=
  fun H locs ls hW hl => lv_i2l C.1 C.2.1 d1 rfl (lv_ldc2 C.1 C.2.1 (own := R_D) C.2.2.2.1 (C.2.2.2.2.1 _ kl_D_54) d2 (lv_land C.1 C.2.1 d3 (by rw [lb_word ha]; exact k H locs ls hW hl)))
theorem J_wordm (C : Cx X cc nL R_D) {a : Nat} (d1 : decode cc pc = .ok (.i2l, 1)) (d2 : decode cc (pc + 1) = .ok (.ldc2_w 54, 3)) (d3 : decode cc (pc + 4) = .ok (.land, 1)) (k : J X (pc + 5) lv (.long (lN (a % 4294967296)) :: st) σ mn iv tw) : J X (pc) lv (.int (nI a) :: st) σ mn iv tw := by
  rw [← nb_mod a]
  exact J_word C d1 d2 d3 (Nat.mod_lt _ (by decide)) k
theorem J_hi (C : Cx X cc nL own) {a : Nat} (d1 : decode cc pc = .ok (.i2l, 1)) (d2 : decode cc (pc + 1) = .ok (.bipush 32, 2)) (d3 : decode cc (pc + 3) = .ok (.lshl, 1)) (ha : a < 4294967296) (k : J X (pc + 4) lv (.long (lN (a * 4294967296)) :: st) σ mn iv tw) : J X (pc) lv (.int (nI a) :: st) σ mn iv tw :=
  fun H locs ls hW hl => lv_i2l C.1 C.2.1 d1 rfl (lv_bipush C.1 C.2.1 d2 (v := nI 32) (by decide) (lv_lshl C.1 C.2.1 d3 (lb_hi ha) (k H locs ls hW hl)))
theorem J_lcmpge (C : Cx X cc nL own) {a b tgt : Nat} {off : Int} (d1 : decode cc pc = .ok (.lcmp, 1)) (d2 : decode cc (pc + 1) = .ok (.ifCond .ge off, 3)) (ht : ((pc + 1 : Nat) : Int) + off = (tgt : Int)) (ha : a < 9223372036854775808) (hb : b < 9223372036854775808) (k1 : b ≤ a → J X (tgt) lv (st) σ mn iv tw) (k2 : a < b → J X (pc + 4) lv (st) σ mn iv tw) : J X (pc) lv (.long (lN b) :: .long (lN a) :: st) σ mn iv tw :=
  fun H locs ls hW hl => W.lcmp C.1 C.2.1 d1 (lv_if_ge C.1 C.2.1 d2 ht (fun h => k1 ((lb_le hb ha).mp ((lg_cmp_ge _ _).mp h)) H locs ls hW hl) (fun h => k2 (Nat.lt_of_not_le fun h2 => h ((lg_cmp_ge _ _).mpr ((lb_le hb ha).mpr h2))) H locs ls hW hl))
theorem J_lcmp0ge (C : Cx X cc nL own) {a tgt : Nat} {off : Int} (d1 : decode cc pc = .ok (.lcmp, 1)) (d2 : decode cc (pc + 1) = .ok (.ifCond .ge off, 3)) (ht : ((pc + 1 : Nat) : Int) + off = (tgt : Int)) (ha : a < 18446744073709551616) (k1 : a < 9223372036854775808 → J X (tgt) lv (st) σ mn iv tw) (k2 : 9223372036854775808 ≤ a → J X (pc + 4) lv (st) σ mn iv tw) : J X (pc) lv (.long (lN 0) :: .long (lN a) :: st) σ mn iv tw :=
  fun H locs ls hW hl => W.lcmp C.1 C.2.1 d1 (lv_if_ge C.1 C.2.1 d2 ht (fun h => k1 ((lb_neg ha).mp ((lg_cmp_ge _ _).mp h)) H locs ls hW hl) (fun h => k2 (Nat.le_of_not_lt fun h2 => h ((lg_cmp_ge _ _).mpr ((lb_neg ha).mpr h2))) H locs ls hW hl))
theorem J_dup (C : Cx X cc nL own) {va : Value} (hdg : decode cc pc = .ok (.dup, 1)) (h : va.category = 1) (k : J X (pc + 1) lv (va :: va :: st) σ mn iv tw) : J X (pc) lv (va :: st) σ mn iv tw :=
  fun H locs ls hW hl => lv_dup C.1 C.2.1 hdg h (k H locs ls hW hl)
theorem J_dup2 (C : Cx X cc nL own) {va vb : Value} (hdg : decode cc pc = .ok (.dup2, 1)) (h : va.category = 1) (h2 : vb.category = 1) (k : J X (pc + 1) lv (va :: vb :: va :: vb :: st) σ mn iv tw) : J X (pc) lv (va :: vb :: st) σ mn iv tw :=
  fun H locs ls hW hl => lv_dup2_11 C.1 C.2.1 hdg h h2 (k H locs ls hW hl)
theorem J_goto (C : Cx X cc nL own) {off : Int} {tgt : Nat} (hdg : decode cc pc = .ok (.goto off, 3)) (ht : (pc : Int) + off = (tgt : Int)) (k : J X (tgt) lv (st) σ mn iv tw) : J X (pc) lv (st) σ mn iv tw :=
  fun H locs ls hW hl => lv_goto C.1 C.2.1 hdg ht (k H locs ls hW hl)
theorem J_ifeq (C : Cx X cc nL own) {off : Int} {tgt : Nat} {a : Nat} (hdg : decode cc pc = .ok (.ifCond .eq off, 3)) (ht : (pc : Int) + off = (tgt : Int)) (ha : a < 4294967296) (k1 : a = 0 → J X (tgt) lv (st) σ mn iv tw) (k2 : a ≠ 0 → J X (pc + 3) lv (st) σ mn iv tw) : J X (pc) lv (.int (nI a) :: st) σ mn iv tw :=
  fun H locs ls hW hl => lv_if_eq C.1 C.2.1 hdg ht (fun h => k1 ((nb_eq ha (by decide)).mp h) H locs ls hW hl) (fun h => k2 (fun e => h (by rw [e]; rfl)) H locs ls hW hl)
theorem J_ifne (C : Cx X cc nL own) {off : Int} {tgt : Nat} {a : Nat} (hdg : decode cc pc = .ok (.ifCond .ne off, 3)) (ht : (pc : Int) + off = (tgt : Int)) (ha : a < 4294967296) (k1 : a ≠ 0 → J X (tgt) lv (st) σ mn iv tw) (k2 : a = 0 → J X (pc + 3) lv (st) σ mn iv tw) : J X (pc) lv (.int (nI a) :: st) σ mn iv tw :=
  fun H locs ls hW hl => lv_if_ne C.1 C.2.1 hdg ht (fun h => k1 (fun e => h (by rw [e]; rfl)) H locs ls hW hl) (fun h => k2 ((nb_eq ha (by decide)).mp h) H locs ls hW hl)
theorem J_iflt (C : Cx X cc nL own) {off : Int} {tgt : Nat} {a : Nat} (hdg : decode cc pc = .ok (.ifCond .lt off, 3)) (ht : (pc : Int) + off = (tgt : Int)) (ha : a < 4294967296) (k1 : 2147483648 ≤ a → J X (tgt) lv (st) σ mn iv tw) (k2 : a < 2147483648 → J X (pc + 3) lv (st) σ mn iv tw) : J X (pc) lv (.int (nI a) :: st) σ mn iv tw :=
  fun H locs ls hW hl => lv_if_lt C.1 C.2.1 hdg ht (fun h => k1 ((nb_neg ha).mp h) H locs ls hW hl) (fun h => k2 (Nat.lt_of_not_le fun e => h ((nb_neg ha).mpr e)) H locs ls hW hl)
theorem J_ifge (C : Cx X cc nL own) {off : Int} {tgt : Nat} {a : Nat} (hdg : decode cc pc = .ok (.ifCond .ge off, 3)) (ht : (pc : Int) + off = (tgt : Int)) (ha : a < 4294967296) (k1 : a < 2147483648 → J X (tgt) lv (st) σ mn iv tw) (k2 : 2147483648 ≤ a → J X (pc + 3) lv (st) σ mn iv tw) : J X (pc) lv (.int (nI a) :: st) σ mn iv tw :=
  fun H locs ls hW hl => lv_if_ge C.1 C.2.1 hdg ht (fun h => k1 (Nat.lt_of_not_le fun e => (Int32.not_lt.mpr h) ((nb_neg ha).mpr e)) H locs ls hW hl) (fun h => k2 (Decidable.byContradiction fun e => h (Int32.not_lt.mp fun e2 => e ((nb_neg ha).mp e2))) H locs ls hW hl)
theorem J_ifle (C : Cx X cc nL own) {off : Int} {tgt : Nat} {a : Nat} (hdg : decode cc pc = .ok (.ifCond .le off, 3)) (ht : (pc : Int) + off = (tgt : Int)) (ha : a < 2147483648) (k1 : a = 0 → J X (tgt) lv (st) σ mn iv tw) (k2 : 0 < a → J X (pc + 3) lv (st) σ mn iv tw) : J X (pc) lv (.int (nI a) :: st) σ mn iv tw :=
  fun H locs ls hW hl => lv_if_le C.1 C.2.1 hdg ht (fun h => k1 (Nat.le_zero.mp ((nI_leI ha (by decide)).mp h)) H locs ls hW hl) (fun h => k2 (Nat.pos_of_ne_zero fun e => h (by rw [e]; exact (nI_leI (by decide) (by decide)).mpr (Nat.le_refl 0))) H locs ls hW hl)
theorem J_icmp_ge (C : Cx X cc nL own) {off : Int} {tgt : Nat} {a b : Nat} (hdg : decode cc pc = .ok (.if_icmp .ge off, 3)) (ht : (pc : Int) + off = (tgt : Int)) (ha : a < 2147483648) (hb : b < 2147483648) (k1 : b ≤ a → J X (tgt) lv (st) σ mn iv tw) (k2 : a < b → J X (pc + 3) lv (st) σ mn iv tw) : J X (pc) lv (.int (nI b) :: .int (nI a) :: st) σ mn iv tw :=
  fun H locs ls hW hl => lv_icmp_ge C.1 C.2.1 hdg ht (fun h => k1 ((nI_leI hb ha).mp h) H locs ls hW hl) (fun h => k2 (Nat.lt_of_not_le fun e => h ((nI_leI hb ha).mpr e)) H locs ls hW hl)
theorem J_icmp_gt (C : Cx X cc nL own) {off : Int} {tgt : Nat} {a b : Nat} (hdg : decode cc pc = .ok (.if_icmp .gt off, 3)) (ht : (pc : Int) + off = (tgt : Int)) (ha : a < 2147483648) (hb : b < 2147483648) (k1 : b < a → J X (tgt) lv (st) σ mn iv tw) (k2 : a ≤ b → J X (pc + 3) lv (st) σ mn iv tw) : J X (pc) lv (.int (nI b) :: .int (nI a) :: st) σ mn iv tw :=
  fun H locs ls hW hl => lv_icmp_gt C.1 C.2.1 hdg ht (fun h => k1 ((nI_ltI hb ha).mp h) H locs ls hW hl) (fun h => k2 (Nat.le_of_not_lt fun e => h ((nI_ltI hb ha).mpr e)) H locs ls hW hl)
theorem J_icmp_lt (C : Cx X cc nL own) {off : Int} {tgt : Nat} {a b : Nat} (hdg : decode cc pc = .ok (.if_icmp .lt off, 3)) (ht : (pc : Int) + off = (tgt : Int)) (ha : a < 2147483648) (hb : b < 2147483648) (k1 : a < b → J X (tgt) lv (st) σ mn iv tw) (k2 : b ≤ a → J X (pc + 3) lv (st) σ mn iv tw) : J X (pc) lv (.int (nI b) :: .int (nI a) :: st) σ mn iv tw :=
  fun H locs ls hW hl => lv_icmp_lt C.1 C.2.1 hdg ht (fun h => k1 ((nI_ltI ha hb).mp h) H locs ls hW hl) (fun h => k2 (Nat.le_of_not_lt fun e => h ((nI_ltI ha hb).mpr e)) H locs ls hW hl)
theorem J_icmp_le (C : Cx X cc nL own) {off : Int} {tgt : Nat} {a b : Nat} (hdg : decode cc pc = .ok (.if_icmp .le off, 3)) (ht : (pc : Int) + off = (tgt : Int)) (ha : a < 2147483648) (hb : b < 2147483648) (k1 : a ≤ b → J X (tgt) lv (st) σ mn iv tw) (k2 : b < a → J X (pc + 3) lv (st) σ mn iv tw) : J X (pc) lv (.int (nI b) :: .int (nI a) :: st) σ mn iv tw :=
  fun H locs ls hW hl => lv_icmp_le C.1 C.2.1 hdg ht (fun h => k1 ((nI_leI ha hb).mp h) H locs ls hW hl) (fun h => k2 (Nat.lt_of_not_le fun e => h ((nI_leI ha hb).mpr e)) H locs ls hW hl)
theorem J_icmp_eq (C : Cx X cc nL own) {off : Int} {tgt : Nat} {a b : Nat} (hdg : decode cc pc = .ok (.if_icmp .eq off, 3)) (ht : (pc : Int) + off = (tgt : Int)) (ha : a < 4294967296) (hb : b < 4294967296) (k1 : a = b → J X (tgt) lv (st) σ mn iv tw) (k2 : a ≠ b → J X (pc + 3) lv (st) σ mn iv tw) : J X (pc) lv (.int (nI b) :: .int (nI a) :: st) σ mn iv tw :=
  fun H locs ls hW hl => lv_icmp_eq C.1 C.2.1 hdg ht (fun h => k1 ((nb_eq ha hb).mp h) H locs ls hW hl) (fun h => k2 (fun e => h (by rw [e])) H locs ls hW hl)
theorem J_icmp_ne (C : Cx X cc nL own) {off : Int} {tgt : Nat} {a b : Nat} (hdg : decode cc pc = .ok (.if_icmp .ne off, 3)) (ht : (pc : Int) + off = (tgt : Int)) (ha : a < 4294967296) (hb : b < 4294967296) (k1 : a ≠ b → J X (tgt) lv (st) σ mn iv tw) (k2 : a = b → J X (pc + 3) lv (st) σ mn iv tw) : J X (pc) lv (.int (nI b) :: .int (nI a) :: st) σ mn iv tw :=
  fun H locs ls hW hl => lv_icmp_ne C.1 C.2.1 hdg ht (fun h => k1 (fun e => h (by rw [e])) H locs ls hW hl) (fun h => k2 ((nb_eq ha hb).mp h) H locs ls hW hl)
theorem J_ldc (C : Cx X cc nL R_M) (hdg : decode cc pc = .ok (.ldc 28, 2)) (k : J X (pc + 2) lv (.int (nI 65535) :: st) σ mn iv tw) : J X (pc) lv (st) σ mn iv tw :=
  fun H locs ls hW hl => lv_ldc C.1 C.2.1 (own := R_M) C.2.2.2.1 (C.2.2.2.2.1 _ ki_M_28) hdg (k H locs ls hW hl)
/-- fewer locals -/
theorem J_sub {lv' : List (Nat × Value)} (is : List Nat) (h : lv_pick lv is = lv') (k : J X pc lv' st σ mn iv tw) : J X pc lv st σ mn iv tw := fun H locs ls hW hl => k H locs ls hW (lv_sub hl is h)
theorem J_of {pc' : Nat} {lv' : List (Nat × Value)} {st' : List Value} {σ' : Nat → Nat → Nat} (k : J X pc' lv' st' σ' mn iv tw) (h1 : pc = pc') (h2 : lv = lv') (h3 : st = st') (h4 : σ = σ') : J X pc lv st σ mn iv tw := by
  subst h1 h2 h3 h4; exact k
/-- the words below 2^32 -/
theorem J_wb (k : Wb σ → J X pc lv st σ mn iv tw) : J X pc lv st σ mn iv tw := fun H locs ls hW hl => k hW.2.2.2 H locs ls hW hl
theorem ln_le (k : Nat) : ln k ≤ 33 := by unfold ln; repeat' split
                                          all_goals omega
theorem J_iaload (C : Cx X cc nL own) {q j : Nat} (hdg : decode cc pc = .ok (.iaload, 1)) (hq : q < 35) (hj : j < ln q) (k : J X (pc + 1) lv (.int (nI (σ q j)) :: st) σ mn iv tw) : J X pc lv (.int (nI j) :: .ref (ea (xE X) q) :: st) σ mn iv tw := by
  intro H locs ls hW hl
  have hb := ln_le q
  refine va_iald C.1 C.2.1 C.2.2.2.2.2.2 hW.1 (q + 3) 0 (wl_at hq) rfl (vp_in_nI hj (by omega)) hdg ?_
  rw [nI_clamp (by omega)]
  exact k H locs ls hW hl
theorem J_iastore (C : Cx X cc nL own) {q j v : Nat} (hdg : decode cc pc = .ok (.iastore, 1)) (hq : q < 35) (hj : j < ln q) (k : J X (pc + 1) lv st (up σ q (uf (σ q) j (v % 4294967296))) mn iv tw) : J X pc lv (.int (nI v) :: .int (nI j) :: .ref (ea (xE X) q) :: st) σ mn iv tw := by
  intro H locs ls hW hl
  have hb := ln_le q
  refine va_iast C.1 C.2.1 C.2.2.2.2.2.2 hW.1 hW.2.1 hW.2.2.1 (q + 3) 0 (wl_at hq) rfl (vp_in_nI hj (by omega)) hdg (fun H1 locs1 hP hD hS => ?_)
  have e : upd (fun j => nI (σ q j)) (nI j).toNatClampNeg (nI v) = fun j' => nI (uf (σ q) j (v % 4294967296) j') := by
    rw [nI_clamp (by omega)]
    funext j'
    unfold upd uf
    split
    · exact (nb_mod v).symm
    · rfl
  rw [e, wl_set hq] at hP hD
  exact k H1 locs1 ls ⟨hP, hD, hS, Wb_up hW.2.2.2 (uf_b (fun j => hW.2.2.2 q j) (Nat.mod_lt _ (by decide)))⟩ hl
theorem J_alen (C : Cx X cc nL own) {q : Nat} (hdg : decode cc pc = .ok (.arraylength, 1)) (hq : q < 35) (k : J X (pc + 1) lv (.int (nI (ln q)) :: st) σ mn iv tw) : J X pc lv (.ref (ea (xE X) q) :: st) σ mn iv tw := by
  intro H locs ls hW hl
  exact va_alen C.1 C.2.1 C.2.2.2.2.2.2 hW.1 (q + 3) 0 (wl_at hq) rfl rfl hdg (k H locs ls hW hl)
theorem J_aaload (C : Cx X cc nL own) {j : Nat} (hdg : decode cc pc = .ok (.aaload, 1)) (hj : j < 16) (k : J X (pc + 1) lv (.ref (ea (xE X) (13 + j)) :: st) σ mn iv tw) : J X pc lv (.int (nI j) :: .ref (eg (xE X)) :: st) σ mn iv tw := by
  intro H locs ls hW hl
  have hcl : (nI j).toNatClampNeg = j := nI_clamp (by omega)
  have hcell : H[eg (xE X)]? = some (arrV (eG (xE X)) 16 (fun j => .ref (ea (xE X) (13 + j)))) := hW.1 2 _ rfl
  refine W.aald (v := .ref (ea (xE X) (13 + j))) C.1 C.2.1 hcell ((C.2.2.2.2.2.2.2 1 _ rfl).1 16 _) rfl (fun q => by cases q) ?_ ?_ rfl rfl hdg (k H locs ls hW hl)
  · rw [arrV_size]
    exact vp_in_nI hj (by omega)
  · rw [hcl, arrV_read _ _ hj]
/-- a field of the desk, of the model -/
theorem J_getD (C : Cx X cc nL R_D) (i : Nat) {idx : Nat} {v : Value} (hdg : decode cc pc = .ok (.getfield idx, 3)) (hf : Cond.fieldLink R_D idx R_D (F_D i).2.1 (F_D i).2.2.1 ∈ gtb) (hi : i < 17) (h1 : (F_D i).1 = R_D) (hv : (fD (xE X) mn iv tw)[i]? = some v) (k : J X (pc + 3) lv (v :: st) σ mn iv tw) : J X pc lv (.ref (ex (xE X)) :: st) σ mn iv tw := by
  intro H locs ls hW hl
  exact va_get (own := R_D) (ref := R_D) C.1 C.2.1 C.2.2.2.2.1 i_D C.2.2.2.1 C.2.2.2.2.2.2 hW.1 0 (ci := 0) rfl rfl i hi (C.2.2.2.2.1 _ hf) (fun x h => by rw [h1] at h; exact h) hv hdg (k H locs ls hW hl)
theorem J_getM (C : Cx X cc nL R_M) (i : Nat) {idx : Nat} {v : Value} (hdg : decode cc pc = .ok (.getfield idx, 3)) (hf : Cond.fieldLink R_M idx R_M (F_M i).2.1 (F_M i).2.2.1 ∈ gtb) (hi : i < 6) (h1 : (F_M i).1 = R_M) (hv : (fM (xE X))[i]? = some v) (k : J X (pc + 3) lv (v :: st) σ mn iv tw) : J X pc lv (.ref (em (xE X)) :: st) σ mn iv tw := by
  intro H locs ls hW hl
  exact va_get (own := R_M) (ref := R_M) C.1 C.2.1 C.2.2.2.2.1 i_M C.2.2.2.1 C.2.2.2.2.2.2 hW.1 1 (ci := 1) rfl rfl i hi (C.2.2.2.2.1 _ hf) (fun x h => by rw [h1] at h; exact h) hv hdg (k H locs ls hW hl)
theorem J_get_modulus (C : Cx X cc nL R_D) (hdg : decode cc pc = .ok (.getfield 9, 3)) (k : J X (pc + 3) lv (.ref (ea (xE X) 0) :: st) σ mn iv tw) : J X (pc) lv (.ref (ex (xE X)) :: st) σ mn iv tw := J_getD C 0 hdg fl_D_9 (by decide) rfl rfl k
theorem J_get_base (C : Cx X cc nL R_D) (hdg : decode cc pc = .ok (.getfield 13, 3)) (k : J X (pc + 3) lv (.ref (ea (xE X) 1) :: st) σ mn iv tw) : J X (pc) lv (.ref (ex (xE X)) :: st) σ mn iv tw := J_getD C 1 hdg fl_D_13 (by decide) rfl rfl k
theorem J_get_power (C : Cx X cc nL R_D) (hdg : decode cc pc = .ok (.getfield 16, 3)) (k : J X (pc + 3) lv (.ref (ea (xE X) 2) :: st) σ mn iv tw) : J X (pc) lv (.ref (ex (xE X)) :: st) σ mn iv tw := J_getD C 2 hdg fl_D_16 (by decide) rfl rfl k
theorem J_get_answer (C : Cx X cc nL R_D) (hdg : decode cc pc = .ok (.getfield 19, 3)) (k : J X (pc + 3) lv (.ref (ea (xE X) 3) :: st) σ mn iv tw) : J X (pc) lv (.ref (ex (xE X)) :: st) σ mn iv tw := J_getD C 3 hdg fl_D_19 (by decide) rfl rfl k
theorem J_get_odd (C : Cx X cc nL R_D) (hdg : decode cc pc = .ok (.getfield 22, 3)) (k : J X (pc + 3) lv (.ref (ea (xE X) 4) :: st) σ mn iv tw) : J X (pc) lv (.ref (ex (xE X)) :: st) σ mn iv tw := J_getD C 4 hdg fl_D_22 (by decide) rfl rfl k
theorem J_get_many (C : Cx X cc nL R_D) (hdg : decode cc pc = .ok (.getfield 103, 3)) (k : J X (pc + 3) lv (.int (nI mn) :: st) σ mn iv tw) : J X (pc) lv (.ref (ex (xE X)) :: st) σ mn iv tw := J_getD C 5 hdg fl_D_103 (by decide) rfl rfl k
theorem J_get_inverse (C : Cx X cc nL R_D) (hdg : decode cc pc = .ok (.getfield 119, 3)) (k : J X (pc + 3) lv (.int (nI iv) :: st) σ mn iv tw) : J X (pc) lv (.ref (ex (xE X)) :: st) σ mn iv tw := J_getD C 6 hdg fl_D_119 (by decide) rfl rfl k
theorem J_get_twos (C : Cx X cc nL R_D) (hdg : decode cc pc = .ok (.getfield 113, 3)) (k : J X (pc + 3) lv (.int (nI tw) :: st) σ mn iv tw) : J X (pc) lv (.ref (ex (xE X)) :: st) σ mn iv tw := J_getD C 7 hdg fl_D_113 (by decide) rfl rfl k
theorem J_get_product (C : Cx X cc nL R_D) (hdg : decode cc pc = .ok (.getfield 25, 3)) (k : J X (pc + 3) lv (.ref (ea (xE X) 5) :: st) σ mn iv tw) : J X (pc) lv (.ref (ex (xE X)) :: st) σ mn iv tw := J_getD C 8 hdg fl_D_25 (by decide) rfl rfl k
theorem J_get_left (C : Cx X cc nL R_D) (hdg : decode cc pc = .ok (.getfield 28, 3)) (k : J X (pc + 3) lv (.ref (ea (xE X) 6) :: st) σ mn iv tw) : J X (pc) lv (.ref (ex (xE X)) :: st) σ mn iv tw := J_getD C 9 hdg fl_D_28 (by decide) rfl rfl k
theorem J_get_one (C : Cx X cc nL R_D) (hdg : decode cc pc = .ok (.getfield 31, 3)) (k : J X (pc + 3) lv (.ref (ea (xE X) 7) :: st) σ mn iv tw) : J X (pc) lv (.ref (ex (xE X)) :: st) σ mn iv tw := J_getD C 10 hdg fl_D_31 (by decide) rfl rfl k
theorem J_get_square (C : Cx X cc nL R_D) (hdg : decode cc pc = .ok (.getfield 34, 3)) (k : J X (pc + 3) lv (.ref (ea (xE X) 8) :: st) σ mn iv tw) : J X (pc) lv (.ref (ex (xE X)) :: st) σ mn iv tw := J_getD C 11 hdg fl_D_34 (by decide) rfl rfl k
theorem J_get_low (C : Cx X cc nL R_D) (hdg : decode cc pc = .ok (.getfield 37, 3)) (k : J X (pc + 3) lv (.ref (ea (xE X) 9) :: st) σ mn iv tw) : J X (pc) lv (.ref (ex (xE X)) :: st) σ mn iv tw := J_getD C 12 hdg fl_D_37 (by decide) rfl rfl k
theorem J_get_high (C : Cx X cc nL R_D) (hdg : decode cc pc = .ok (.getfield 40, 3)) (k : J X (pc + 3) lv (.ref (ea (xE X) 10) :: st) σ mn iv tw) : J X (pc) lv (.ref (ex (xE X)) :: st) σ mn iv tw := J_getD C 13 hdg fl_D_40 (by decide) rfl rfl k
theorem J_get_plain (C : Cx X cc nL R_D) (hdg : decode cc pc = .ok (.getfield 43, 3)) (k : J X (pc + 3) lv (.ref (ea (xE X) 11) :: st) σ mn iv tw) : J X (pc) lv (.ref (ex (xE X)) :: st) σ mn iv tw := J_getD C 14 hdg fl_D_43 (by decide) rfl rfl k
theorem J_get_window (C : Cx X cc nL R_D) (hdg : decode cc pc = .ok (.getfield 48, 3)) (k : J X (pc + 3) lv (.ref (eg (xE X)) :: st) σ mn iv tw) : J X (pc) lv (.ref (ex (xE X)) :: st) σ mn iv tw := J_getD C 15 hdg fl_D_48 (by decide) rfl rfl k
theorem J_get_sum (C : Cx X cc nL R_D) (hdg : decode cc pc = .ok (.getfield 51, 3)) (k : J X (pc + 3) lv (.ref (ea (xE X) 12) :: st) σ mn iv tw) : J X (pc) lv (.ref (ex (xE X)) :: st) σ mn iv tw := J_getD C 16 hdg fl_D_51 (by decide) rfl rfl k
theorem J_getM_m (C : Cx X cc nL R_M) (hdg : decode cc pc = .ok (.getfield 7, 3)) (k : J X (pc + 3) lv (.ref (ea (xE X) 29) :: st) σ mn iv tw) : J X (pc) lv (.ref (em (xE X)) :: st) σ mn iv tw := J_getM C 0 hdg fl_M_7 (by decide) rfl rfl k
theorem J_getM_a (C : Cx X cc nL R_M) (hdg : decode cc pc = .ok (.getfield 13, 3)) (k : J X (pc + 3) lv (.ref (ea (xE X) 30) :: st) σ mn iv tw) : J X (pc) lv (.ref (em (xE X)) :: st) σ mn iv tw := J_getM C 1 hdg fl_M_13 (by decide) rfl rfl k
theorem J_getM_e (C : Cx X cc nL R_M) (hdg : decode cc pc = .ok (.getfield 16, 3)) (k : J X (pc + 3) lv (.ref (ea (xE X) 31) :: st) σ mn iv tw) : J X (pc) lv (.ref (em (xE X)) :: st) σ mn iv tw := J_getM C 2 hdg fl_M_16 (by decide) rfl rfl k
theorem J_getM_z (C : Cx X cc nL R_M) (hdg : decode cc pc = .ok (.getfield 19, 3)) (k : J X (pc + 3) lv (.ref (ea (xE X) 32) :: st) σ mn iv tw) : J X (pc) lv (.ref (em (xE X)) :: st) σ mn iv tw := J_getM C 3 hdg fl_M_19 (by decide) rfl rfl k
theorem J_getM_t (C : Cx X cc nL R_M) (hdg : decode cc pc = .ok (.getfield 22, 3)) (k : J X (pc + 3) lv (.ref (ea (xE X) 33) :: st) σ mn iv tw) : J X (pc) lv (.ref (em (xE X)) :: st) σ mn iv tw := J_getM C 4 hdg fl_M_22 (by decide) rfl rfl k
theorem J_getM_u (C : Cx X cc nL R_M) (hdg : decode cc pc = .ok (.getfield 25, 3)) (k : J X (pc + 3) lv (.ref (ea (xE X) 34) :: st) σ mn iv tw) : J X (pc) lv (.ref (em (xE X)) :: st) σ mn iv tw := J_getM C 5 hdg fl_M_25 (by decide) rfl rfl k
theorem J_put_many (C : Cx X cc nL R_D) {v : Nat} (hdg : decode cc pc = .ok (.putfield 103, 3)) (k : J X (pc + 3) lv st σ v iv tw) : J X (pc) lv (.int (nI v) :: .ref (ex (xE X)) :: st) σ mn iv tw := by
  intro H locs ls hW hl
  refine va_put (own := R_D) (ref := R_D) C.1 C.2.1 C.2.2.2.2.1 i_D t_D t_D_ok n_D C.2.2.2.1 C.2.2.2.2.2.2 hW.1 hW.2.1 hW.2.2.1 0 (ci := 0) rfl rfl 5 (by decide) (C.2.2.2.2.1 _ fl_D_103) (fun x h => h) rfl (ty := .int) rfl rfl rfl (Nat.le_of_ble_eq_true rfl) hdg (fun H1 locs1 hP hD hS => ?_)
  exact k H1 locs1 ls ⟨hP, hD, hS, hW.2.2.2⟩ hl
theorem J_put_inverse (C : Cx X cc nL R_D) {v : Nat} (hdg : decode cc pc = .ok (.putfield 119, 3)) (k : J X (pc + 3) lv st σ mn v tw) : J X (pc) lv (.int (nI v) :: .ref (ex (xE X)) :: st) σ mn iv tw := by
  intro H locs ls hW hl
  refine va_put (own := R_D) (ref := R_D) C.1 C.2.1 C.2.2.2.2.1 i_D t_D t_D_ok n_D C.2.2.2.1 C.2.2.2.2.2.2 hW.1 hW.2.1 hW.2.2.1 0 (ci := 0) rfl rfl 6 (by decide) (C.2.2.2.2.1 _ fl_D_119) (fun x h => h) rfl (ty := .int) rfl rfl rfl (Nat.le_of_ble_eq_true rfl) hdg (fun H1 locs1 hP hD hS => ?_)
  exact k H1 locs1 ls ⟨hP, hD, hS, hW.2.2.2⟩ hl
theorem J_put_twos (C : Cx X cc nL R_D) {v : Nat} (hdg : decode cc pc = .ok (.putfield 113, 3)) (k : J X (pc + 3) lv st σ mn iv v) : J X (pc) lv (.int (nI v) :: .ref (ex (xE X)) :: st) σ mn iv tw := by
  intro H locs ls hW hl
  refine va_put (own := R_D) (ref := R_D) C.1 C.2.1 C.2.2.2.2.1 i_D t_D t_D_ok n_D C.2.2.2.1 C.2.2.2.2.2.2 hW.1 hW.2.1 hW.2.2.1 0 (ci := 0) rfl rfl 7 (by decide) (C.2.2.2.2.1 _ fl_D_113) (fun x h => h) rfl (ty := .int) rfl rfl rfl (Nat.le_of_ble_eq_true rfl) hdg (fun H1 locs1 hP hD hS => ?_)
  exact k H1 locs1 ls ⟨hP, hD, hS, hW.2.2.2⟩ hl
/-- System.arraycopy between two of the arrays (they may be one) -/
theorem J_copy (C : Cx X cc nL R_D) {q0 q1 sp dp n : Nat} (hdg : decode cc pc = .ok (.invokestatic 78, 3)) (hq0 : q0 < 35) (hq1 : q1 < 35) (h4 : sp + n ≤ ln q0) (h5 : dp + n ≤ ln q1) (hf : 1 ≤ (xR X).frames) (hlo : (st.map fun v => v.category).sum + 18 ≤ (xR X).locals)
    (k : J X (pc + 3) lv st (up σ q1 (va_cpy (σ q0) (σ q1) sp dp n)) mn iv tw) : J X pc lv (.int (nI n) :: .int (nI dp) :: .ref (ea (xE X) q1) :: .int (nI sp) :: .ref (ea (xE X) q0) :: st) σ mn iv tw := by
  intro H locs ls hW hl
  have hb0 := ln_le q0
  have hb1 := ln_le q1
  have e1 : (nI sp).toNatClampNeg = sp := nI_clamp (by omega)
  have e2 : (nI dp).toNatClampNeg = dp := nI_clamp (by omega)
  have e3 : (nI n).toNatClampNeg = n := nI_clamp (by omega)
  refine va_copyi C.1 C.2.1 (by rw [hl.1, C.2.2.1]; exact C.2.2.2.2.2.1.1.symm) (own := R_D) (index := 78) C.2.2.2.1 (C.2.2.2.2.1 _ ml_D_78) (C.2.2.2.2.1 _ na_S_arraycopy) (C.2.2.2.2.1 _ st_S_arraycopy) (C.2.2.2.2.1 _ ini_S) C.2.2.2.2.2.2 hW.1 hW.2.1 hW.2.2.1 (q0 + 3) (q1 + 3) 0 0 (wl_at hq0) (wl_at hq1) rfl rfl rfl
    (nI_pos (by omega)) (nI_pos (by omega)) (nI_pos (by omega)) (by rw [e1, e3]; exact h4) (by rw [e2, e3]; exact h5) (fun i _ => rfl) hf (by simpa [nativeFrameWords] using hlo) hdg (fun H1 locs1 hP hD hS => ?_)
  rw [e1, e2, e3] at hP hD
  have e : va_cpy (fun j => nI (σ q0 j)) (fun j => nI (σ q1 j)) sp dp n = fun j => nI (va_cpy (σ q0) (σ q1) sp dp n j) := by
    funext j
    unfold va_cpy
    split <;> rfl
  rw [e, wl_set hq1] at hP hD
  refine k H1 locs1 ls ⟨hP, hD, hS, Wb_up hW.2.2.2 (fun j => ?_)⟩ hl
  unfold va_cpy
  split
  · exact hW.2.2.2 _ _
  · exact hW.2.2.2 _ _
end JR
end
section
/-! contracts over the one world, calls, returns -/
def Ret (X : Ctx) (cc : ByteArray) (ins : Instr) (st : List Value) (σ : Nat → Nat → Nat) (mn iv tw : Nat) : Prop := ∀ (pc : Nat) (lv : List (Nat × Value)), decode cc pc = .ok (ins, 1) → J X pc lv st σ mn iv tw
/-- a method that answers nothing and keeps the desk's numbers -/
def MV (l : Launch) (y : MethodName) (cy : ByteArray) (nY : Nat) (rm : Room) (As : List Value) (E : En) (A : Nat → Prop) (σ : Nat → Nat → Nat) (mn iv tw : Nat) (post : (Nat → Nat → Nat) → Prop) : Prop :=
  Met l y (.code y cy nY none :: gtb) rm (va_Pc As (Wst E A σ mn iv tw)) (va_Qv post (fun u t => Wst E A u mn iv tw t) A) 0 0 A
/-- one that may change them -/
def MF (l : Launch) (y : MethodName) (cy : ByteArray) (nY : Nat) (rm : Room) (As : List Value) (E : En) (A : Nat → Prop) (σ : Nat → Nat → Nat) (mn iv tw : Nat) (post : (Nat → Nat → Nat) × Nat × Nat × Nat → Prop) : Prop :=
  Met l y (.code y cy nY none :: gtb) rm (va_Pc As (Wst E A σ mn iv tw)) (va_Qv post (fun u t => Wst E A u.1 u.2.1 u.2.2.1 u.2.2.2 t) A) 0 0 A
/-- one that answers an int -/
def MI (rt : FieldType) (l : Launch) (y : MethodName) (cy : ByteArray) (nY : Nat) (rm : Room) (As : List Value) (E : En) (A : Nat → Prop) (σ : Nat → Nat → Nat) (mn iv tw : Nat) (post : Nat → (Nat → Nat → Nat) → Prop) : Prop :=
  Met l y (.code y cy nY (some rt) :: gtb) rm (va_Pc As (Wst E A σ mn iv tw)) (va_Qi (fun r u => ∃ n, r = nI n ∧ post n u) (fun u t => Wst E A u mn iv tw t) A) 0 0 A
section MK
variable {l : Launch} {y : MethodName} {cy : ByteArray} {nY : Nat} {rm : Room} {As : List Value} {E : En} {A : Nat → Prop} {σ : Nat → Nat → Nat} {mn iv tw : Nat}
theorem mk_v {post : (Nat → Nat → Nat) → Prop} (hy : plainName y.cls = true) (hA : (lg_sl As).length ≤ nY)
    (body : ∀ X : Ctx, Cx X cy nY y.cls → xR X = rm → xE X = E → (∀ u, post u → Ret X cy .return_ [] u mn iv tw) → J X 0 (lv_args 0 As) [] σ mn iv tw) : MV l y cy nY rm As E A σ mn iv tw post := by
  refine Met.ofW (cc := cy) (maxL := nY) (ret := none) hy rfl ?_
  intro p e s m args below meth c s₁ Bd hml hv
  obtain ⟨rfl, hP, hD, hK, hB⟩ := hv
  have C : Cx (p, l, e, rm, s, m, As.toArray, below, meth, c, (nY, 0, 0), E, A, MQ below (va_Qv post (fun u t => Wst E A u mn iv tw t) A) As.toArray s 0 0 A) cy nY y.cls :=
    ⟨Bd.exec, Bd.bytes, hml, findClass_of_methodNamed Bd.named, fun w hw => atoms_spec (ws := .code y cy nY none :: gtb) Bd.pre w (List.mem_cons_of_mem _ hw), ⟨rfl, Nat.zero_le _, Nat.zero_le _⟩, hK⟩
  rw [lg_entry_eq]
  refine body _ C rfl rfl (fun u hu pc lv hd => ?_) s.heap [] _ ⟨hP, hD, va_S.rf, hB⟩ (lv_entry As hA)
  intro H locs ls hW hl
  exact W.vret Bd.exec Bd.bytes Bd.returns (fun t ht hWt => ⟨⟨u, rfl, hu, by rw [ht]; exact hW.1, hW.2.1, va_K.moved hWt.alike hK, hW.2.2.2⟩, hW.2.2.1.F ht⟩) hW.2.2.1.2.2 hd Bd.notSynchronized
theorem mk_f {post : (Nat → Nat → Nat) × Nat × Nat × Nat → Prop} (hy : plainName y.cls = true) (hA : (lg_sl As).length ≤ nY)
    (body : ∀ X : Ctx, Cx X cy nY y.cls → xR X = rm → xE X = E → (∀ u, post u → Ret X cy .return_ [] u.1 u.2.1 u.2.2.1 u.2.2.2) → J X 0 (lv_args 0 As) [] σ mn iv tw) : MF l y cy nY rm As E A σ mn iv tw post := by
  refine Met.ofW (cc := cy) (maxL := nY) (ret := none) hy rfl ?_
  intro p e s m args below meth c s₁ Bd hml hv
  obtain ⟨rfl, hP, hD, hK, hB⟩ := hv
  have C : Cx (p, l, e, rm, s, m, As.toArray, below, meth, c, (nY, 0, 0), E, A, MQ below (va_Qv post (fun u t => Wst E A u.1 u.2.1 u.2.2.1 u.2.2.2 t) A) As.toArray s 0 0 A) cy nY y.cls :=
    ⟨Bd.exec, Bd.bytes, hml, findClass_of_methodNamed Bd.named, fun w hw => atoms_spec (ws := .code y cy nY none :: gtb) Bd.pre w (List.mem_cons_of_mem _ hw), ⟨rfl, Nat.zero_le _, Nat.zero_le _⟩, hK⟩
  rw [lg_entry_eq]
  refine body _ C rfl rfl (fun u hu pc lv hd => ?_) s.heap [] _ ⟨hP, hD, va_S.rf, hB⟩ (lv_entry As hA)
  intro H locs ls hW hl
  exact W.vret Bd.exec Bd.bytes Bd.returns (fun t ht hWt => ⟨⟨u, rfl, hu, by rw [ht]; exact hW.1, hW.2.1, va_K.moved hWt.alike hK, hW.2.2.2⟩, hW.2.2.1.F ht⟩) hW.2.2.1.2.2 hd Bd.notSynchronized
theorem mk_i {post : Nat → (Nat → Nat → Nat) → Prop} (hy : plainName y.cls = true) (hA : (lg_sl As).length ≤ nY)
    (body : ∀ X : Ctx, Cx X cy nY y.cls → xR X = rm → xE X = E → (∀ n u, post n u → Ret X cy .ireturn [.int (nI n)] u mn iv tw) → J X 0 (lv_args 0 As) [] σ mn iv tw) : MI .int l y cy nY rm As E A σ mn iv tw post := by
  refine Met.ofW (cc := cy) (maxL := nY) (ret := some .int) hy rfl ?_
  intro p e s m args below meth c s₁ Bd hml hv
  obtain ⟨rfl, hP, hD, hK, hB⟩ := hv
  have C : Cx (p, l, e, rm, s, m, As.toArray, below, meth, c, (nY, 0, 0), E, A, MQ below (va_Qi (fun r u => ∃ n, r = nI n ∧ post n u) (fun u t => Wst E A u mn iv tw t) A) As.toArray s 0 0 A) cy nY y.cls :=
    ⟨Bd.exec, Bd.bytes, hml, findClass_of_methodNamed Bd.named, fun w hw => atoms_spec (ws := .code y cy nY (some .int) :: gtb) Bd.pre w (List.mem_cons_of_mem _ hw), ⟨rfl, Nat.zero_le _, Nat.zero_le _⟩, hK⟩
  rw [lg_entry_eq]
  refine body _ C rfl rfl (fun n u hu pc lv hd => ?_) s.heap [] _ ⟨hP, hD, va_S.rf, hB⟩ (lv_entry As hA)
  intro H locs ls hW hl
  exact W.iret Bd.exec Bd.bytes Bd.returns (fun t ht hWt => ⟨⟨_, u, rfl, ⟨n, rfl, hu⟩, by rw [ht]; exact hW.1, hW.2.1, va_K.moved hWt.alike hK, hW.2.2.2⟩, hW.2.2.1.F ht⟩) hW.2.2.1.2.2 hd Bd.notSynchronized
theorem nar_z {n : Nat} (h : n < 2) : narrow .boolean (.int (nI n)) = .int (nI n) := by
  rcases (show n = 0 ∨ n = 1 by omega) with rfl | rfl <;> rfl
theorem mk_z {post : Nat → (Nat → Nat → Nat) → Prop} (hy : plainName y.cls = true) (hA : (lg_sl As).length ≤ nY) (hp : ∀ n u, post n u → n < 2)
    (body : ∀ X : Ctx, Cx X cy nY y.cls → xR X = rm → xE X = E → (∀ n u, post n u → Ret X cy .ireturn [.int (nI n)] u mn iv tw) → J X 0 (lv_args 0 As) [] σ mn iv tw) : MI .boolean l y cy nY rm As E A σ mn iv tw post := by
  refine Met.ofW (cc := cy) (maxL := nY) (ret := some .boolean) hy rfl ?_
  intro p e s m args below meth c s₁ Bd hml hv
  obtain ⟨rfl, hP, hD, hK, hB⟩ := hv
  have C : Cx (p, l, e, rm, s, m, As.toArray, below, meth, c, (nY, 0, 0), E, A, MQ below (va_Qi (fun r u => ∃ n, r = nI n ∧ post n u) (fun u t => Wst E A u mn iv tw t) A) As.toArray s 0 0 A) cy nY y.cls :=
    ⟨Bd.exec, Bd.bytes, hml, findClass_of_methodNamed Bd.named, fun w hw => atoms_spec (ws := .code y cy nY (some .boolean) :: gtb) Bd.pre w (List.mem_cons_of_mem _ hw), ⟨rfl, Nat.zero_le _, Nat.zero_le _⟩, hK⟩
  rw [lg_entry_eq]
  refine body _ C rfl rfl (fun n u hu pc lv hd => ?_) s.heap [] _ ⟨hP, hD, va_S.rf, hB⟩ (lv_entry As hA)
  intro H locs ls hW hl
  exact W.zret Bd.exec Bd.bytes Bd.returns (nar_z (hp n u hu)) (fun t ht hWt => ⟨⟨_, u, rfl, ⟨n, rfl, hu⟩, by rw [ht]; exact hW.1, hW.2.1, va_K.moved hWt.alike hK, hW.2.2.2⟩, hW.2.2.1.F ht⟩) hW.2.2.1.2.2 hd Bd.notSynchronized
end MK
section JC
variable {X : Ctx} {cc : ByteArray} {nL : Nat} {own : String} {pc : Nat} {lv : List (Nat × Value)} {st stk : List Value} {σ : Nat → Nat → Nat} {mn iv tw : Nat}
variable {y : MethodName} {cy : ByteArray} {nY : Nat} {rm : Room} {As : List Value}
theorem Wst_blind {E : En} {A : Nat → Prop} : FrameBlind (va_Pc As (Wst E A σ mn iv tw)) := fun a U g mk q => by
  obtain ⟨q0, qP, qD, qK, qB⟩ := q
  exact ⟨q0, qP, qD, va_K.moved (u := U) (U := U.calling g mk a) (Vm.Alike.refl U.vm) qK, qB⟩
theorem Wst_of (C : Cx X cc nL own) {H : Heap} {locs : List Loc} (hW : Wd X σ mn iv tw H locs) {U : State} (hU : U.heap = H) (h : (xs X).WarmedH U.vm) : Wst (xE X) (xA X) σ mn iv tw U :=
  ⟨by rw [hU]; exact hW.1, hW.2.1, va_K.moved h.alike C.2.2.2.2.2.2, hW.2.2.2⟩
theorem gi_all {ret0 : Option FieldType} (hmc : Cond.code y cy nY ret0 ∈ gtb) : GoodIn gtb (Cond.code y cy nY ret0 :: gtb) := by
  intro w hw
  rcases List.mem_cons.mp hw with rfl | h
  · exact ⟨hmc, good_tbl _ hmc⟩
  · exact ⟨h, good_tbl w h⟩
/-- what a call asks of names and room -/
def CallOk (X : Ctx) (own : String) (idx : Nat) (y : MethodName) (cy : ByteArray) (nY : Nat) (ret0 : Option FieldType) (rm : Room) (n : Nat) : Prop :=
  (Cond.methodLink own idx y ∈ gtb ∧ Cond.initialized y.cls ∈ gtb ∧ Cond.code y cy nY ret0 ∈ gtb) ∧ (y.cls ≠ "java/lang/invoke/MethodHandle" ∧ y.cls ≠ "java/lang/invoke/VarHandle" ∧ (parseMethodDescriptor y.desc).map (fun d => d.parameters.length) = some n) ∧ (rm.cells = 0 ∧ rm.slots = 0) ∧ (rm.frames + 1 ≤ (xR X).frames ∧ 8 + (nY + 11) + rm.locals ≤ (xR X).locals)
theorem callB_x (C : Cx X cc nL own) {idx n : Nat} {ret0 : Option FieldType} (hc : CallOk X own idx y cy nY ret0 rm n) : CallB (xR X) (xs X) (xa X) own idx y cy nY ret0 (.code y cy nY ret0 :: gtb) rm 0 0 n :=
  callB_of n C.2.2.2.2.1 (gi_all hc.1.2.2) rfl hc.2.2.1.1 hc.2.2.1.2 (C.2.2.2.2.1 _ hc.1.2.1) (C.2.2.2.2.1 _ hc.1.1) hc.2.1 hc.2.2.2
theorem J_callSv {post : (Nat → Nat → Nat) → Prop} (C : Cx X cc nL own) {idx : Nat} (hdg : decode cc pc = .ok (.invokestatic idx, 3)) (hM : MV (xl X) y cy nY rm As (xE X) (xA X) σ mn iv tw post) (hc : CallOk X own idx y cy nY none rm As.length) (hs : Cond.static y ∈ gtb) (hst : stk = As.reverse ++ st) (h8 : (st.map fun v => v.category).sum ≤ 8)
    (k : ∀ u, post u → J X (pc + 3) lv st u mn iv tw) : J X pc lv stk σ mn iv tw := by
  intro H locs ls hW hl
  refine va_callv (A1 := xA X) (va_runS (As := As) (rest := st) ⟨C.1, C.2.1, C.2.2.1, C.2.2.2.1, C.2.2.2.2.1⟩ hM ⟨callB_x C hc, C.2.2.2.2.1 _ hs⟩ ⟨Wst_blind, fun U hU hWU => ⟨rfl, Wst_of C hW hU hWU⟩⟩ rfl rfl (by rw [hl.1]; exact C.2.2.2.2.2.1.1) hst (lv_room h8) hdg ⟨C.2.2.2.2.2.1.2.1, C.2.2.2.2.2.1.2.2⟩) hW.2.2.1 (fun q _ h => h) (fun q h => h) (fun u t H1 locs1 ht hvm hp hB hz hk hS => ?_)
  obtain ⟨b1, b2, b3, b4⟩ := hB
  rw [ht] at b1
  exact k u hp H1 locs1 ls ⟨b1, b2, hS, b4⟩ hl
theorem J_callSi {post : Nat → (Nat → Nat → Nat) → Prop} {rt : FieldType} (C : Cx X cc nL own) {idx : Nat} (hdg : decode cc pc = .ok (.invokestatic idx, 3)) (hM : MI rt (xl X) y cy nY rm As (xE X) (xA X) σ mn iv tw post) (hc : CallOk X own idx y cy nY (some rt) rm As.length) (hs : Cond.static y ∈ gtb) (hst : stk = As.reverse ++ st) (h8 : (st.map fun v => v.category).sum ≤ 8)
    (k : ∀ n u, post n u → J X (pc + 3) lv (.int (nI n) :: st) u mn iv tw) : J X pc lv stk σ mn iv tw := by
  intro H locs ls hW hl
  refine va_calli (A1 := xA X) (va_runS (As := As) (rest := st) ⟨C.1, C.2.1, C.2.2.1, C.2.2.2.1, C.2.2.2.2.1⟩ hM ⟨callB_x C hc, C.2.2.2.2.1 _ hs⟩ ⟨Wst_blind, fun U hU hWU => ⟨rfl, Wst_of C hW hU hWU⟩⟩ rfl rfl (by rw [hl.1]; exact C.2.2.2.2.2.1.1) hst (lv_room h8) hdg ⟨C.2.2.2.2.2.1.2.1, C.2.2.2.2.2.1.2.2⟩) hW.2.2.1 (fun q _ h => h) (fun q h => h) (fun r u t H1 locs1 ht hvm hp hB hz hk hS => ?_)
  obtain ⟨n, rfl, hp⟩ := hp
  obtain ⟨b1, b2, b3, b4⟩ := hB
  rw [ht] at b1
  exact k n u hp H1 locs1 ls ⟨b1, b2, hS, b4⟩ hl
theorem recvD (C : Cx X cc nL own) {H : Heap} {locs : List Loc} (hW : Wd X σ mn iv tw H locs) : ∃ cell : Cell, H[ex (xE X)]? = some cell ∧ cell.vm.isStatics = false ∧ (xs X).vm.findClass R_D = some cell.cls := va_recv C.2.2.2.2.2.2 hW.1 (ci := 0) (q0 := 0) rfl rfl
theorem recvM (C : Cx X cc nL own) {H : Heap} {locs : List Loc} (hW : Wd X σ mn iv tw H locs) : ∃ cell : Cell, H[em (xE X)]? = some cell ∧ cell.vm.isStatics = false ∧ (xs X).vm.findClass R_M = some cell.cls := va_recv C.2.2.2.2.2.2 hW.1 (ci := 1) (q0 := 1) rfl rfl
/-- a call of a method of the class R of the object at b -/
theorem J_callVv {post : (Nat → Nat → Nat) → Prop} (R : String) (b : Nat) (C : Cx X cc nL own) (hb : ∀ H locs, Wd X σ mn iv tw H locs → ∃ cell : Cell, H[b]? = some cell ∧ cell.vm.isStatics = false ∧ (xs X).vm.findClass R = some cell.cls) {idx : Nat} (hdg : decode cc pc = .ok (.invokevirtual idx, 3)) (hM : MV (xl X) y cy nY rm (.ref b :: As) (xE X) (xA X) σ mn iv tw post) (hc : CallOk X own idx y cy nY none rm As.length) (hi : Cond.instanceMethod y ∈ gtb) (hse : Cond.selects R y y ∈ gtb) (hst : stk = As.reverse ++ .ref b :: st) (h8 : (st.map fun v => v.category).sum ≤ 8)
    (k : ∀ u, post u → J X (pc + 3) lv st u mn iv tw) : J X pc lv stk σ mn iv tw := by
  intro H locs ls hW hl
  refine va_callv (A1 := xA X) (va_runV (C := R) (b := b) (As := As) (rest := st) ⟨C.1, C.2.1, C.2.2.1, C.2.2.2.1, C.2.2.2.2.1⟩ hM ⟨callB_x C hc, C.2.2.2.2.1 _ hi, C.2.2.2.2.1 _ hse⟩ ⟨Wst_blind, hb H locs hW, fun U hU hWU => ⟨rfl, Wst_of C hW hU hWU⟩⟩ rfl rfl (by rw [hl.1]; exact C.2.2.2.2.2.1.1) hst (lv_room h8) hdg ⟨C.2.2.2.2.2.1.2.1, C.2.2.2.2.2.1.2.2⟩) hW.2.2.1 (fun q _ h => h) (fun q h => h) (fun u t H1 locs1 ht hvm hp hB hz hk hS => ?_)
  obtain ⟨b1, b2, b3, b4⟩ := hB
  rw [ht] at b1
  exact k u hp H1 locs1 ls ⟨b1, b2, hS, b4⟩ hl
theorem J_callVf {post : (Nat → Nat → Nat) × Nat × Nat × Nat → Prop} (R : String) (b : Nat) (C : Cx X cc nL own) (hb : ∀ H locs, Wd X σ mn iv tw H locs → ∃ cell : Cell, H[b]? = some cell ∧ cell.vm.isStatics = false ∧ (xs X).vm.findClass R = some cell.cls) {idx : Nat} (hdg : decode cc pc = .ok (.invokevirtual idx, 3)) (hM : MF (xl X) y cy nY rm (.ref b :: As) (xE X) (xA X) σ mn iv tw post) (hc : CallOk X own idx y cy nY none rm As.length) (hi : Cond.instanceMethod y ∈ gtb) (hse : Cond.selects R y y ∈ gtb) (hst : stk = As.reverse ++ .ref b :: st) (h8 : (st.map fun v => v.category).sum ≤ 8)
    (k : ∀ u, post u → J X (pc + 3) lv st u.1 u.2.1 u.2.2.1 u.2.2.2) : J X pc lv stk σ mn iv tw := by
  intro H locs ls hW hl
  refine va_callv (A1 := xA X) (va_runV (C := R) (b := b) (As := As) (rest := st) ⟨C.1, C.2.1, C.2.2.1, C.2.2.2.1, C.2.2.2.2.1⟩ hM ⟨callB_x C hc, C.2.2.2.2.1 _ hi, C.2.2.2.2.1 _ hse⟩ ⟨Wst_blind, hb H locs hW, fun U hU hWU => ⟨rfl, Wst_of C hW hU hWU⟩⟩ rfl rfl (by rw [hl.1]; exact C.2.2.2.2.2.1.1) hst (lv_room h8) hdg ⟨C.2.2.2.2.2.1.2.1, C.2.2.2.2.2.1.2.2⟩) hW.2.2.1 (fun q _ h => h) (fun q h => h) (fun u t H1 locs1 ht hvm hp hB hz hk hS => ?_)
  obtain ⟨b1, b2, b3, b4⟩ := hB
  rw [ht] at b1
  exact k u hp H1 locs1 ls ⟨b1, b2, hS, b4⟩ hl
theorem J_callVi {post : Nat → (Nat → Nat → Nat) → Prop} {rt : FieldType} (R : String) (b : Nat) (C : Cx X cc nL own) (hb : ∀ H locs, Wd X σ mn iv tw H locs → ∃ cell : Cell, H[b]? = some cell ∧ cell.vm.isStatics = false ∧ (xs X).vm.findClass R = some cell.cls) {idx : Nat} (hdg : decode cc pc = .ok (.invokevirtual idx, 3)) (hM : MI rt (xl X) y cy nY rm (.ref b :: As) (xE X) (xA X) σ mn iv tw post) (hc : CallOk X own idx y cy nY (some rt) rm As.length) (hi : Cond.instanceMethod y ∈ gtb) (hse : Cond.selects R y y ∈ gtb) (hst : stk = As.reverse ++ .ref b :: st) (h8 : (st.map fun v => v.category).sum ≤ 8)
    (k : ∀ n u, post n u → J X (pc + 3) lv (.int (nI n) :: st) u mn iv tw) : J X pc lv stk σ mn iv tw := by
  intro H locs ls hW hl
  refine va_calli (A1 := xA X) (va_runV (C := R) (b := b) (As := As) (rest := st) ⟨C.1, C.2.1, C.2.2.1, C.2.2.2.1, C.2.2.2.2.1⟩ hM ⟨callB_x C hc, C.2.2.2.2.1 _ hi, C.2.2.2.2.1 _ hse⟩ ⟨Wst_blind, hb H locs hW, fun U hU hWU => ⟨rfl, Wst_of C hW hU hWU⟩⟩ rfl rfl (by rw [hl.1]; exact C.2.2.2.2.2.1.1) hst (lv_room h8) hdg ⟨C.2.2.2.2.2.1.2.1, C.2.2.2.2.2.1.2.2⟩) hW.2.2.1 (fun q _ h => h) (fun q h => h) (fun r u t H1 locs1 ht hvm hp hB hz hk hS => ?_)
  obtain ⟨n, rfl, hp⟩ := hp
  obtain ⟨b1, b2, b3, b4⟩ := hB
  rw [ht] at b1
  exact k n u hp H1 locs1 ls ⟨b1, b2, hS, b4⟩ hl
end JC
end
section
abbrev rm_D_compare : Room := { frames := 0, cells := 0, slots := 0, locals := 0 }
theorem co_D_compare : y_D_compare.cls ≠ "java/lang/invoke/MethodHandle" ∧ y_D_compare.cls ≠ "java/lang/invoke/VarHandle" ∧ (parseMethodDescriptor y_D_compare.desc).map (fun d => d.parameters.length) = some 2 := by decide +kernel
abbrev rm_D_put : Room := { frames := 0, cells := 0, slots := 0, locals := 0 }
theorem co_D_put : y_D_put.cls ≠ "java/lang/invoke/MethodHandle" ∧ y_D_put.cls ≠ "java/lang/invoke/VarHandle" ∧ (parseMethodDescriptor y_D_put.desc).map (fun d => d.parameters.length) = some 6 := by decide +kernel
abbrev rm_D_twice : Room := { frames := 0, cells := 0, slots := 0, locals := 0 }
theorem co_D_twice : y_D_twice.cls ≠ "java/lang/invoke/MethodHandle" ∧ y_D_twice.cls ≠ "java/lang/invoke/VarHandle" ∧ (parseMethodDescriptor y_D_twice.desc).map (fun d => d.parameters.length) = some 2 := by decide +kernel
abbrev rm_D_subtract : Room := { frames := 0, cells := 0, slots := 0, locals := 0 }
theorem co_D_subtract : y_D_subtract.cls ≠ "java/lang/invoke/MethodHandle" ∧ y_D_subtract.cls ≠ "java/lang/invoke/VarHandle" ∧ (parseMethodDescriptor y_D_subtract.desc).map (fun d => d.parameters.length) = some 2 := by decide +kernel
abbrev rm_D_leave : Room := { frames := 2, cells := 0, slots := 0, locals := 46 }
theorem co_D_leave : y_D_leave.cls ≠ "java/lang/invoke/MethodHandle" ∧ y_D_leave.cls ≠ "java/lang/invoke/VarHandle" ∧ (parseMethodDescriptor y_D_leave.desc).map (fun d => d.parameters.length) = some 4 := by decide +kernel
abbrev rm_D_reduce : Room := { frames := 3, cells := 0, slots := 0, locals := 72 }
theorem co_D_reduce : y_D_reduce.cls ≠ "java/lang/invoke/MethodHandle" ∧ y_D_reduce.cls ≠ "java/lang/invoke/VarHandle" ∧ (parseMethodDescriptor y_D_reduce.desc).map (fun d => d.parameters.length) = some 1 := by decide +kernel
abbrev rm_D_times : Room := { frames := 2, cells := 0, slots := 0, locals := 46 }
theorem co_D_times : y_D_times.cls ≠ "java/lang/invoke/MethodHandle" ∧ y_D_times.cls ≠ "java/lang/invoke/VarHandle" ∧ (parseMethodDescriptor y_D_times.desc).map (fun d => d.parameters.length) = some 4 := by decide +kernel
abbrev rm_D_modulus : Room := { frames := 4, cells := 0, slots := 0, locals := 93 }
theorem co_D_modulus : y_D_modulus.cls ≠ "java/lang/invoke/MethodHandle" ∧ y_D_modulus.cls ≠ "java/lang/invoke/VarHandle" ∧ (parseMethodDescriptor y_D_modulus.desc).map (fun d => d.parameters.length) = some 5 := by decide +kernel
abbrev rm_D_base : Room := { frames := 4, cells := 0, slots := 0, locals := 93 }
theorem co_D_base : y_D_base.cls ≠ "java/lang/invoke/MethodHandle" ∧ y_D_base.cls ≠ "java/lang/invoke/VarHandle" ∧ (parseMethodDescriptor y_D_base.desc).map (fun d => d.parameters.length) = some 5 := by decide +kernel
abbrev rm_D_power : Room := { frames := 1, cells := 0, slots := 0, locals := 26 }
theorem co_D_power : y_D_power.cls ≠ "java/lang/invoke/MethodHandle" ∧ y_D_power.cls ≠ "java/lang/invoke/VarHandle" ∧ (parseMethodDescriptor y_D_power.desc).map (fun d => d.parameters.length) = some 5 := by decide +kernel
abbrev rm_D_multiply : Room := { frames := 3, cells := 0, slots := 0, locals := 73 }
theorem co_D_multiply : y_D_multiply.cls ≠ "java/lang/invoke/MethodHandle" ∧ y_D_multiply.cls ≠ "java/lang/invoke/VarHandle" ∧ (parseMethodDescriptor y_D_multiply.desc).map (fun d => d.parameters.length) = some 0 := by decide +kernel
abbrev rm_D_keep : Room := { frames := 1, cells := 0, slots := 0, locals := 18 }
theorem co_D_keep : y_D_keep.cls ≠ "java/lang/invoke/MethodHandle" ∧ y_D_keep.cls ≠ "java/lang/invoke/VarHandle" ∧ (parseMethodDescriptor y_D_keep.desc).map (fun d => d.parameters.length) = some 0 := by decide +kernel
abbrev rm_D_answer : Room := { frames := 0, cells := 0, slots := 0, locals := 0 }
theorem co_D_answer : y_D_answer.cls ≠ "java/lang/invoke/MethodHandle" ∧ y_D_answer.cls ≠ "java/lang/invoke/VarHandle" ∧ (parseMethodDescriptor y_D_answer.desc).map (fun d => d.parameters.length) = some 1 := by decide +kernel
abbrev rm_D_factor : Room := { frames := 0, cells := 0, slots := 0, locals := 0 }
theorem co_D_factor : y_D_factor.cls ≠ "java/lang/invoke/MethodHandle" ∧ y_D_factor.cls ≠ "java/lang/invoke/VarHandle" ∧ (parseMethodDescriptor y_D_factor.desc).map (fun d => d.parameters.length) = some 1 := by decide +kernel
abbrev rm_D_bit : Room := { frames := 0, cells := 0, slots := 0, locals := 0 }
theorem co_D_bit : y_D_bit.cls ≠ "java/lang/invoke/MethodHandle" ∧ y_D_bit.cls ≠ "java/lang/invoke/VarHandle" ∧ (parseMethodDescriptor y_D_bit.desc).map (fun d => d.parameters.length) = some 1 := by decide +kernel
abbrev rm_D_bits : Room := { frames := 1, cells := 0, slots := 0, locals := 21 }
theorem co_D_bits : y_D_bits.cls ≠ "java/lang/invoke/MethodHandle" ∧ y_D_bits.cls ≠ "java/lang/invoke/VarHandle" ∧ (parseMethodDescriptor y_D_bits.desc).map (fun d => d.parameters.length) = some 0 := by decide +kernel
abbrev rm_D_raise : Room := { frames := 5, cells := 0, slots := 0, locals := 123 }
theorem co_D_raise : y_D_raise.cls ≠ "java/lang/invoke/MethodHandle" ∧ y_D_raise.cls ≠ "java/lang/invoke/VarHandle" ∧ (parseMethodDescriptor y_D_raise.desc).map (fun d => d.parameters.length) = some 0 := by decide +kernel
abbrev rm_D_split : Room := { frames := 0, cells := 0, slots := 0, locals := 0 }
theorem co_D_split : y_D_split.cls ≠ "java/lang/invoke/MethodHandle" ∧ y_D_split.cls ≠ "java/lang/invoke/VarHandle" ∧ (parseMethodDescriptor y_D_split.desc).map (fun d => d.parameters.length) = some 0 := by decide +kernel
abbrev rm_D_together : Room := { frames := 2, cells := 0, slots := 0, locals := 46 }
theorem co_D_together : y_D_together.cls ≠ "java/lang/invoke/MethodHandle" ∧ y_D_together.cls ≠ "java/lang/invoke/VarHandle" ∧ (parseMethodDescriptor y_D_together.desc).map (fun d => d.parameters.length) = some 3 := by decide +kernel
abbrev rm_D_subtractOdd : Room := { frames := 0, cells := 0, slots := 0, locals := 0 }
theorem co_D_subtractOdd : y_D_subtractOdd.cls ≠ "java/lang/invoke/MethodHandle" ∧ y_D_subtractOdd.cls ≠ "java/lang/invoke/VarHandle" ∧ (parseMethodDescriptor y_D_subtractOdd.desc).map (fun d => d.parameters.length) = some 1 := by decide +kernel
abbrev rm_D_twiceOdd : Room := { frames := 1, cells := 0, slots := 0, locals := 26 }
theorem co_D_twiceOdd : y_D_twiceOdd.cls ≠ "java/lang/invoke/MethodHandle" ∧ y_D_twiceOdd.cls ≠ "java/lang/invoke/VarHandle" ∧ (parseMethodDescriptor y_D_twiceOdd.desc).map (fun d => d.parameters.length) = some 1 := by decide +kernel
abbrev rm_D_powerOfOdd : Room := { frames := 3, cells := 0, slots := 0, locals := 77 }
theorem co_D_powerOfOdd : y_D_powerOfOdd.cls ≠ "java/lang/invoke/MethodHandle" ∧ y_D_powerOfOdd.cls ≠ "java/lang/invoke/VarHandle" ∧ (parseMethodDescriptor y_D_powerOfOdd.desc).map (fun d => d.parameters.length) = some 0 := by decide +kernel
abbrev rm_D_cut : Room := { frames := 0, cells := 0, slots := 0, locals := 0 }
theorem co_D_cut : y_D_cut.cls ≠ "java/lang/invoke/MethodHandle" ∧ y_D_cut.cls ≠ "java/lang/invoke/VarHandle" ∧ (parseMethodDescriptor y_D_cut.desc).map (fun d => d.parameters.length) = some 1 := by decide +kernel
abbrev rm_D_powerOfTwos : Room := { frames := 3, cells := 0, slots := 0, locals := 73 }
theorem co_D_powerOfTwos : y_D_powerOfTwos.cls ≠ "java/lang/invoke/MethodHandle" ∧ y_D_powerOfTwos.cls ≠ "java/lang/invoke/VarHandle" ∧ (parseMethodDescriptor y_D_powerOfTwos.desc).map (fun d => d.parameters.length) = some 1 := by decide +kernel
abbrev rm_D_join : Room := { frames := 4, cells := 0, slots := 0, locals := 96 }
theorem co_D_join : y_D_join.cls ≠ "java/lang/invoke/MethodHandle" ∧ y_D_join.cls ≠ "java/lang/invoke/VarHandle" ∧ (parseMethodDescriptor y_D_join.desc).map (fun d => d.parameters.length) = some 0 := by decide +kernel
abbrev rm_M_lay : Room := { frames := 0, cells := 0, slots := 0, locals := 0 }
theorem co_M_lay : y_M_lay.cls ≠ "java/lang/invoke/MethodHandle" ∧ y_M_lay.cls ≠ "java/lang/invoke/VarHandle" ∧ (parseMethodDescriptor y_M_lay.desc).map (fun d => d.parameters.length) = some 6 := by decide +kernel
abbrev rm_M_modulus : Room := { frames := 2, cells := 0, slots := 0, locals := 49 }
theorem co_M_modulus : y_M_modulus.cls ≠ "java/lang/invoke/MethodHandle" ∧ y_M_modulus.cls ≠ "java/lang/invoke/VarHandle" ∧ (parseMethodDescriptor y_M_modulus.desc).map (fun d => d.parameters.length) = some 5 := by decide +kernel
abbrev rm_M_base : Room := { frames := 2, cells := 0, slots := 0, locals := 49 }
theorem co_M_base : y_M_base.cls ≠ "java/lang/invoke/MethodHandle" ∧ y_M_base.cls ≠ "java/lang/invoke/VarHandle" ∧ (parseMethodDescriptor y_M_base.desc).map (fun d => d.parameters.length) = some 5 := by decide +kernel
abbrev rm_M_power : Room := { frames := 1, cells := 0, slots := 0, locals := 27 }
theorem co_M_power : y_M_power.cls ≠ "java/lang/invoke/MethodHandle" ∧ y_M_power.cls ≠ "java/lang/invoke/VarHandle" ∧ (parseMethodDescriptor y_M_power.desc).map (fun d => d.parameters.length) = some 5 := by decide +kernel
abbrev rm_M_less : Room := { frames := 0, cells := 0, slots := 0, locals := 0 }
theorem co_M_less : y_M_less.cls ≠ "java/lang/invoke/MethodHandle" ∧ y_M_less.cls ≠ "java/lang/invoke/VarHandle" ∧ (parseMethodDescriptor y_M_less.desc).map (fun d => d.parameters.length) = some 1 := by decide +kernel
abbrev rm_M_minus : Room := { frames := 0, cells := 0, slots := 0, locals := 0 }
theorem co_M_minus : y_M_minus.cls ≠ "java/lang/invoke/MethodHandle" ∧ y_M_minus.cls ≠ "java/lang/invoke/VarHandle" ∧ (parseMethodDescriptor y_M_minus.desc).map (fun d => d.parameters.length) = some 1 := by decide +kernel
abbrev rm_M_fold : Room := { frames := 1, cells := 0, slots := 0, locals := 24 }
theorem co_M_fold : y_M_fold.cls ≠ "java/lang/invoke/MethodHandle" ∧ y_M_fold.cls ≠ "java/lang/invoke/VarHandle" ∧ (parseMethodDescriptor y_M_fold.desc).map (fun d => d.parameters.length) = some 1 := by decide +kernel
abbrev rm_M_times : Room := { frames := 1, cells := 0, slots := 0, locals := 24 }
theorem co_M_times : y_M_times.cls ≠ "java/lang/invoke/MethodHandle" ∧ y_M_times.cls ≠ "java/lang/invoke/VarHandle" ∧ (parseMethodDescriptor y_M_times.desc).map (fun d => d.parameters.length) = some 2 := by decide +kernel
abbrev rm_M_raise : Room := { frames := 2, cells := 0, slots := 0, locals := 50 }
theorem co_M_raise : y_M_raise.cls ≠ "java/lang/invoke/MethodHandle" ∧ y_M_raise.cls ≠ "java/lang/invoke/VarHandle" ∧ (parseMethodDescriptor y_M_raise.desc).map (fun d => d.parameters.length) = some 0 := by decide +kernel
abbrev rm_M_multiply : Room := { frames := 2, cells := 0, slots := 0, locals := 50 }
theorem co_M_multiply : y_M_multiply.cls ≠ "java/lang/invoke/MethodHandle" ∧ y_M_multiply.cls ≠ "java/lang/invoke/VarHandle" ∧ (parseMethodDescriptor y_M_multiply.desc).map (fun d => d.parameters.length) = some 0 := by decide +kernel
abbrev rm_M_keep : Room := { frames := 0, cells := 0, slots := 0, locals := 0 }
theorem co_M_keep : y_M_keep.cls ≠ "java/lang/invoke/MethodHandle" ∧ y_M_keep.cls ≠ "java/lang/invoke/VarHandle" ∧ (parseMethodDescriptor y_M_keep.desc).map (fun d => d.parameters.length) = some 0 := by decide +kernel
abbrev rm_M_answer : Room := { frames := 0, cells := 0, slots := 0, locals := 0 }
theorem co_M_answer : y_M_answer.cls ≠ "java/lang/invoke/MethodHandle" ∧ y_M_answer.cls ≠ "java/lang/invoke/VarHandle" ∧ (parseMethodDescriptor y_M_answer.desc).map (fun d => d.parameters.length) = some 1 := by decide +kernel
abbrev rm_M_factor : Room := { frames := 0, cells := 0, slots := 0, locals := 0 }
theorem co_M_factor : y_M_factor.cls ≠ "java/lang/invoke/MethodHandle" ∧ y_M_factor.cls ≠ "java/lang/invoke/VarHandle" ∧ (parseMethodDescriptor y_M_factor.desc).map (fun d => d.parameters.length) = some 1 := by decide +kernel
abbrev rm_A_fill2 : Room := { frames := 0, cells := 0, slots := 0, locals := 0 }
theorem co_A_fill2 : y_A_fill2.cls ≠ "java/lang/invoke/MethodHandle" ∧ y_A_fill2.cls ≠ "java/lang/invoke/VarHandle" ∧ (parseMethodDescriptor y_A_fill2.desc).map (fun d => d.parameters.length) = some 2 := by decide +kernel
abbrev rm_A_fill4 : Room := { frames := 1, cells := 0, slots := 0, locals := 22 }
theorem co_A_fill4 : y_A_fill4.cls ≠ "java/lang/invoke/MethodHandle" ∧ y_A_fill4.cls ≠ "java/lang/invoke/VarHandle" ∧ (parseMethodDescriptor y_A_fill4.desc).map (fun d => d.parameters.length) = some 4 := by decide +kernel
abbrev rm_A_rangeCheck : Room := { frames := 0, cells := 0, slots := 0, locals := 0 }
theorem co_A_rangeCheck : y_A_rangeCheck.cls ≠ "java/lang/invoke/MethodHandle" ∧ y_A_rangeCheck.cls ≠ "java/lang/invoke/VarHandle" ∧ (parseMethodDescriptor y_A_rangeCheck.desc).map (fun d => d.parameters.length) = some 3 := by decide +kernel
theorem inc1 (a : Nat) : nI a + Int32.ofInt 1 = nI (a + 1) := nI_1 a
theorem inc6 (a : Nat) : nI a + Int32.ofInt 6 = nI (a + 6) := nI_add a 6
theorem dec1 (a : Nat) : nI a + Int32.ofInt (-1) = nI a + (-1) := rfl
theorem m1_0 : nI 0 + (-1) = nI 4294967295 := rfl
end
section
/-! numbers out of words: vl b f n = the sum of f i * b^i for i < n -/
def vl (b : Nat) (f : Nat → Nat) : Nat → Nat
  | 0 => 0
  | n + 1 => vl b f n + f n * b ^ n
theorem vl_s (b : Nat) (f : Nat → Nat) (n : Nat) : vl b f (n + 1) = vl b f n + f n * b ^ n := rfl
theorem vl_congr {b : Nat} {f g : Nat → Nat} : ∀ {n : Nat}, (∀ j, j < n → f j = g j) → vl b f n = vl b g n
  | 0, _ => rfl
  | n + 1, h => by
    rw [vl_s, vl_s, vl_congr (fun j hj => h j (by omega)), h n (by omega)]
theorem vl_uf_ge {b : Nat} {f : Nat → Nat} {j v n : Nat} (h : n ≤ j) : vl b (uf f j v) n = vl b f n := vl_congr (fun i hi => uf_n (by omega))
theorem vl_uf_last {b : Nat} {f : Nat → Nat} {v n : Nat} : vl b (uf f n v) (n + 1) = vl b f n + v * b ^ n := by
  rw [vl_s, vl_uf_ge (Nat.le_refl n), uf_s]
theorem vl_lt {b : Nat} {f : Nat → Nat} : ∀ {n : Nat}, (∀ j, j < n → f j < b) → vl b f n < b ^ n
  | 0, _ => by rw [Nat.pow_zero]; exact Nat.one_pos
  | n + 1, h => by
    have h1 := vl_lt (b := b) (f := f) (n := n) (fun j hj => h j (by omega))
    have h2 : (f n + 1) * b ^ n ≤ b * b ^ n := Nat.mul_le_mul_right _ (h n (by omega))
    rw [vl_s, Nat.pow_succ, Nat.mul_comm (b ^ n) b]
    rw [Nat.add_mul, Nat.one_mul] at h2
    omega
theorem vl_zero {b : Nat} {f : Nat → Nat} : ∀ {n : Nat}, (∀ j, j < n → f j = 0) → vl b f n = 0
  | 0, _ => rfl
  | n + 1, h => by
    rw [vl_s, vl_zero (fun j hj => h j (by omega)), h n (by omega)]
    omega
theorem vl_top {b : Nat} {f : Nat → Nat} {m : Nat} : ∀ {n : Nat}, m ≤ n → (∀ j, m ≤ j → j < n → f j = 0) → vl b f n = vl b f m
  | 0, h, _ => by
    obtain rfl : m = 0 := by omega
    rfl
  | n + 1, h, hz => by
    rcases Nat.lt_or_ge m (n + 1) with q | q
    · rw [vl_s, hz n (by omega) (by omega), vl_top (n := n) (by omega) (fun j h1 h2 => hz j h1 (by omega))]
      omega
    · obtain rfl : m = n + 1 := by omega
      rfl
theorem vl_cmp {b : Nat} {f g : Nat → Nat} {m : Nat} (hf : ∀ j, j < m → f j < b) (hm : f m < g m) : ∀ {n : Nat}, m < n → (∀ j, m < j → j < n → f j = g j) → vl b f n < vl b g n
  | 0, h, _ => by omega
  | n + 1, h, he => by
    rcases Nat.lt_or_ge m n with q | q
    · have := vl_cmp hf hm (n := n) q (fun j h1 h2 => he j h1 (by omega))
      rw [vl_s, vl_s, he n q (by omega)]
      omega
    · obtain rfl : m = n := by omega
      have h1 := vl_lt (b := b) (f := f) (n := m) hf
      have h2 : (f m + 1) * b ^ m ≤ g m * b ^ m := Nat.mul_le_mul_right _ hm
      rw [vl_s, vl_s]
      rw [Nat.add_mul, Nat.one_mul] at h2
      omega
theorem vl_inj {b : Nat} {f g : Nat → Nat} {n : Nat} (hf : ∀ j, j < n → f j < b) (hg : ∀ j, j < n → g j < b) (h : vl b f n = vl b g n) : ∀ j, j < n → f j = g j := by
  have key : ∀ k, k ≤ n → ∀ j, n - k ≤ j → j < n → f j = g j := by
    intro k
    induction k with
    | zero => intro _ j h1 h2; omega
    | succ k ih =>
      intro hk j h1 h2
      have ih' := ih (by omega)
      rcases Nat.lt_or_ge j (n - k) with q | q
      · obtain rfl : j = n - (k + 1) := by omega
        rcases Nat.lt_trichotomy (f (n - (k + 1))) (g (n - (k + 1))) with c | c | c
        · have := vl_cmp (b := b) (fun i hi => hf i (by omega)) c (n := n) (by omega) (fun i h3 h4 => ih' i (by omega) h4)
          omega
        · exact c
        · have := vl_cmp (b := b) (fun i hi => hg i (by omega)) c (n := n) (by omega) (fun i h3 h4 => (ih' i (by omega) h4).symm)
          omega
      · exact ih' j q h2
  intro j hj
  exact key n (Nat.le_refl n) j (by omega) hj
theorem vl_split {b : Nat} {f : Nat → Nat} {m : Nat} : ∀ {n : Nat}, vl b f (m + n) = vl b f m + b ^ m * vl b (fun j => f (m + j)) n
  | 0 => by rw [show vl b (fun j => f (m + j)) 0 = 0 from rfl]; rfl
  | n + 1 => by
    rw [← Nat.add_assoc, vl_s, vl_split, vl_s, Nat.mul_add, Nat.pow_add, Nat.mul_left_comm, Nat.add_assoc]
theorem vl_head {b : Nat} {f : Nat → Nat} {n : Nat} : vl b f (n + 1) = f 0 + b * vl b (fun j => f (j + 1)) n := by
  rw [Nat.add_comm n 1, vl_split, show vl b f 1 = 0 + f 0 * b ^ 0 from rfl, Nat.pow_zero, Nat.pow_one]
  rw [vl_congr (f := fun j => f (1 + j)) (g := fun j => f (j + 1)) (fun j _ => by rw [Nat.add_comm])]
  omega
theorem vl_mod {b : Nat} {f : Nat → Nat} {m n : Nat} (hb : ∀ j, j < m → f j < b) (h : m ≤ n) : vl b f n % b ^ m = vl b f m := by
  obtain ⟨k, rfl⟩ : ∃ k, n = m + k := ⟨n - m, by omega⟩
  rw [vl_split, Nat.add_mul_mod_self_left, Nat.mod_eq_of_lt (vl_lt hb)]
theorem vl_div {b : Nat} {f : Nat → Nat} {m n : Nat} (hb : ∀ j, j < m → f j < b) (h : m ≤ n) : vl b f n / b ^ m = vl b (fun j => f (m + j)) (n - m) := by
  obtain ⟨k, rfl⟩ : ∃ k, n = m + k := ⟨n - m, by omega⟩
  have h0 := vl_lt hb
  have hp : 0 < b ^ m := by omega
  rw [vl_split, Nat.add_mul_div_left _ _ hp, Nat.div_eq_of_lt h0, Nat.zero_add, Nat.add_sub_cancel_left]
theorem vl_digit {b : Nat} {f : Nat → Nat} {j n : Nat} (hb : ∀ i, i ≤ j → f i < b) (h : j < n) : vl b f n / b ^ j % b = f j := by
  rw [vl_div (fun i hi => hb i (by omega)) (by omega)]
  obtain ⟨k, hk⟩ : ∃ k, n - j = k + 1 := ⟨n - j - 1, by omega⟩
  rw [hk, vl_head, Nat.add_mul_mod_self_left]
  exact Nat.mod_eq_of_lt (hb j (Nat.le_refl j))
/-- one step of a loop with a carry -/
theorem cst {b X Y c c' v d P : Nat} (h : X + c * P = Y) (hv : v + c' * b = d + c) : (X + v * P) + c' * (P * b) = Y + d * P := by
  have e : (v + c' * b) * P = (d + c) * P := by rw [hv]
  rw [Nat.add_mul, Nat.add_mul] at e
  have e2 : c' * (P * b) = c' * b * P := by rw [Nat.mul_assoc, Nat.mul_comm P b]
  rw [e2]
  omega
/-- one step of a loop with a borrow -/
theorem bst {b X Y Z c c' v d g P : Nat} (h : X + Y = Z + c * P) (hv : v + g + c = d + c' * b) : (X + v * P) + (Y + g * P) = (Z + d * P) + c' * (P * b) := by
  have e : (v + g + c) * P = (d + c' * b) * P := by rw [hv]
  rw [Nat.add_mul, Nat.add_mul, Nat.add_mul] at e
  have e2 : c' * (P * b) = c' * b * P := by rw [Nat.mul_assoc, Nat.mul_comm P b]
  rw [e2]
  omega
end
section
/-! LEAVES: compare, put, twice, subtract, Arrays.fill -/
abbrev V (f : Nat → Nat) (n : Nat) : Nat := vl 4294967296 f n
section LEAF
variable {X : Ctx} {σ : Nat → Nat → Nat} {mn iv tw : Nat}
theorem b_compare (C : Cx X b_D_compare 3 R_D) {ka kb : Nat} (ha : ka < 35) (hb : kb < 35) (la : 16 ≤ ln ka) (lb : 16 ≤ ln kb)
    (k : ∀ n, n < 4294967296 → (2147483648 ≤ n ↔ V (σ ka) 16 < V (σ kb) 16) → Ret X b_D_compare .ireturn [.int (nI n)] σ mn iv tw) : J X 0 [(0, .ref (ea (xE X) ka)), (1, .ref (ea (xE X) kb))] [] σ mn iv tw := by
  refine J_wb (fun hwb => ?_)
  have loop : ∀ n, n ≤ 16 → (∀ j, n ≤ j → j < 16 → σ ka j = σ kb j) → J X 3 [(0, .ref (ea (xE X) ka)), (1, .ref (ea (xE X) kb)), (2, .int (nI n + (-1)))] [] σ mn iv tw := by
    intro n
    induction n with
    | zero =>
      intro _ he
      rw [m1_0]
      refine J_iload_n C d_D_compare_3 2 rfl rfl ?_
      refine J_iflt C d_D_compare_4 (tgt := 48) (by decide) (by first | exact hwb _ _ | omega) (fun c_4 => ?_) (fun c_4 => ?_)
      · refine J_iconst C d_D_compare_48 0 (by decide) ?_
        exact k 0 (by decide) ⟨fun h => by omega, fun h => by rw [V, V, vl_congr (fun j hj => he j (Nat.zero_le j) hj)] at h; omega⟩ _ _ d_D_compare_49
      · omega
    | succ n ih =>
      intro hn he
      rw [pk_m1]
      refine J_iload_n C d_D_compare_3 2 rfl rfl ?_
      refine J_iflt C d_D_compare_4 (tgt := 48) (by decide) (by first | exact hwb _ _ | omega) (fun c_4 => ?_) (fun c_4 => ?_)
      · omega
      · refine J_aload_n C d_D_compare_7 0 rfl rfl ?_
        refine J_iload_n C d_D_compare_8 2 rfl rfl ?_
        refine J_iaload C d_D_compare_9 (by omega) (by omega) ?_
        refine J_aload_n C d_D_compare_10 1 rfl rfl ?_
        refine J_iload_n C d_D_compare_11 2 rfl rfl ?_
        refine J_iaload C d_D_compare_12 (by omega) (by omega) ?_
        refine J_icmp_eq C d_D_compare_13 (tgt := 42) (by decide) (by first | exact hwb _ _ | omega) (by first | exact hwb _ _ | omega) (fun c_13 => ?_) (fun c_13 => ?_)
        · refine J_iinc (lv' := [(0, _), (1, _), (2, _)]) C d_D_compare_42 rfl (dec1 _) (by decide) rfl rfl ?_
          refine J_goto C d_D_compare_45 (tgt := 3) (by decide) ?_
          refine ih (by omega) (fun j h1 h2 => ?_)
          rcases Nat.lt_or_ge j (n + 1) with q | q
          · rw [show j = n by omega]; exact c_13
          · exact he j q h2
        · refine J_aload_n C d_D_compare_16 0 rfl rfl ?_
          refine J_iload_n C d_D_compare_17 2 rfl rfl ?_
          refine J_iaload C d_D_compare_18 (by omega) (by omega) ?_
          refine J_word C d_D_compare_19 d_D_compare_20 d_D_compare_23 (by first | exact hwb _ _ | omega) ?_
          refine J_aload_n C d_D_compare_24 1 rfl rfl ?_
          refine J_iload_n C d_D_compare_25 2 rfl rfl ?_
          refine J_iaload C d_D_compare_26 (by omega) (by omega) ?_
          refine J_word C d_D_compare_27 d_D_compare_28 d_D_compare_31 (by first | exact hwb _ _ | omega) ?_
          refine J_lcmpge C d_D_compare_32 d_D_compare_33 (tgt := 40) (by decide) (Nat.lt_trans (hwb _ _) (by decide)) (Nat.lt_trans (hwb _ _) (by decide)) (fun c_32 => ?_) (fun c_32 => ?_)
          · refine J_iconst C d_D_compare_40 1 (by decide) ?_
            have := vl_cmp (b := 4294967296) (f := σ kb) (g := σ ka) (m := n) (fun j _ => hwb kb j) (by omega) (n := 16) (by omega) (fun j h1 h2 => (he j (by omega) h2).symm)
            exact k 1 (by decide) ⟨fun h => by omega, fun h => by unfold V at h; omega⟩ _ _ d_D_compare_41
          · refine J_iconst C d_D_compare_36 4294967295 (by decide) ?_
            refine J_goto C d_D_compare_37 (tgt := 41) (by decide) ?_
            have := vl_cmp (b := 4294967296) (f := σ ka) (g := σ kb) (m := n) (fun j _ => hwb ka j) c_32 (n := 16) (by omega) (fun j h1 h2 => he j (by omega) h2)
            exact k 4294967295 (by decide) ⟨fun _ => this, fun h => by omega⟩ _ _ d_D_compare_41
  refine J_bipush C d_D_compare_0 15 (by decide) ?_
  refine J_istore_n (lv' := [(0, _), (1, _), (2, _)]) C d_D_compare_2 2 rfl (by decide) rfl rfl ?_
  exact loop 16 (by omega) (fun j h1 h2 => by omega)
theorem c_compare (l : Launch) (E : En) (A : Nat → Prop) {ka kb : Nat} (ha : ka < 35) (hb : kb < 35) (la : 16 ≤ ln ka) (lb : 16 ≤ ln kb) : MI .int l y_D_compare b_D_compare 3 rm_D_compare [.ref (ea E ka), .ref (ea E kb)] E A σ mn iv tw (fun n u => σ = u ∧ n < 4294967296 ∧ (2147483648 ≤ n ↔ V (σ ka) 16 < V (σ kb) 16)) :=
  mk_i (by decide) (Nat.le_of_ble_eq_true rfl) (fun X C hR hE k => by subst hE; exact b_compare C ha hb la lb (fun n h1 h2 => k n σ ⟨rfl, h1, h2⟩))
theorem b_put (C : Cx X b_D_put 7 R_D) {ka pt p q r s : Nat} (ha : ka < 35) (la : 16 ≤ ln ka) (hpt : pt < 4294967296)
    (k : Ret X b_D_put .return_ [] (up σ ka (uf (uf (uf (uf (σ ka) (4 * (pt % 4)) (p % 4294967296)) (4 * (pt % 4) + 1) (q % 4294967296)) (4 * (pt % 4) + 2) (r % 4294967296)) (4 * (pt % 4) + 3) (s % 4294967296))) mn iv tw) :
    J X 0 [(0, .ref (ea (xE X) ka)), (1, .int (nI pt)), (2, .int (nI p)), (3, .int (nI q)), (4, .int (nI r)), (5, .int (nI s))] [] σ mn iv tw := by
  refine J_iconst C d_D_put_0 4 (by decide) ?_
  refine J_iload_n C d_D_put_1 1 rfl rfl ?_
  refine J_iconst C d_D_put_2 3 (by decide) ?_
  refine J_iand C d_D_put_3 2 4 rfl (by first | exact hwb _ _ | omega) (by decide) rfl ?_
  refine J_imul C d_D_put_4 ?_
  refine J_istore (lv' := [(0, _), (1, _), (2, _), (3, _), (4, _), (5, _), (6, _)]) C d_D_put_5 (by decide) rfl rfl ?_
  refine J_aload_n C d_D_put_7 0 rfl rfl ?_
  refine J_iload C d_D_put_8 rfl ?_
  refine J_iload_n C d_D_put_10 2 rfl rfl ?_
  refine J_iastore C d_D_put_11 (by omega) (by omega) ?_
  refine J_wb (fun hwb => ?_)
  refine J_aload_n C d_D_put_12 0 rfl rfl ?_
  refine J_iload C d_D_put_13 rfl ?_
  refine J_iconst C d_D_put_15 1 (by decide) ?_
  refine J_iadd C d_D_put_16 ?_
  refine J_iload_n C d_D_put_17 3 rfl rfl ?_
  refine J_iastore C d_D_put_18 (by omega) (by omega) ?_
  refine J_wb (fun hwb => ?_)
  refine J_aload_n C d_D_put_19 0 rfl rfl ?_
  refine J_iload C d_D_put_20 rfl ?_
  refine J_iconst C d_D_put_22 2 (by decide) ?_
  refine J_iadd C d_D_put_23 ?_
  refine J_iload C d_D_put_24 rfl ?_
  refine J_iastore C d_D_put_26 (by omega) (by omega) ?_
  refine J_wb (fun hwb => ?_)
  refine J_aload_n C d_D_put_27 0 rfl rfl ?_
  refine J_iload C d_D_put_28 rfl ?_
  refine J_iconst C d_D_put_30 3 (by decide) ?_
  refine J_iadd C d_D_put_31 ?_
  refine J_iload C d_D_put_32 rfl ?_
  refine J_iastore C d_D_put_34 (by omega) (by omega) ?_
  refine J_wb (fun hwb => ?_)
  simp only [up_s, up_up]
  exact k _ _ d_D_put_35
theorem c_put (l : Launch) (E : En) (A : Nat → Prop) {ka pt p q r s : Nat} (ha : ka < 35) (la : 16 ≤ ln ka) (hpt : pt < 4294967296) : MV l y_D_put b_D_put 7 rm_D_put [.ref (ea E ka), .int (nI pt), .int (nI p), .int (nI q), .int (nI r), .int (nI s)] E A σ mn iv tw (fun u => up σ ka (uf (uf (uf (uf (σ ka) (4 * (pt % 4)) (p % 4294967296)) (4 * (pt % 4) + 1) (q % 4294967296)) (4 * (pt % 4) + 2) (r % 4294967296)) (4 * (pt % 4) + 3) (s % 4294967296)) = u) :=
  mk_v (by decide) (Nat.le_of_ble_eq_true rfl) (fun X C hR hE k => by subst hE; exact b_put C ha la hpt (k _ rfl))
theorem b_twice (C : Cx X b_D_twice 5 R_D) {ka c : Nat} (ha : ka < 35) (la : 16 ≤ ln ka) (hc : c < 2)
    (k : ∀ n u, n < 2 → (∀ q, q ≠ ka → u q = σ q) → (∀ j, 16 ≤ j → u ka j = σ ka j) → V (u ka) 16 + n * 4294967296 ^ 16 = 2 * V (σ ka) 16 + c → Ret X b_D_twice .ireturn [.int (nI n)] u mn iv tw) :
    J X 0 [(0, .ref (ea (xE X) ka)), (1, .int (nI c))] [] σ mn iv tw := by
  have loop : ∀ d i c' τ, i + d = 16 → c' < 2 → (∀ q, q ≠ ka → τ q = σ q) → (∀ j, i ≤ j → τ ka j = σ ka j) → V (τ ka) i + c' * 4294967296 ^ i = 2 * V (σ ka) i + c →
      J X 4 [(0, .ref (ea (xE X) ka)), (1, .int (nI c)), (2, .int (nI c')), (3, .int (nI i))] [] τ mn iv tw := by
    intro d
    induction d with
    | zero =>
      intro i c' τ hi hc' h1 h2 h3
      obtain rfl : i = 16 := by omega
      refine J_iload_n C d_D_twice_4 3 rfl rfl ?_
      refine J_bipush C d_D_twice_5 16 (by decide) ?_
      refine J_icmp_ge C d_D_twice_7 (tgt := 37) (by decide) (by omega) (by omega) (fun c_7 => ?_) (fun c_7 => ?_)
      · refine J_iload_n C d_D_twice_37 2 rfl rfl ?_
        exact k c' τ hc' h1 h2 h3 _ _ d_D_twice_38
      · omega
    | succ d ih =>
      intro i c' τ hi hc' h1 h2 h3
      refine J_wb (fun hwb => ?_)
      have hw := hwb ka i
      refine J_iload_n C d_D_twice_4 3 rfl rfl ?_
      refine J_bipush C d_D_twice_5 16 (by decide) ?_
      refine J_icmp_ge C d_D_twice_7 (tgt := 37) (by decide) (by omega) (by omega) (fun c_7 => ?_) (fun c_7 => ?_)
      · omega
      · refine J_aload_n C d_D_twice_10 0 rfl rfl ?_
        refine J_iload_n C d_D_twice_11 3 rfl rfl ?_
        refine J_iaload C d_D_twice_12 (by omega) (by omega) ?_
        refine J_bipush C d_D_twice_13 31 (by decide) ?_
        refine J_iushr C d_D_twice_15 2147483648 rfl (by first | exact hwb _ _ | omega) (by decide) ?_
        refine J_istore (lv' := [(0, _), (1, _), (2, _), (3, _), (4, _)]) C d_D_twice_16 (by decide) rfl rfl ?_
        refine J_aload_n C d_D_twice_18 0 rfl rfl ?_
        refine J_iload_n C d_D_twice_19 3 rfl rfl ?_
        refine J_aload_n C d_D_twice_20 0 rfl rfl ?_
        refine J_iload_n C d_D_twice_21 3 rfl rfl ?_
        refine J_iaload C d_D_twice_22 (by omega) (by omega) ?_
        refine J_iconst C d_D_twice_23 1 (by decide) ?_
        refine J_ishl C d_D_twice_24 2 rfl (by decide) ?_
        refine J_iload_n C d_D_twice_25 2 rfl rfl ?_
        refine J_ior1 C d_D_twice_26 hc' ?_
        refine J_iastore C d_D_twice_27 (by omega) (by omega) ?_
        refine J_wb (fun hwb => ?_)
        refine J_iload C d_D_twice_28 rfl ?_
        refine J_istore_n (lv' := [(0, _), (1, _), (2, _), (3, _), (4, _)]) C d_D_twice_30 2 rfl (by decide) rfl rfl ?_
        refine J_iinc (lv' := [(0, _), (1, _), (2, _), (3, _), (4, _)]) C d_D_twice_31 rfl (inc1 _) (by decide) rfl rfl ?_
        refine J_goto C d_D_twice_34 (tgt := 4) (by decide) ?_
        refine J_sub [0, 1, 2, 3] rfl ?_
        refine ih (i + 1) _ _ (by omega) (by omega) (fun q hq => by rw [up_n hq]; exact h1 q hq) (fun j hj => by rw [up_s, uf_n (by omega)]; exact h2 j (by omega)) ?_
        have e := cst (b := 4294967296) (d := 2 * σ ka i) h3 (show (τ ka i * 2 + c') % 4294967296 + τ ka i / 2147483648 * 4294967296 = 2 * σ ka i + c' by rw [← h2 i (Nat.le_refl i)]; omega)
        unfold V at e ⊢
        rw [Nat.mul_assoc 2] at e
        rw [up_s, vl_uf_last, vl_s, Nat.pow_succ, Nat.mul_add]
        omega
  refine J_iload_n C d_D_twice_0 1 rfl rfl ?_
  refine J_istore_n (lv' := [(0, _), (1, _), (2, _)]) C d_D_twice_1 2 rfl (by decide) rfl rfl ?_
  refine J_iconst C d_D_twice_2 0 (by decide) ?_
  refine J_istore_n (lv' := [(0, _), (1, _), (2, _), (3, _)]) C d_D_twice_3 3 rfl (by decide) rfl rfl ?_
  exact loop 16 0 c σ (by omega) hc (fun _ _ => rfl) (fun _ _ => rfl) (by unfold V vl; omega)
theorem c_twice (l : Launch) (E : En) (A : Nat → Prop) {ka c : Nat} (ha : ka < 35) (la : 16 ≤ ln ka) (hc : c < 2) : MI .int l y_D_twice b_D_twice 5 rm_D_twice [.ref (ea E ka), .int (nI c)] E A σ mn iv tw (fun n u => n < 2 ∧ (∀ q, q ≠ ka → u q = σ q) ∧ (∀ j, 16 ≤ j → u ka j = σ ka j) ∧ V (u ka) 16 + n * 4294967296 ^ 16 = 2 * V (σ ka) 16 + c) :=
  mk_i (by decide) (Nat.le_of_ble_eq_true rfl) (fun X C hR hE k => by subst hE; exact b_twice C ha la hc (fun n u h1 h2 h3 h4 => k n u ⟨h1, h2, h3, h4⟩))
theorem b_subtract (C : Cx X b_D_subtract 7 R_D) {ka kb : Nat} (ha : ka < 35) (hb : kb < 35) (hab : ka ≠ kb) (la : 16 ≤ ln ka) (lb : 16 ≤ ln kb)
    (k : ∀ w u, w < 2 → (∀ q, q ≠ ka → u q = σ q) → (∀ j, 16 ≤ j → u ka j = σ ka j) → V (u ka) 16 + V (σ kb) 16 = V (σ ka) 16 + w * 4294967296 ^ 16 → Ret X b_D_subtract .return_ [] u mn iv tw) :
    J X 0 [(0, .ref (ea (xE X) ka)), (1, .ref (ea (xE X) kb))] [] σ mn iv tw := by
  have loop : ∀ d i c' τ, i + d = 16 → c' < 2 → (∀ q, q ≠ ka → τ q = σ q) → (∀ j, i ≤ j → τ ka j = σ ka j) → V (τ ka) i + V (σ kb) i = V (σ ka) i + c' * 4294967296 ^ i →
      J X 5 [(0, .ref (ea (xE X) ka)), (1, .ref (ea (xE X) kb)), (2, .long (lN c')), (4, .int (nI i))] [] τ mn iv tw := by
    intro d
    induction d with
    | zero =>
      intro i c' τ hi hc' h1 h2 h3
      obtain rfl : i = 16 := by omega
      refine J_iload C d_D_subtract_5 rfl ?_
      refine J_bipush C d_D_subtract_7 16 (by decide) ?_
      refine J_icmp_ge C d_D_subtract_9 (tgt := 54) (by decide) (by omega) (by omega) (fun c_9 => ?_) (fun c_9 => ?_)
      · exact k c' τ hc' h1 h2 h3 _ _ d_D_subtract_54
      · omega
    | succ d ih =>
      intro i c' τ hi hc' h1 h2 h3
      refine J_wb (fun hwb => ?_)
      have hw := hwb ka i
      have hw2 := hwb kb i
      refine J_iload C d_D_subtract_5 rfl ?_
      refine J_bipush C d_D_subtract_7 16 (by decide) ?_
      refine J_icmp_ge C d_D_subtract_9 (tgt := 54) (by decide) (by omega) (by omega) (fun c_9 => ?_) (fun c_9 => ?_)
      · omega
      · refine J_aload_n C d_D_subtract_12 0 rfl rfl ?_
        refine J_iload C d_D_subtract_13 rfl ?_
        refine J_iaload C d_D_subtract_15 (by omega) (by omega) ?_
        refine J_word C d_D_subtract_16 d_D_subtract_17 d_D_subtract_20 (by first | exact hwb _ _ | omega) ?_
        refine J_aload_n C d_D_subtract_21 1 rfl rfl ?_
        refine J_iload C d_D_subtract_22 rfl ?_
        refine J_iaload C d_D_subtract_24 (by omega) (by omega) ?_
        refine J_word C d_D_subtract_25 d_D_subtract_26 d_D_subtract_29 (by first | exact hwb _ _ | omega) ?_
        refine J_lsub C d_D_subtract_30 (by omega) ?_
        refine J_lload_n C d_D_subtract_31 2 rfl rfl ?_
        refine J_lsub C d_D_subtract_32 (by omega) ?_
        refine J_lstore (lv' := [(0, _), (1, _), (2, _), (4, _), (5, _)]) C d_D_subtract_33 (by decide) rfl rfl ?_
        refine J_aload_n C d_D_subtract_35 0 rfl rfl ?_
        refine J_iload C d_D_subtract_36 rfl ?_
        refine J_lload C d_D_subtract_38 rfl ?_
        refine J_l2i C d_D_subtract_40 ?_
        refine J_iastore C d_D_subtract_41 (by omega) (by omega) ?_
        refine J_wb (fun hwb => ?_)
        refine J_lload C d_D_subtract_42 rfl ?_
        refine J_bipush C d_D_subtract_44 63 (by decide) ?_
        refine J_lushrm C d_D_subtract_46 9223372036854775808 rfl (by decide) ?_
        refine J_lstore_n (lv' := [(0, _), (1, _), (2, _), (4, _), (5, _)]) C d_D_subtract_47 2 rfl (by decide) rfl rfl ?_
        refine J_iinc (lv' := [(0, _), (1, _), (2, _), (4, _), (5, _)]) C d_D_subtract_48 rfl (inc1 _) (by decide) rfl rfl ?_
        refine J_goto C d_D_subtract_51 (tgt := 5) (by decide) ?_
        refine J_sub [0, 1, 2, 3] rfl ?_
        have hv : (τ ka i + 18446744073709551616 - τ kb i + 18446744073709551616 - c') % 4294967296 + σ kb i + c' = σ ka i + (τ ka i + 18446744073709551616 - τ kb i + 18446744073709551616 - c') % 18446744073709551616 / 9223372036854775808 * 4294967296 := by
          rw [← h2 i (Nat.le_refl i), ← h1 kb (Ne.symm hab)]; omega
        refine ih (i + 1) _ _ (by omega) (by omega) (fun q hq => by rw [up_n hq]; exact h1 q hq) (fun j hj => by rw [up_s, uf_n (by omega)]; exact h2 j (by omega)) ?_
        have e := bst (b := 4294967296) h3 hv
        unfold V at e ⊢
        rw [up_s, vl_uf_last, vl_s, vl_s, Nat.pow_succ]
        omega
  refine J_lconst C d_D_subtract_0 0 rfl ?_
  refine J_lstore_n (lv' := [(0, _), (1, _), (2, _)]) C d_D_subtract_1 2 rfl (by decide) rfl rfl ?_
  refine J_iconst C d_D_subtract_2 0 (by decide) ?_
  refine J_istore (lv' := [(0, _), (1, _), (2, _), (4, _)]) C d_D_subtract_3 (by decide) rfl rfl ?_
  exact loop 16 0 0 σ (by omega) (by omega) (fun _ _ => rfl) (fun _ _ => rfl) (by unfold V vl; omega)
theorem c_subtract (l : Launch) (E : En) (A : Nat → Prop) {ka kb : Nat} (ha : ka < 35) (hb : kb < 35) (hab : ka ≠ kb) (la : 16 ≤ ln ka) (lb : 16 ≤ ln kb) : MV l y_D_subtract b_D_subtract 7 rm_D_subtract [.ref (ea E ka), .ref (ea E kb)] E A σ mn iv tw (fun u => (∀ q, q ≠ ka → u q = σ q) ∧ (∀ j, 16 ≤ j → u ka j = σ ka j) ∧ ∃ w, w < 2 ∧ V (u ka) 16 + V (σ kb) 16 = V (σ ka) 16 + w * 4294967296 ^ 16) :=
  mk_v (by decide) (Nat.le_of_ble_eq_true rfl) (fun X C hR hE k => by subst hE; exact b_subtract C ha hb hab la lb (fun w u h1 h2 h3 h4 => k u ⟨h2, h3, w, h1, h4⟩))
theorem b_range (C : Cx X b_A_rangeCheck 3 y_A_rangeCheck.cls) {n a b : Nat} (h1 : a ≤ b) (h2 : b ≤ n) (h3 : n < 2147483648) (k : Ret X b_A_rangeCheck .return_ [] σ mn iv tw) :
    J X 0 [(0, .int (nI n)), (1, .int (nI a)), (2, .int (nI b))] [] σ mn iv tw := by
  refine J_iload_n C d_A_rangeCheck_0 1 rfl rfl ?_
  refine J_iload_n C d_A_rangeCheck_1 2 rfl rfl ?_
  refine J_icmp_le C d_A_rangeCheck_2 (tgt := 46) (by decide) (by omega) (by omega) (fun c_2 => ?_) (fun c_2 => ?_)
  · refine J_iload_n C d_A_rangeCheck_46 1 rfl rfl ?_
    refine J_ifge C d_A_rangeCheck_47 (tgt := 59) (by decide) (by omega) (fun c_47 => ?_) (fun c_47 => ?_)
    · refine J_iload_n C d_A_rangeCheck_59 2 rfl rfl ?_
      refine J_iload_n C d_A_rangeCheck_60 0 rfl rfl ?_
      refine J_icmp_le C d_A_rangeCheck_61 (tgt := 73) (by decide) (by omega) (by omega) (fun c_61 => ?_) (fun c_61 => ?_)
      · exact k _ _ d_A_rangeCheck_73
      · omega
    · omega
  · omega
theorem c_range (l : Launch) (E : En) (A : Nat → Prop) {n a b : Nat} (h1 : a ≤ b) (h2 : b ≤ n) (h3 : n < 2147483648) : MV l y_A_rangeCheck b_A_rangeCheck 3 rm_A_rangeCheck [.int (nI n), .int (nI a), .int (nI b)] E A σ mn iv tw (fun u => σ = u) :=
  mk_v (by decide) (Nat.le_of_ble_eq_true rfl) (fun X C hR hE k => by subst hE; exact b_range C h1 h2 h3 (k _ rfl))
theorem b_fill4 (C : Cx X b_A_fill4 5 "java/util/Arrays") (hR : xR X = rm_A_fill4) {ka a b v : Nat} (ha : ka < 35) (h1 : a ≤ b) (h2 : b ≤ ln ka) (hv : v < 4294967296)
    (k : ∀ u, (∀ q, q ≠ ka → u q = σ q) → (∀ j, a ≤ j → j < b → u ka j = v) → (∀ j, j < a ∨ b ≤ j → u ka j = σ ka j) → Ret X b_A_fill4 .return_ [] u mn iv tw) :
    J X 0 [(0, .ref (ea (xE X) ka)), (1, .int (nI a)), (2, .int (nI b)), (3, .int (nI v))] [] σ mn iv tw := by
  have hln := ln_le ka
  have loop : ∀ d i τ, i + d = b → a ≤ i → (∀ q, q ≠ ka → τ q = σ q) → (∀ j, a ≤ j → j < i → τ ka j = v) → (∀ j, j < a ∨ i ≤ j → τ ka j = σ ka j) →
      J X 10 [(0, .ref (ea (xE X) ka)), (1, .int (nI a)), (2, .int (nI b)), (3, .int (nI v)), (4, .int (nI i))] [] τ mn iv tw := by
    intro d
    induction d with
    | zero =>
      intro i τ hi hai h3 h4 h5
      obtain rfl : i = b := by omega
      refine J_iload C d_A_fill4_10 rfl ?_
      refine J_iload_n C d_A_fill4_12 2 rfl rfl ?_
      refine J_icmp_ge C d_A_fill4_13 (tgt := 27) (by decide) (by omega) (by omega) (fun c_13 => ?_) (fun c_13 => ?_)
      · exact k τ h3 h4 h5 _ _ d_A_fill4_27
      · omega
    | succ d ih =>
      intro i τ hi hai h3 h4 h5
      refine J_iload C d_A_fill4_10 rfl ?_
      refine J_iload_n C d_A_fill4_12 2 rfl rfl ?_
      refine J_icmp_ge C d_A_fill4_13 (tgt := 27) (by decide) (by omega) (by omega) (fun c_13 => ?_) (fun c_13 => ?_)
      · omega
      · refine J_aload_n C d_A_fill4_16 0 rfl rfl ?_
        refine J_iload C d_A_fill4_17 rfl ?_
        refine J_iload_n C d_A_fill4_19 3 rfl rfl ?_
        refine J_iastore C d_A_fill4_20 (by omega) (by omega) ?_
        refine J_wb (fun hwb => ?_)
        refine J_iinc (lv' := [(0, _), (1, _), (2, _), (3, _), (4, _)]) C d_A_fill4_21 rfl (inc1 _) (by decide) rfl rfl ?_
        refine J_goto C d_A_fill4_24 (tgt := 10) (by decide) ?_
        refine ih (i + 1) _ (by omega) (by omega) (fun q hq => by rw [up_n hq]; exact h3 q hq) (fun j hj hj2 => ?_) (fun j hj => by rw [up_s, uf_n (by omega)]; exact h5 j (by omega))
        rw [up_s]
        rcases Nat.lt_or_ge j i with q | q
        · rw [uf_n (by omega)]; exact h4 j hj q
        · rw [show j = i by omega, uf_s]; omega
  refine J_aload_n C d_A_fill4_0 0 rfl rfl ?_
  refine J_alen C d_A_fill4_1 (by omega) ?_
  refine J_iload_n C d_A_fill4_2 1 rfl rfl ?_
  refine J_iload_n C d_A_fill4_3 2 rfl rfl ?_
  refine J_callSv C d_A_fill4_4 (c_range (σ := σ) (xl X) (xE X) (xA X) (n := ln ka) h1 h2 (by omega)) ⟨⟨ml_A_13, ini_A, mc_A_rangeCheck⟩, co_A_rangeCheck, ⟨rfl, rfl⟩, by rw [hR]; decide⟩ st_A_rangeCheck rfl (by decide) (fun s4 h4 => ?_)
  refine J_wb (fun hwb => ?_)
  obtain rfl := h4
  refine J_iload_n C d_A_fill4_7 1 rfl rfl ?_
  refine J_istore (lv' := [(0, _), (1, _), (2, _), (3, _), (4, _)]) C d_A_fill4_8 (by decide) rfl rfl ?_
  exact loop (b - a) a σ (by omega) (by omega) (fun _ _ => rfl) (fun j _ _ => by omega) (fun _ _ => rfl)
theorem c_fill4 (l : Launch) (E : En) (A : Nat → Prop) {ka a b v : Nat} (ha : ka < 35) (h1 : a ≤ b) (h2 : b ≤ ln ka) (hv : v < 4294967296) : MV l y_A_fill4 b_A_fill4 5 rm_A_fill4 [.ref (ea E ka), .int (nI a), .int (nI b), .int (nI v)] E A σ mn iv tw (fun u => (∀ q, q ≠ ka → u q = σ q) ∧ (∀ j, a ≤ j → j < b → u ka j = v) ∧ (∀ j, j < a ∨ b ≤ j → u ka j = σ ka j)) :=
  mk_v (by decide) (Nat.le_of_ble_eq_true rfl) (fun X C hR hE k => by subst hE; exact b_fill4 C hR ha h1 h2 hv (fun u h1 h2 h3 => k u ⟨h1, h2, h3⟩))
theorem b_fill2 (C : Cx X b_A_fill2 4 "java/util/Arrays") {ka v : Nat} (ha : ka < 35) (hv : v < 4294967296)
    (k : ∀ u, (∀ q, q ≠ ka → u q = σ q) → (∀ j, j < ln ka → u ka j = v) → (∀ j, ln ka ≤ j → u ka j = σ ka j) → Ret X b_A_fill2 .return_ [] u mn iv tw) :
    J X 0 [(0, .ref (ea (xE X) ka)), (1, .int (nI v))] [] σ mn iv tw := by
  have hln := ln_le ka
  have loop : ∀ d i τ, i + d = ln ka → (∀ q, q ≠ ka → τ q = σ q) → (∀ j, j < i → τ ka j = v) → (∀ j, i ≤ j → τ ka j = σ ka j) →
      J X 5 [(0, .ref (ea (xE X) ka)), (1, .int (nI v)), (2, .int (nI i)), (3, .int (nI (ln ka)))] [] τ mn iv tw := by
    intro d
    induction d with
    | zero =>
      intro i τ hi h3 h4 h5
      obtain rfl : i = ln ka := by omega
      refine J_iload_n C d_A_fill2_5 2 rfl rfl ?_
      refine J_iload_n C d_A_fill2_6 3 rfl rfl ?_
      refine J_icmp_ge C d_A_fill2_7 (tgt := 20) (by decide) (by omega) (by omega) (fun c_7 => ?_) (fun c_7 => ?_)
      · exact k τ h3 h4 h5 _ _ d_A_fill2_20
      · omega
    | succ d ih =>
      intro i τ hi h3 h4 h5
      refine J_iload_n C d_A_fill2_5 2 rfl rfl ?_
      refine J_iload_n C d_A_fill2_6 3 rfl rfl ?_
      refine J_icmp_ge C d_A_fill2_7 (tgt := 20) (by decide) (by omega) (by omega) (fun c_7 => ?_) (fun c_7 => ?_)
      · omega
      · refine J_aload_n C d_A_fill2_10 0 rfl rfl ?_
        refine J_iload_n C d_A_fill2_11 2 rfl rfl ?_
        refine J_iload_n C d_A_fill2_12 1 rfl rfl ?_
        refine J_iastore C d_A_fill2_13 (by omega) (by omega) ?_
        refine J_wb (fun hwb => ?_)
        refine J_iinc (lv' := [(0, _), (1, _), (2, _), (3, _)]) C d_A_fill2_14 rfl (inc1 _) (by decide) rfl rfl ?_
        refine J_goto C d_A_fill2_17 (tgt := 5) (by decide) ?_
        refine ih (i + 1) _ (by omega) (fun q hq => by rw [up_n hq]; exact h3 q hq) (fun j hj => ?_) (fun j hj => by rw [up_s, uf_n (by omega)]; exact h5 j (by omega))
        rw [up_s]
        rcases Nat.lt_or_ge j i with q | q
        · rw [uf_n (by omega)]; exact h4 j q
        · rw [show j = i by omega, uf_s]; omega
  refine J_iconst C d_A_fill2_0 0 (by decide) ?_
  refine J_istore_n (lv' := [(0, _), (1, _), (2, _)]) C d_A_fill2_1 2 rfl (by decide) rfl rfl ?_
  refine J_aload_n C d_A_fill2_2 0 rfl rfl ?_
  refine J_alen C d_A_fill2_3 (by omega) ?_
  refine J_istore_n (lv' := [(0, _), (1, _), (2, _), (3, _)]) C d_A_fill2_4 3 rfl (by decide) rfl rfl ?_
  exact loop (ln ka) 0 σ (by omega) (fun _ _ => rfl) (fun j _ => by omega) (fun _ _ => rfl)
theorem c_fill2 (l : Launch) (E : En) (A : Nat → Prop) {ka v : Nat} (ha : ka < 35) (hv : v < 4294967296) : MV l y_A_fill2 b_A_fill2 4 rm_A_fill2 [.ref (ea E ka), .int (nI v)] E A σ mn iv tw (fun u => (∀ q, q ≠ ka → u q = σ q) ∧ (∀ j, j < ln ka → u ka j = v) ∧ (∀ j, ln ka ≤ j → u ka j = σ ka j)) :=
  mk_v (by decide) (Nat.le_of_ble_eq_true rfl) (fun X C hR hE k => by subst hE; exact b_fill2 C ha hv (fun u h1 h2 h3 => k u ⟨h1, h2, h3⟩))
end LEAF
end
section
/-! leave, reduce, times -/
theorem vl_uf {b : Nat} {f : Nat → Nat} {p v : Nat} : ∀ {n : Nat}, p < n → vl b (uf f p v) n + f p * b ^ p = vl b f n + v * b ^ p
  | 0, h => by omega
  | n + 1, h => by
    rcases Nat.lt_or_ge p n with q | q
    · have := vl_uf (b := b) (f := f) (v := v) q
      rw [vl_s, vl_s, uf_n (by omega)]
      omega
    · obtain rfl : p = n := by omega
      rw [vl_uf_last, vl_s]
      omega
theorem mod2 {x M : Nat} (h : x < 2 * M) : x % M = if x < M then x else x - M := by
  split
  · next h1 => exact Nat.mod_eq_of_lt h1
  · next h1 => rw [Nat.mod_eq_sub_mod (by omega), Nat.mod_eq_of_lt (by omega)]
theorem mod_2T {T M c : Nat} : (2 * T + c) % M = (2 * (T % M) + c) % M := by
  rw [Nat.add_mod, Nat.mul_mod, Nat.add_mod (2 * (T % M)), Nat.mul_mod 2 (T % M), Nat.mod_mod]
/-- a bit more, and the modulus taken away if it fits -/
theorem red1 {r M W V' o bit T : Nat} (hr : r = T % M) (hM : 0 < M) (hMW : M < W) (hV : V' < W) (ho : o < 2) (hb : bit < 2) (e : V' + o * W = 2 * r + bit) :
    (o ≠ 1 → V' < M → V' = (2 * T + bit) % M) ∧ ∀ V'' w, (o = 1 ∨ M ≤ V') → V'' < W → w < 2 → V'' + M = V' + w * W → V'' = (2 * T + bit) % M := by
  have hlt : T % M < M := Nat.mod_lt _ hM
  rw [mod_2T, ← hr, mod2 (by omega)]
  constructor
  · intro h1 h2
    obtain rfl : o = 0 := by omega
    split <;> omega
  · intro V'' w h1 h2 h3 h4
    rcases (show o = 0 ∨ o = 1 by omega) with rfl | rfl <;> rcases (show w = 0 ∨ w = 1 by omega) with rfl | rfl <;> split <;> omega
theorem bitT {T w b : Nat} (hb : b < 32) : 2 * (T * 2 ^ (32 - (b + 1)) + w / 2 ^ (b + 1)) + w / 2 ^ b % 2 = T * 2 ^ (32 - b) + w / 2 ^ b := by
  have e1 : 2 ^ (32 - b) = 2 ^ (32 - (b + 1)) * 2 := by rw [← Nat.pow_succ]; congr 1; omega
  have e2 : w / 2 ^ (b + 1) = w / 2 ^ b / 2 := by rw [Nat.pow_succ, Nat.div_div_eq_div_mul]
  rw [e1, e2, ← Nat.mul_assoc]
  omega
section MUL
variable {X : Ctx} {σ : Nat → Nat → Nat} {mn iv tw : Nat}
theorem V_lt {σ : Nat → Nat → Nat} (h : Wb σ) (k n : Nat) : V (σ k) n < 4294967296 ^ n := vl_lt (fun j _ => h k j)
theorem b_leave (C : Cx X b_D_leave 7 R_D) (hR : xR X = rm_D_leave) {ka n kb kt : Nat} (ha : ka < 35) (hb : kb < 35) (ht : kt < 35) (hta : kt ≠ ka) (htb : kt ≠ kb) (hn : 1 ≤ n) (la : n ≤ ln ka) (lb : 16 ≤ ln kb) (lt : 16 ≤ ln kt) (hM : 0 < V (σ kb) 16)
    (k : ∀ u, (∀ q, q ≠ kt → u q = σ q) → (∀ j, 16 ≤ j → u kt j = σ kt j) → V (u kt) 16 = V (σ ka) n % V (σ kb) 16 → Ret X b_D_leave .return_ [] u mn iv tw) :
    J X 0 [(0, .ref (ea (xE X) ka)), (1, .int (nI n)), (2, .ref (ea (xE X) kb)), (3, .ref (ea (xE X) kt))] [] σ mn iv tw := by
  have hln := ln_le ka
  refine J_wb (fun hw0 => ?_)
  have hMW : V (σ kb) 16 < 4294967296 ^ 16 := V_lt hw0 kb 16
  have outer : ∀ m, m ≤ n → ∀ τ, (∀ q, q ≠ kt → τ q = σ q) → (∀ j, 16 ≤ j → τ kt j = σ kt j) → V (τ kt) 16 = V (fun j => σ ka (m + j)) (n - m) % V (σ kb) 16 →
      J X 13 [(0, .ref (ea (xE X) ka)), (1, .int (nI n)), (2, .ref (ea (xE X) kb)), (3, .ref (ea (xE X) kt)), (4, .int (nI m + (-1)))] [] τ mn iv tw := by
    intro m
    induction m with
    | zero =>
      intro _ τ h1 h2 h3
      rw [m1_0]
      refine J_iload C d_D_leave_13 rfl ?_
      refine J_iflt C d_D_leave_15 (tgt := 73) (by decide) (by first | exact hwb _ _ | omega) (fun c_15 => ?_) (fun c_15 => ?_)
      · refine k τ h1 h2 ?_ _ _ d_D_leave_73
        rw [h3]
        simp only [Nat.zero_add, Nat.sub_zero]
      · omega
    | succ m ih =>
      intro hm τ h1 h2 h3
      rw [pk_m1]
      have inner : ∀ b, b ≤ 32 → ∀ τ, (∀ q, q ≠ kt → τ q = σ q) → (∀ j, 16 ≤ j → τ kt j = σ kt j) → V (τ kt) 16 = (V (fun j => σ ka (m + 1 + j)) (n - (m + 1)) * 2 ^ (32 - b) + σ ka m / 2 ^ b) % V (σ kb) 16 →
          J X 22 [(0, .ref (ea (xE X) ka)), (1, .int (nI n)), (2, .ref (ea (xE X) kb)), (3, .ref (ea (xE X) kt)), (4, .int (nI m)), (5, .int (nI b + (-1)))] [] τ mn iv tw := by
        intro b
        induction b with
        | zero =>
          intro _ τ h1 h2 h3
          rw [m1_0]
          refine J_iload C d_D_leave_22 rfl ?_
          refine J_iflt C d_D_leave_24 (tgt := 67) (by decide) (by first | exact hwb _ _ | omega) (fun c_24 => ?_) (fun c_24 => ?_)
          · refine J_iinc (lv' := [(0, _), (1, _), (2, _), (3, _), (4, _), (5, _)]) C d_D_leave_67 rfl (dec1 _) (by decide) rfl rfl ?_
            refine J_goto C d_D_leave_70 (tgt := 13) (by decide) ?_
            refine J_sub [0, 1, 2, 3, 4] rfl ?_
            refine ih (by omega) τ h1 h2 ?_
            rw [h3]
            obtain ⟨d, hd⟩ : ∃ d, n - m = d + 1 := ⟨n - m - 1, by omega⟩
            have e : V (fun j => σ ka (m + j)) (n - m) = σ ka m + 4294967296 * V (fun j => σ ka (m + 1 + j)) (n - (m + 1)) := by
              unfold V
              rw [hd, vl_head, show n - (m + 1) = d by omega]
              congr 2
              exact vl_congr (fun j _ => by rw [Nat.add_assoc, Nat.add_comm 1 j])
            rw [e]
            congr 1
            simp only [Nat.sub_zero, Nat.pow_zero, Nat.div_one]
            omega
          · omega
        | succ b ihb =>
          intro hb32 τ h1 h2 h3
          rw [pk_m1]
          refine J_wb (fun hwb => ?_)
          have hwt := hwb
          have eA : τ ka m = σ ka m := by rw [h1 ka (Ne.symm hta)]
          have eB : τ kb = σ kb := h1 kb (Ne.symm htb)
          refine J_iload C d_D_leave_22 rfl ?_
          refine J_iflt C d_D_leave_24 (tgt := 67) (by decide) (by first | exact hwb _ _ | omega) (fun c_24 => ?_) (fun c_24 => ?_)
          · omega
          · refine J_aload_n C d_D_leave_27 3 rfl rfl ?_
            refine J_aload_n C d_D_leave_28 0 rfl rfl ?_
            refine J_iload C d_D_leave_29 rfl ?_
            refine J_iaload C d_D_leave_31 (by omega) (by omega) ?_
            refine J_iload C d_D_leave_32 rfl ?_
            refine J_iushr C d_D_leave_34 _ rfl (by first | exact hwb _ _ | omega) (by omega) ?_
            refine J_iconst C d_D_leave_35 1 (by decide) ?_
            refine J_iand C d_D_leave_36 1 2 rfl (Nat.lt_of_le_of_lt (Nat.div_le_self _ _) (hwb _ _)) (by decide) rfl ?_
            refine J_callSi C d_D_leave_37 (c_twice (σ := τ) (xl X) (xE X) (xA X) (ka := kt) ht lt (Nat.mod_lt _ (by decide))) ⟨⟨ml_D_62, ini_D, mc_D_twice⟩, co_D_twice, ⟨rfl, rfl⟩, by rw [hR]; decide⟩ st_D_twice rfl (by decide) (fun n37 s37 h37 => ?_)
            refine J_wb (fun hwb => ?_)
            obtain ⟨g1, g2, g3, g4⟩ := h37
            have hw37 := hwb
            have red := red1 h3 hM hMW (V_lt hwb kt 16) g1 (show τ ka m / 2 ^ b % 2 < 2 from Nat.mod_lt _ (by decide)) g4
            rw [eA, bitT (by omega)] at red
            refine J_istore (lv' := [(0, _), (1, _), (2, _), (3, _), (4, _), (5, _), (6, _)]) C d_D_leave_40 (by decide) rfl rfl ?_
            refine J_iload C d_D_leave_42 rfl ?_
            refine J_iconst C d_D_leave_44 1 (by decide) ?_
            refine J_icmp_eq C d_D_leave_45 (tgt := 56) (by decide) (by first | exact hwb _ _ | omega) (by first | exact hwb _ _ | omega) (fun c_45 => ?_) (fun c_45 => ?_)
            · refine J_aload_n C d_D_leave_56 3 rfl rfl ?_
              refine J_aload_n C d_D_leave_57 2 rfl rfl ?_
              refine J_callSv C d_D_leave_58 (c_subtract (σ := s37) (xl X) (xE X) (xA X) (ka := kt) (kb := kb) ht hb htb lt lb) ⟨⟨ml_D_70, ini_D, mc_D_subtract⟩, co_D_subtract, ⟨rfl, rfl⟩, by rw [hR]; decide⟩ st_D_subtract rfl (by decide) (fun s58 h58 => ?_)
              refine J_wb (fun hwb => ?_)
              obtain ⟨f1, f2, w, f3, f4⟩ := h58
              rw [g2 kb (Ne.symm htb), eB] at f4
              refine J_iinc (lv' := [(0, _), (1, _), (2, _), (3, _), (4, _), (5, _), (6, _)]) C d_D_leave_61 rfl (dec1 _) (by decide) rfl rfl ?_
              refine J_goto C d_D_leave_64 (tgt := 22) (by decide) ?_
              refine J_sub [0, 1, 2, 3, 4, 5] rfl ?_
              exact ihb (by omega) s58 (fun q hq => by rw [f1 q hq, g2 q hq, h1 q hq]) (fun j hj => by rw [f2 j hj, g3 j hj, h2 j hj]) (red.2 _ w (Or.inl c_45) (V_lt hwb kt 16) f3 f4)
            · refine J_aload_n C d_D_leave_48 3 rfl rfl ?_
              refine J_aload_n C d_D_leave_49 2 rfl rfl ?_
              refine J_callSi C d_D_leave_50 (c_compare (σ := s37) (xl X) (xE X) (xA X) (ka := kt) (kb := kb) ht hb lt lb) ⟨⟨ml_D_66, ini_D, mc_D_compare⟩, co_D_compare, ⟨rfl, rfl⟩, by rw [hR]; decide⟩ st_D_compare rfl (by decide) (fun n50 s50 h50 => ?_)
              refine J_wb (fun hwb => ?_)
              obtain ⟨rfl, p1, p2⟩ := h50
              rw [g2 kb (Ne.symm htb), eB] at p2
              refine J_iflt C d_D_leave_53 (tgt := 61) (by decide) (by first | exact hwb _ _ | omega) (fun c_53 => ?_) (fun c_53 => ?_)
              · refine J_iinc (lv' := [(0, _), (1, _), (2, _), (3, _), (4, _), (5, _), (6, _)]) C d_D_leave_61 rfl (dec1 _) (by decide) rfl rfl ?_
                refine J_goto C d_D_leave_64 (tgt := 22) (by decide) ?_
                refine J_sub [0, 1, 2, 3, 4, 5] rfl ?_
                exact ihb (by omega) s37 (fun q hq => by rw [g2 q hq, h1 q hq]) (fun j hj => by rw [g3 j hj, h2 j hj]) (red.1 c_45 (p2.mp c_53))
              · refine J_aload_n C d_D_leave_56 3 rfl rfl ?_
                refine J_aload_n C d_D_leave_57 2 rfl rfl ?_
                refine J_callSv C d_D_leave_58 (c_subtract (σ := s37) (xl X) (xE X) (xA X) (ka := kt) (kb := kb) ht hb htb lt lb) ⟨⟨ml_D_70, ini_D, mc_D_subtract⟩, co_D_subtract, ⟨rfl, rfl⟩, by rw [hR]; decide⟩ st_D_subtract rfl (by decide) (fun s58 h58 => ?_)
                refine J_wb (fun hwb => ?_)
                obtain ⟨f1, f2, w, f3, f4⟩ := h58
                rw [g2 kb (Ne.symm htb), eB] at f4
                refine J_iinc (lv' := [(0, _), (1, _), (2, _), (3, _), (4, _), (5, _), (6, _)]) C d_D_leave_61 rfl (dec1 _) (by decide) rfl rfl ?_
                refine J_goto C d_D_leave_64 (tgt := 22) (by decide) ?_
                refine J_sub [0, 1, 2, 3, 4, 5] rfl ?_
                exact ihb (by omega) s58 (fun q hq => by rw [f1 q hq, g2 q hq, h1 q hq]) (fun j hj => by rw [f2 j hj, g3 j hj, h2 j hj]) (red.2 _ w (Or.inr (Nat.le_of_not_lt fun h => by have := p2.mpr h; omega)) (V_lt hwb kt 16) f3 f4)
      refine J_iload C d_D_leave_13 rfl ?_
      refine J_iflt C d_D_leave_15 (tgt := 73) (by decide) (by first | exact hwb _ _ | omega) (fun c_15 => ?_) (fun c_15 => ?_)
      · omega
      · refine J_bipush C d_D_leave_18 31 (by decide) ?_
        refine J_istore (lv' := [(0, _), (1, _), (2, _), (3, _), (4, _), (5, _)]) C d_D_leave_20 (by decide) rfl rfl ?_
        refine inner 32 (by omega) τ h1 h2 ?_
        rw [h3]
        have hs : σ ka m / 2 ^ 32 = 0 := Nat.div_eq_of_lt (hw0 ka m)
        simp only [hs, Nat.sub_self, Nat.pow_zero, Nat.mul_one, Nat.add_zero]
  refine J_aload_n C d_D_leave_0 3 rfl rfl ?_
  refine J_iconst C d_D_leave_1 0 (by decide) ?_
  refine J_bipush C d_D_leave_2 16 (by decide) ?_
  refine J_iconst C d_D_leave_4 0 (by decide) ?_
  refine J_callSv C d_D_leave_5 (c_fill4 (σ := σ) (xl X) (xE X) (xA X) (ka := kt) (a := 0) (b := 16) (v := 0) ht (by omega) lt (by decide)) ⟨⟨ml_D_56, ini_A, mc_A_fill4⟩, co_A_fill4, ⟨rfl, rfl⟩, by rw [hR]; decide⟩ st_A_fill4 rfl (by decide) (fun s5 h5 => ?_)
  refine J_wb (fun hwb => ?_)
  refine J_iload_n C d_D_leave_8 1 rfl rfl ?_
  refine J_iconst C d_D_leave_9 1 (by decide) ?_
  refine J_isub C d_D_leave_10 (by omega) ?_
  refine J_istore (lv' := [(0, _), (1, _), (2, _), (3, _), (4, _)]) C d_D_leave_11 (by decide) rfl rfl ?_
  obtain ⟨g1, g2, g3⟩ := h5
  have h := outer n (Nat.le_refl n) s5 g1 (fun j hj => g3 j (Or.inr hj)) (by rw [Nat.sub_self, V, vl_zero (fun j hj => g2 j (Nat.zero_le j) hj)]; rfl)
  rw [show nI n + (-1) = nI (n - 1) from sb_m1 hn] at h
  exact h
theorem c_leave (l : Launch) (E : En) (A : Nat → Prop) {ka n kb kt : Nat} (ha : ka < 35) (hb : kb < 35) (ht : kt < 35) (hta : kt ≠ ka) (htb : kt ≠ kb) (hn : 1 ≤ n) (la : n ≤ ln ka) (lb : 16 ≤ ln kb) (lt : 16 ≤ ln kt) (hM : 0 < V (σ kb) 16) : MV l y_D_leave b_D_leave 7 rm_D_leave [.ref (ea E ka), .int (nI n), .ref (ea E kb), .ref (ea E kt)] E A σ mn iv tw (fun u => (∀ q, q ≠ kt → u q = σ q) ∧ (∀ j, 16 ≤ j → u kt j = σ kt j) ∧ V (u kt) 16 = V (σ ka) n % V (σ kb) 16) :=
  mk_v (by decide) (Nat.le_of_ble_eq_true rfl) (fun X C hR hE k => by subst hE; exact b_leave C hR ha hb ht hta htb hn la lb lt hM (fun u h1 h2 h3 => k u ⟨h1, h2, h3⟩))
end MUL
end
section
/-! reduce, times -/
theorem cpy_lt {f g : Nat → Nat} {n j : Nat} (h : j < n) : va_cpy f g 0 0 n j = f j := by
  rw [pk_cpy_in (Nat.zero_le j) (by omega)]
  congr 1
  omega
theorem cpy_ge {f g : Nat → Nat} {n j : Nat} (h : n ≤ j) : va_cpy f g 0 0 n j = g j := pk_cpy_out (Or.inr (by omega))
theorem V_cpy {f g : Nat → Nat} {n m : Nat} (h : m ≤ n) : V (va_cpy f g 0 0 n) m = V f m := vl_congr (fun j hj => cpy_lt (by omega))
theorem tm_in {Vn Vn' t c x bj v' c' Bj Bi P Vb S0 B : Nat} (hP : P = Bi * Bj) (h : Vn + c * P = S0 + x * Vb * Bi) (hv : v' + c' * B = c + (x * bj + t)) (hu : Vn' + t * P = Vn + v' * P) : Vn' + c' * (P * B) = S0 + x * (Vb + bj * Bj) * Bi := by
  subst hP
  grind
theorem row_fin {V'' T0 A y z P : Nat} (hT : T0 = A % P) (h : V'' + z * P = T0 + y) (hV : V'' < P) : V'' = (A + y) % P := by
  have e : (A + y) % P = (T0 + y) % P := by rw [hT, Nat.mod_add_mod]
  rw [e, ← h, Nat.add_mul_mod_self_right, Nat.mod_eq_of_lt hV]
section TIMES
variable {X : Ctx} {σ : Nat → Nat → Nat} {mn iv tw : Nat}
theorem b_reduce (C : Cx X b_D_reduce 2 R_D) (hR : xR X = rm_D_reduce) {ka : Nat} (ha : ka < 35) (la : 16 ≤ ln ka) (h0 : ka ≠ 0) (h6 : ka ≠ 6) (hM : 0 < V (σ 0) 16)
    (k : ∀ u, (∀ q, q ≠ ka → q ≠ 6 → u q = σ q) → V (u ka) 16 = V (σ ka) 16 % V (σ 0) 16 → Ret X b_D_reduce .return_ [] u mn iv tw) :
    J X 0 [(0, .ref (ex (xE X))), (1, .ref (ea (xE X) ka))] [] σ mn iv tw := by
  refine J_aload_n C d_D_reduce_0 1 rfl rfl ?_
  refine J_aload_n C d_D_reduce_1 0 rfl rfl ?_
  refine J_get_modulus C d_D_reduce_2 ?_
  refine J_callSi C d_D_reduce_5 (c_compare (σ := σ) (xl X) (xE X) (xA X) (ka := ka) (kb := 0) ha (by decide) la (by decide)) ⟨⟨ml_D_66, ini_D, mc_D_compare⟩, co_D_compare, ⟨rfl, rfl⟩, by rw [hR]; decide⟩ st_D_compare rfl (by decide) (fun n5 s5 h5 => ?_)
  refine J_wb (fun hwb => ?_)
  obtain ⟨rfl, p1, p2⟩ := h5
  refine J_ifge C d_D_reduce_8 (tgt := 12) (by decide) (by first | exact hwb _ _ | omega) (fun c_8 => ?_) (fun c_8 => ?_)
  · refine J_aload_n C d_D_reduce_12 1 rfl rfl ?_
    refine J_bipush C d_D_reduce_13 16 (by decide) ?_
    refine J_aload_n C d_D_reduce_15 0 rfl rfl ?_
    refine J_get_modulus C d_D_reduce_16 ?_
    refine J_aload_n C d_D_reduce_19 0 rfl rfl ?_
    refine J_get_left C d_D_reduce_20 ?_
    refine J_callSv C d_D_reduce_23 (c_leave (σ := σ) (xl X) (xE X) (xA X) (ka := ka) (n := 16) (kb := 0) (kt := 6) ha (by decide) (by decide) (Ne.symm h6) (by decide) (by decide) la (by decide) (by decide) hM) ⟨⟨ml_D_74, ini_D, mc_D_leave⟩, co_D_leave, ⟨rfl, rfl⟩, by rw [hR]; decide⟩ st_D_leave rfl (by decide) (fun s23 h23 => ?_)
    refine J_wb (fun hwb => ?_)
    refine J_aload_n C d_D_reduce_26 0 rfl rfl ?_
    refine J_get_left C d_D_reduce_27 ?_
    refine J_iconst C d_D_reduce_30 0 (by decide) ?_
    refine J_aload_n C d_D_reduce_31 1 rfl rfl ?_
    refine J_iconst C d_D_reduce_32 0 (by decide) ?_
    refine J_bipush C d_D_reduce_33 16 (by decide) ?_
    refine J_copy C d_D_reduce_35 (by decide) (by omega) (by show _ ≤ 17; omega) (by omega) (by rw [hR]; decide) (by rw [hR]; decide) ?_
    refine J_wb (fun hwb => ?_)
    obtain ⟨g1, g2, g3⟩ := h23
    refine k _ (fun q hq hq6 => by rw [up_n hq]; exact g1 q hq6) ?_ _ _ d_D_reduce_38
    rw [up_s, V_cpy (Nat.le_refl 16), g3]
  · exact k σ (fun _ _ _ => rfl) (Nat.mod_eq_of_lt (p2.mp c_8)).symm _ _ d_D_reduce_11
theorem c_reduce (l : Launch) (E : En) (A : Nat → Prop) {ka : Nat} (ha : ka < 35) (la : 16 ≤ ln ka) (h0 : ka ≠ 0) (h6 : ka ≠ 6) (hM : 0 < V (σ 0) 16) : MV l y_D_reduce b_D_reduce 2 rm_D_reduce [.ref (ex E), .ref (ea E ka)] E A σ mn iv tw (fun u => (∀ q, q ≠ ka → q ≠ 6 → u q = σ q) ∧ V (u ka) 16 = V (σ ka) 16 % V (σ 0) 16) :=
  mk_v (by decide) (Nat.le_of_ble_eq_true rfl) (fun X C hR hE k => by subst hE; exact b_reduce C hR ha la h0 h6 hM (fun u h1 h2 => k u ⟨h1, h2⟩))
theorem b_times (C : Cx X b_D_times 8 R_D) (hR : xR X = rm_D_times) {ka kb n kt : Nat} (ha : ka < 35) (hb : kb < 35) (ht : kt < 35) (hta : kt ≠ ka) (htb : kt ≠ kb) (la : 16 ≤ ln ka) (lb : 16 ≤ ln kb) (lt : n ≤ ln kt)
    (k : ∀ u, (∀ q, q ≠ kt → u q = σ q) → (∀ j, n ≤ j → u kt j = σ kt j) → V (u kt) n = V (σ ka) 16 * V (σ kb) 16 % 4294967296 ^ n → Ret X b_D_times .return_ [] u mn iv tw) :
    J X 0 [(0, .ref (ea (xE X) ka)), (1, .ref (ea (xE X) kb)), (2, .int (nI n)), (3, .ref (ea (xE X) kt))] [] σ mn iv tw := by
  have hln := ln_le kt
  refine J_wb (fun hw0 => ?_)
  have outer : ∀ d i τ, i + d = min 16 n → (∀ q, q ≠ kt → τ q = σ q) → (∀ j, n ≤ j → τ kt j = σ kt j) → (∀ j, i + 16 ≤ j → j < n → τ kt j = 0) → V (τ kt) n = V (σ ka) i * V (σ kb) 16 % 4294967296 ^ n →
      J X 10 [(0, .ref (ea (xE X) ka)), (1, .ref (ea (xE X) kb)), (2, .int (nI n)), (3, .ref (ea (xE X) kt)), (4, .int (nI i))] [] τ mn iv tw := by
    intro d
    induction d with
    | zero =>
      intro i τ hi h1 h2 h3 h4
      refine J_iload C d_D_times_10 rfl ?_
      refine J_bipush C d_D_times_12 16 (by decide) ?_
      refine J_icmp_ge C d_D_times_14 (tgt := 130) (by decide) (by omega) (by omega) (fun c_14 => ?_) (fun c_14 => ?_)
      · obtain rfl : i = 16 := by omega
        exact k τ h1 h2 h4 _ _ d_D_times_130
      · refine J_iload C d_D_times_17 rfl ?_
        refine J_iload_n C d_D_times_19 2 rfl rfl ?_
        refine J_icmp_ge C d_D_times_20 (tgt := 130) (by decide) (by omega) (by omega) (fun c_20 => ?_) (fun c_20 => ?_)
        · obtain rfl : i = n := by omega
          refine k τ h1 h2 ?_ _ _ d_D_times_130
          have e1 : V (σ ka) 16 % 4294967296 ^ i = V (σ ka) i := vl_mod (fun j _ => hw0 ka j) (by omega)
          have e2 : V (σ ka) i % 4294967296 ^ i = V (σ ka) i := vl_mod (fun j _ => hw0 ka j) (by omega)
          rw [h4, Nat.mul_mod, e2, Nat.mul_mod (V (σ ka) 16), e1]
        · omega
    | succ d ih =>
      intro i τ hi h1 h2 h3 h4
      have inner : ∀ e j c τ', j + e = min 16 (n - i) → c < 4294967296 → (∀ q, q ≠ kt → τ' q = σ q) → (∀ p, i + j ≤ p → τ' kt p = τ kt p) → V (τ' kt) n + c * 4294967296 ^ (i + j) = V (τ kt) n + σ ka i * V (σ kb) j * 4294967296 ^ i →
          J X 29 [(0, .ref (ea (xE X) ka)), (1, .ref (ea (xE X) kb)), (2, .int (nI n)), (3, .ref (ea (xE X) kt)), (4, .int (nI i)), (5, .long (lN c)), (7, .int (nI j))] [] τ' mn iv tw := by
        intro e
        induction e with
        | zero =>
          intro j c τ' hj hc g1 g2 g3
          refine J_wb (fun hwb => ?_)
          have hw' := hwb
          have eA : V (σ ka) (i + 1) * V (σ kb) 16 = V (σ ka) i * V (σ kb) 16 + σ ka i * V (σ kb) 16 * 4294967296 ^ i := by
            unfold V
            rw [vl_s]
            grind
          refine J_iload C d_D_times_29 rfl ?_
          refine J_bipush C d_D_times_31 16 (by decide) ?_
          refine J_icmp_ge C d_D_times_33 (tgt := 105) (by decide) (by omega) (by omega) (fun c_33 => ?_) (fun c_33 => ?_)
          · refine J_iload C d_D_times_105 rfl ?_
            refine J_bipush C d_D_times_107 16 (by decide) ?_
            refine J_iadd C d_D_times_109 ?_
            refine J_iload_n C d_D_times_110 2 rfl rfl ?_
            refine J_icmp_ge C d_D_times_111 (tgt := 124) (by decide) (by omega) (by omega) (fun c_111 => ?_) (fun c_111 => ?_)
            · refine J_iinc (lv' := [(0, _), (1, _), (2, _), (3, _), (4, _), (5, _), (7, _)]) C d_D_times_124 rfl (inc1 _) (by decide) rfl rfl ?_
              refine J_goto C d_D_times_127 (tgt := 10) (by decide) ?_
              refine J_sub [0, 1, 2, 3, 4] rfl ?_
              obtain rfl : j = 16 := by omega
              have hn : n = i + 16 := by omega
              refine ih (i + 1) τ' (by omega) g1 (fun j hj => by rw [g2 j (by omega)]; exact h2 j hj) (fun j _ _ => by omega) ?_
              rw [eA]
              rw [← hn] at g3
              exact row_fin h4 g3 (V_lt hw' kt n)
            · refine J_aload_n C d_D_times_114 3 rfl rfl ?_
              refine J_iload C d_D_times_115 rfl ?_
              refine J_bipush C d_D_times_117 16 (by decide) ?_
              refine J_iadd C d_D_times_119 ?_
              refine J_lload C d_D_times_120 rfl ?_
              refine J_l2i C d_D_times_122 ?_
              refine J_iastore C d_D_times_123 (by omega) (by omega) ?_
              refine J_wb (fun hwb => ?_)
              refine J_iinc (lv' := [(0, _), (1, _), (2, _), (3, _), (4, _), (5, _), (7, _)]) C d_D_times_124 rfl (inc1 _) (by decide) rfl rfl ?_
              refine J_goto C d_D_times_127 (tgt := 10) (by decide) ?_
              refine J_sub [0, 1, 2, 3, 4] rfl ?_
              obtain rfl : j = 16 := by omega
              have h0 : τ' kt (i + 16) = 0 := by rw [g2 _ (Nat.le_refl _)]; exact h3 _ (Nat.le_refl _) c_111
              refine ih (i + 1) _ (by omega) (fun q hq => by rw [up_n hq]; exact g1 q hq) (fun j hj => by rw [up_s, uf_n (by omega), g2 j (by omega)]; exact h2 j hj) (fun j hj hj2 => by rw [up_s, uf_n (by omega), g2 j (by omega)]; exact h3 j (by omega) hj2) ?_
              have e := vl_uf (b := 4294967296) (f := τ' kt) (v := c % 4294967296) c_111
              rw [h0, Nat.zero_mul, Nat.add_zero, Nat.mod_eq_of_lt hc] at e
              rw [eA]
              have hlt := V_lt hwb kt n
              rw [up_s, Nat.mod_eq_of_lt hc] at hlt ⊢
              refine row_fin (z := 0) h4 ?_ hlt
              unfold V at g3 ⊢
              omega
          · refine J_iload C d_D_times_36 rfl ?_
            refine J_iload C d_D_times_38 rfl ?_
            refine J_iadd C d_D_times_40 ?_
            refine J_iload_n C d_D_times_41 2 rfl rfl ?_
            refine J_icmp_ge C d_D_times_42 (tgt := 105) (by decide) (by omega) (by omega) (fun c_42 => ?_) (fun c_42 => ?_)
            · refine J_iload C d_D_times_105 rfl ?_
              refine J_bipush C d_D_times_107 16 (by decide) ?_
              refine J_iadd C d_D_times_109 ?_
              refine J_iload_n C d_D_times_110 2 rfl rfl ?_
              refine J_icmp_ge C d_D_times_111 (tgt := 124) (by decide) (by omega) (by omega) (fun c_111 => ?_) (fun c_111 => ?_)
              · refine J_iinc (lv' := [(0, _), (1, _), (2, _), (3, _), (4, _), (5, _), (7, _)]) C d_D_times_124 rfl (inc1 _) (by decide) rfl rfl ?_
                refine J_goto C d_D_times_127 (tgt := 10) (by decide) ?_
                refine J_sub [0, 1, 2, 3, 4] rfl ?_
                have hn : n = i + j := by omega
                refine ih (i + 1) τ' (by omega) g1 (fun p hp => by rw [g2 p (by omega)]; exact h2 p hp) (fun p _ _ => by omega) ?_
                rw [eA]
                rw [← hn] at g3
                have e1 := vl_split (b := 4294967296) (f := σ kb) (m := j) (n := 16 - j)
                rw [show j + (16 - j) = 16 by omega] at e1
                have e2 : 4294967296 ^ n = 4294967296 ^ i * 4294967296 ^ j := by rw [hn, Nat.pow_add]
                refine row_fin (z := c + σ ka i * vl 4294967296 (fun p => σ kb (j + p)) (16 - j)) h4 ?_ (V_lt hw' kt n)
                unfold V at g3 ⊢
                rw [e1]
                grind
              · omega
            · omega
        | succ e ihe =>
          intro j c τ' hj hc g1 g2 g3
          refine J_wb (fun hwb => ?_)
          have hx := hwb ka i
          have hy := hwb kb j
          have hz := hwb kt (i + j)
          have hxy : τ' ka i * τ' kb j ≤ 4294967295 * 4294967295 := Nat.mul_le_mul (by omega) (by omega)
          refine J_iload C d_D_times_29 rfl ?_
          refine J_bipush C d_D_times_31 16 (by decide) ?_
          refine J_icmp_ge C d_D_times_33 (tgt := 105) (by decide) (by omega) (by omega) (fun c_33 => ?_) (fun c_33 => ?_)
          · omega
          · refine J_iload C d_D_times_36 rfl ?_
            refine J_iload C d_D_times_38 rfl ?_
            refine J_iadd C d_D_times_40 ?_
            refine J_iload_n C d_D_times_41 2 rfl rfl ?_
            refine J_icmp_ge C d_D_times_42 (tgt := 105) (by decide) (by omega) (by omega) (fun c_42 => ?_) (fun c_42 => ?_)
            · omega
            · refine J_lload C d_D_times_45 rfl ?_
              refine J_aload_n C d_D_times_47 0 rfl rfl ?_
              refine J_iload C d_D_times_48 rfl ?_
              refine J_iaload C d_D_times_50 (by omega) (by omega) ?_
              refine J_word C d_D_times_51 d_D_times_52 d_D_times_55 (by first | exact hwb _ _ | omega) ?_
              refine J_aload_n C d_D_times_56 1 rfl rfl ?_
              refine J_iload C d_D_times_57 rfl ?_
              refine J_iaload C d_D_times_59 (by omega) (by omega) ?_
              refine J_word C d_D_times_60 d_D_times_61 d_D_times_64 (by first | exact hwb _ _ | omega) ?_
              refine J_lmul C d_D_times_65 ?_
              refine J_aload_n C d_D_times_66 3 rfl rfl ?_
              refine J_iload C d_D_times_67 rfl ?_
              refine J_iload C d_D_times_69 rfl ?_
              refine J_iadd C d_D_times_71 ?_
              refine J_iaload C d_D_times_72 (by omega) (by omega) ?_
              refine J_word C d_D_times_73 d_D_times_74 d_D_times_77 (by first | exact hwb _ _ | omega) ?_
              refine J_ladd C d_D_times_78 ?_
              refine J_ladd C d_D_times_79 ?_
              refine J_lstore (lv' := [(0, _), (1, _), (2, _), (3, _), (4, _), (5, _), (7, _)]) C d_D_times_80 (by decide) rfl rfl ?_
              refine J_aload_n C d_D_times_82 3 rfl rfl ?_
              refine J_iload C d_D_times_83 rfl ?_
              refine J_iload C d_D_times_85 rfl ?_
              refine J_iadd C d_D_times_87 ?_
              refine J_lload C d_D_times_88 rfl ?_
              refine J_l2i C d_D_times_90 ?_
              refine J_iastore C d_D_times_91 (by omega) (by omega) ?_
              refine J_wb (fun hwb => ?_)
              refine J_lload C d_D_times_92 rfl ?_
              refine J_bipush C d_D_times_94 32 (by decide) ?_
              refine J_lushr C d_D_times_96 4294967296 rfl (by omega) (by decide) ?_
              refine J_lstore (lv' := [(0, _), (1, _), (2, _), (3, _), (4, _), (5, _), (7, _)]) C d_D_times_97 (by decide) rfl rfl ?_
              refine J_iinc (lv' := [(0, _), (1, _), (2, _), (3, _), (4, _), (5, _), (7, _)]) C d_D_times_99 rfl (inc1 _) (by decide) rfl rfl ?_
              refine J_goto C d_D_times_102 (tgt := 29) (by decide) ?_
              refine ihe (j + 1) _ _ (by omega) (by omega) (fun q hq => by rw [up_n hq]; exact g1 q hq) (fun p hp => by rw [up_s, uf_n (by omega)]; exact g2 p (by omega)) ?_
              have eu := vl_uf (b := 4294967296) (f := τ' kt) (v := (c + (τ' ka i * τ' kb j + τ' kt (i + j))) % 4294967296) (p := i + j) (n := n) (by omega)
              rw [up_s, show i + (j + 1) = i + j + 1 from rfl, Nat.pow_succ]
              have e3 := tm_in (B := 4294967296) (bj := σ kb j) (Bj := 4294967296 ^ j) (Nat.pow_add 4294967296 i j) g3 (v' := (c + (τ' ka i * τ' kb j + τ' kt (i + j))) % 4294967296) (c' := (c + (τ' ka i * τ' kb j + τ' kt (i + j))) / 4294967296) (t := τ' kt (i + j)) (by rw [g1 ka (Ne.symm hta), g1 kb (Ne.symm htb)]; omega) eu
              exact e3
      refine J_iload C d_D_times_10 rfl ?_
      refine J_bipush C d_D_times_12 16 (by decide) ?_
      refine J_icmp_ge C d_D_times_14 (tgt := 130) (by decide) (by omega) (by omega) (fun c_14 => ?_) (fun c_14 => ?_)
      · omega
      · refine J_iload C d_D_times_17 rfl ?_
        refine J_iload_n C d_D_times_19 2 rfl rfl ?_
        refine J_icmp_ge C d_D_times_20 (tgt := 130) (by decide) (by omega) (by omega) (fun c_20 => ?_) (fun c_20 => ?_)
        · omega
        · refine J_lconst C d_D_times_23 0 rfl ?_
          refine J_lstore (lv' := [(0, _), (1, _), (2, _), (3, _), (4, _), (5, _)]) C d_D_times_24 (by decide) rfl rfl ?_
          refine J_iconst C d_D_times_26 0 (by decide) ?_
          refine J_istore (lv' := [(0, _), (1, _), (2, _), (3, _), (4, _), (5, _), (7, _)]) C d_D_times_27 (by decide) rfl rfl ?_
          exact inner (min 16 (n - i)) 0 0 τ (by omega) (by decide) h1 (fun _ _ => rfl) (by unfold V; rw [show vl 4294967296 (σ kb) 0 = 0 from rfl]; omega)
  refine J_aload_n C d_D_times_0 3 rfl rfl ?_
  refine J_iconst C d_D_times_1 0 (by decide) ?_
  refine J_iload_n C d_D_times_2 2 rfl rfl ?_
  refine J_iconst C d_D_times_3 0 (by decide) ?_
  refine J_callSv C d_D_times_4 (c_fill4 (σ := σ) (xl X) (xE X) (xA X) (ka := kt) (a := 0) (b := n) (v := 0) ht (by omega) lt (by decide)) ⟨⟨ml_D_56, ini_A, mc_A_fill4⟩, co_A_fill4, ⟨rfl, rfl⟩, by rw [hR]; decide⟩ st_A_fill4 rfl (by decide) (fun s4 h4 => ?_)
  refine J_wb (fun hwb => ?_)
  refine J_iconst C d_D_times_7 0 (by decide) ?_
  refine J_istore (lv' := [(0, _), (1, _), (2, _), (3, _), (4, _)]) C d_D_times_8 (by decide) rfl rfl ?_
  obtain ⟨g1, g2, g3⟩ := h4
  refine outer (min 16 n) 0 s4 (by omega) g1 (fun j hj => g3 j (Or.inr hj)) (fun j _ hj => g2 j (Nat.zero_le j) hj) ?_
  unfold V
  rw [vl_zero (fun j hj => g2 j (Nat.zero_le j) hj), show vl 4294967296 (σ ka) 0 = 0 from rfl, Nat.zero_mul, Nat.zero_mod]
theorem c_times (l : Launch) (E : En) (A : Nat → Prop) {ka kb n kt : Nat} (ha : ka < 35) (hb : kb < 35) (ht : kt < 35) (hta : kt ≠ ka) (htb : kt ≠ kb) (la : 16 ≤ ln ka) (lb : 16 ≤ ln kb) (lt : n ≤ ln kt) : MV l y_D_times b_D_times 8 rm_D_times [.ref (ea E ka), .ref (ea E kb), .int (nI n), .ref (ea E kt)] E A σ mn iv tw (fun u => (∀ q, q ≠ kt → u q = σ q) ∧ (∀ j, n ≤ j → u kt j = σ kt j) ∧ V (u kt) n = V (σ ka) 16 * V (σ kb) 16 % 4294967296 ^ n) :=
  mk_v (by decide) (Nat.le_of_ble_eq_true rfl) (fun X C hR hE k => by subst hE; exact b_times C hR ha hb ht hta htb la lb lt (fun u h1 h2 h3 => k u ⟨h1, h2, h3⟩))
end TIMES
end
section
/-! the desk's face: modulus, base, power, multiply, keep, answer, factor; bit, bits -/
/-- four words laid into a row -/
def pf (f : Nat → Nat) (pt p q r s : Nat) : Nat → Nat := uf (uf (uf (uf f (4 * (pt % 4)) (p % 4294967296)) (4 * (pt % 4) + 1) (q % 4294967296)) (4 * (pt % 4) + 2) (r % 4294967296)) (4 * (pt % 4) + 3) (s % 4294967296)
/-- a modulus below 2 becomes 2 -/
def fixm (f : Nat → Nat) : Nat → Nat := if V f 16 < 2 then uf f 0 2 else f
theorem vl_ge {b : Nat} {f : Nat → Nat} {j : Nat} : ∀ {n : Nat}, j < n → f j * b ^ j ≤ vl b f n
  | 0, h => by omega
  | n + 1, h => by
    rw [vl_s]
    rcases Nat.lt_or_ge j n with q | q
    · have := vl_ge (b := b) (f := f) q
      omega
    · obtain rfl : j = n := by omega
      omega
theorem vl_eq0 {b : Nat} {f : Nat → Nat} {n : Nat} (hb : 0 < b) (h : vl b f n = 0) : ∀ j, j < n → f j = 0 := by
  intro j hj
  have h1 := vl_ge (b := b) (f := f) hj
  rw [h] at h1
  have h2 : 0 < b ^ j := Nat.pow_pos hb
  rcases Nat.eq_zero_or_pos (f j) with q | q
  · exact q
  · have := Nat.mul_pos q h2
    omega
theorem vl_small {b : Nat} {f : Nat → Nat} {n : Nat} (hb : 2 ≤ b) : vl b f (n + 1) < 2 ↔ f 0 < 2 ∧ ∀ j, 1 ≤ j → j < n + 1 → f j = 0 := by
  rw [vl_head]
  constructor
  · intro h
    have h0 : vl b (fun j => f (j + 1)) n = 0 := by
      rcases Nat.eq_zero_or_pos (vl b (fun j => f (j + 1)) n) with q | q
      · exact q
      · have := Nat.mul_le_mul hb q
        omega
    refine ⟨by omega, fun j h1 h2 => ?_⟩
    have := vl_eq0 (by omega) h0 (j - 1) (by omega)
    simp only [show j - 1 + 1 = j by omega] at this
    exact this
  · intro ⟨h1, h2⟩
    rw [vl_zero (f := fun j => f (j + 1)) (fun j hj => h2 (j + 1) (by omega) (by omega))]
    omega
theorem or_zero {a b : Nat} : a ||| b = 0 ↔ a = 0 ∧ b = 0 := by
  constructor
  · intro h
    have h1 := Nat.left_le_or (n := a) (m := b)
    have h2 := Nat.right_le_or (n := a) (m := b)
    omega
  · rintro ⟨rfl, rfl⟩
    rfl
theorem fixm_ge (f : Nat → Nat) : 2 ≤ V (fixm f) 16 := by
  unfold fixm
  split
  · have h := vl_ge (b := 4294967296) (f := uf f 0 2) (j := 0) (n := 16) (by decide)
    rw [uf_s] at h
    exact h
  · omega
/-- a bit of a number is a bit of one of its words -/
theorem bitV {w : Nat} {f : Nat → Nat} {n t : Nat} (hw : 0 < w) (hf : ∀ j, f j < 2 ^ w) (ht : t / w < n) : vl (2 ^ w) f n / 2 ^ t % 2 = f (t / w) / 2 ^ (t % w) % 2 := by
  have hr : t % w < w := Nat.mod_lt _ hw
  have e : 2 ^ t = (2 ^ w) ^ (t / w) * 2 ^ (t % w) := by
    rw [← Nat.pow_mul, ← Nat.pow_add, Nat.div_add_mod]
  obtain ⟨d, hd⟩ : ∃ d, n - t / w = d + 1 := ⟨n - t / w - 1, by omega⟩
  rw [e, ← Nat.div_div_eq_div_mul, vl_div (fun j _ => hf j) (by omega), hd, vl_head]
  have e2 : 2 ^ w = 2 ^ (t % w) * (2 * 2 ^ (w - t % w - 1)) := by
    rw [← Nat.pow_succ', ← Nat.pow_add]
    congr 1
    omega
  have hp : 0 < 2 ^ (t % w) := Nat.two_pow_pos _
  rw [show 2 ^ w * vl (2 ^ w) (fun j => f (t / w + (j + 1))) d = 2 ^ (t % w) * (2 * (2 ^ (w - t % w - 1) * vl (2 ^ w) (fun j => f (t / w + (j + 1))) d)) by rw [← Nat.mul_assoc 2, ← Nat.mul_assoc, ← e2], Nat.add_mul_div_left _ _ hp, Nat.add_mul_mod_self_left]
  rfl
theorem p512 : 4294967296 ^ 16 = 2 ^ 512 := (Nat.pow_mul 2 32 16).symm
theorem low_bit {P s : Nat} (h : P < 2 ^ (s + 1)) (h2 : P / 2 ^ s % 2 = 0) : P < 2 ^ s := by
  have h3 : P / 2 ^ s < 2 := Nat.div_lt_of_lt_mul (by rw [← Nat.pow_succ]; exact h)
  have h4 : P / 2 ^ s = 0 := (Nat.mod_eq_of_lt h3).symm.trans h2
  exact (Nat.div_eq_zero_iff_lt (Nat.two_pow_pos s)).mp h4
section FACE
variable {X : Ctx} {σ : Nat → Nat → Nat} {mn iv tw : Nat}
theorem b_modulus (C : Cx X b_D_modulus 8 R_D) (hR : xR X = rm_D_modulus) {pt p q r s : Nat} (hpt : pt < 4294967296)
    (k : ∀ u, u 0 = fixm (pf (σ 0) pt p q r s) → V (u 1) 16 = V (σ 1) 16 % V (u 0) 16 → V (u 3) 16 = V (σ 3) 16 % V (u 0) 16 → (∀ q, q ≠ 0 → q ≠ 1 → q ≠ 3 → q ≠ 6 → u q = σ q) → Ret X b_D_modulus .return_ [] u mn iv tw) :
    J X 0 [(0, .ref (ex (xE X))), (1, .int (nI pt)), (2, .int (nI p)), (3, .int (nI q)), (4, .int (nI r)), (5, .int (nI s))] [] σ mn iv tw := by
  -- behind the mending of the modulus
  have fin : ∀ lv, lvg lv 0 = some (.ref (ex (xE X))) → J X 69 lv [] (up σ 0 (fixm (pf (σ 0) pt p q r s))) mn iv tw := by
    intro lv h0
    have hM : 0 < V ((up σ 0 (fixm (pf (σ 0) pt p q r s))) 0) 16 := by rw [up_s]; have := fixm_ge (pf (σ 0) pt p q r s); omega
    refine J_aload_n C d_D_modulus_69 0 rfl h0 ?_
    refine J_aload_n C d_D_modulus_70 0 rfl h0 ?_
    refine J_get_base C d_D_modulus_71 ?_
    refine J_callVv R_D (ex (xE X)) C (fun _ _ => recvD C) d_D_modulus_74 (c_reduce (σ := up σ 0 (fixm (pf (σ 0) pt p q r s))) (xl X) (xE X) (xA X) (ka := 1) (by decide) (by decide) (by decide) (by decide) hM) ⟨⟨ml_D_88, ini_D, mc_D_reduce⟩, co_D_reduce, ⟨rfl, rfl⟩, by rw [hR]; decide⟩ im_D_reduce se_D_reduce rfl (by decide) (fun s74 h74 => ?_)
    refine J_wb (fun hwb => ?_)
    obtain ⟨g1, g2⟩ := h74
    have e0 : s74 0 = fixm (pf (σ 0) pt p q r s) := by rw [g1 0 (by decide) (by decide), up_s]
    refine J_aload_n C d_D_modulus_77 0 rfl h0 ?_
    refine J_aload_n C d_D_modulus_78 0 rfl h0 ?_
    refine J_get_answer C d_D_modulus_79 ?_
    refine J_callVv R_D (ex (xE X)) C (fun _ _ => recvD C) d_D_modulus_82 (c_reduce (σ := s74) (xl X) (xE X) (xA X) (ka := 3) (by decide) (by decide) (by decide) (by decide) (by rw [e0]; have := fixm_ge (pf (σ 0) pt p q r s); omega)) ⟨⟨ml_D_88, ini_D, mc_D_reduce⟩, co_D_reduce, ⟨rfl, rfl⟩, by rw [hR]; decide⟩ im_D_reduce se_D_reduce rfl (by decide) (fun s82 h82 => ?_)
    refine J_wb (fun hwb => ?_)
    obtain ⟨f1, f2⟩ := h82
    have e1 : s82 0 = fixm (pf (σ 0) pt p q r s) := by rw [f1 0 (by decide) (by decide), e0]
    refine k s82 e1 ?_ ?_ ?_ _ _ d_D_modulus_85
    · rw [e1, f1 1 (by decide) (by decide), g2, up_s, up_n (by decide)]
    · rw [e1, f2, e0, g1 3 (by decide) (by decide), up_n (by decide)]
    · intro q h0 h1 h3 h6
      rw [f1 q h3 h6, g1 q h1 h6, up_n h0]
  have loop : ∀ d i w, i + d = 16 → 1 ≤ i → w < 4294967296 → (w = 0 ↔ ∀ j, 1 ≤ j → j < i → pf (σ 0) pt p q r s j = 0) →
      J X 20 [(0, .ref (ex (xE X))), (1, .int (nI pt)), (2, .int (nI p)), (3, .int (nI q)), (4, .int (nI r)), (5, .int (nI s)), (6, .int (nI w)), (7, .int (nI i))] [] (up σ 0 (pf (σ 0) pt p q r s)) mn iv tw := by
    intro d
    induction d with
    | zero =>
      intro i w hi h1 hw h2
      obtain rfl : i = 16 := by omega
      refine J_wb (fun hwb => ?_)
      have hw1 := hwb 0 0
      have hsm := vl_small (b := 4294967296) (f := pf (σ 0) pt p q r s) (n := 15) (by decide)
      rw [up_s] at hw1
      refine J_iload C d_D_modulus_20 rfl ?_
      refine J_bipush C d_D_modulus_22 16 (by decide) ?_
      refine J_icmp_ge C d_D_modulus_24 (tgt := 45) (by decide) (by omega) (by omega) (fun c_24 => ?_) (fun c_24 => ?_)
      · refine J_iload C d_D_modulus_45 rfl ?_
        refine J_ifne C d_D_modulus_47 (tgt := 69) (by decide) (by first | exact hwb _ _ | omega) (fun c_47 => ?_) (fun c_47 => ?_)
        · have e : fixm (pf (σ 0) pt p q r s) = pf (σ 0) pt p q r s := if_neg (fun h => c_47 (h2.mpr (hsm.mp h).2))
          have h := fin [(0, .ref (ex (xE X))), (1, .int (nI pt)), (2, .int (nI p)), (3, .int (nI q)), (4, .int (nI r)), (5, .int (nI s)), (6, .int (nI w)), (7, .int (nI 16))] rfl
          rw [e] at h
          exact h
        · refine J_aload_n C d_D_modulus_50 0 rfl rfl ?_
          refine J_get_modulus C d_D_modulus_51 ?_
          refine J_iconst C d_D_modulus_54 0 (by decide) ?_
          refine J_iaload C d_D_modulus_55 (by decide) (by show _ < 16; omega) ?_
          refine J_bipush C d_D_modulus_56 4294967294 (by decide) ?_
          refine J_iand_m2 C d_D_modulus_58 (by first | exact hwb _ _ | omega) ?_
          refine J_ifne C d_D_modulus_59 (tgt := 69) (by decide) (by rw [up_s]; omega) (fun c_59 => ?_) (fun c_59 => ?_)
          · rw [up_s] at c_59
            have e : fixm (pf (σ 0) pt p q r s) = pf (σ 0) pt p q r s := if_neg (fun h => by have := (hsm.mp h).1; omega)
            have h := fin [(0, .ref (ex (xE X))), (1, .int (nI pt)), (2, .int (nI p)), (3, .int (nI q)), (4, .int (nI r)), (5, .int (nI s)), (6, .int (nI w)), (7, .int (nI 16))] rfl
            rw [e] at h
            exact h
          · refine J_aload_n C d_D_modulus_62 0 rfl rfl ?_
            refine J_get_modulus C d_D_modulus_63 ?_
            refine J_iconst C d_D_modulus_66 0 (by decide) ?_
            refine J_iconst C d_D_modulus_67 2 (by decide) ?_
            refine J_iastore C d_D_modulus_68 (by decide) (by show _ < 16; omega) ?_
            refine J_wb (fun hwb => ?_)
            rw [up_s] at c_59
            have e : fixm (pf (σ 0) pt p q r s) = uf (pf (σ 0) pt p q r s) 0 2 := if_pos (hsm.mpr ⟨by omega, h2.mp c_47⟩)
            have h := fin [(0, .ref (ex (xE X))), (1, .int (nI pt)), (2, .int (nI p)), (3, .int (nI q)), (4, .int (nI r)), (5, .int (nI s)), (6, .int (nI w)), (7, .int (nI 16))] rfl
            rw [e] at h
            rw [up_s, up_up]
            exact h
      · omega
    | succ d ih =>
      intro i w hi h1 hw h2
      refine J_wb (fun hwb => ?_)
      have hv := hwb 0 i
      refine J_iload C d_D_modulus_20 rfl ?_
      refine J_bipush C d_D_modulus_22 16 (by decide) ?_
      refine J_icmp_ge C d_D_modulus_24 (tgt := 45) (by decide) (by omega) (by omega) (fun c_24 => ?_) (fun c_24 => ?_)
      · omega
      · refine J_iload C d_D_modulus_27 rfl ?_
        refine J_aload_n C d_D_modulus_29 0 rfl rfl ?_
        refine J_get_modulus C d_D_modulus_30 ?_
        refine J_iload C d_D_modulus_33 rfl ?_
        refine J_iaload C d_D_modulus_35 (by decide) (by show _ < 16; omega) ?_
        refine J_ior C d_D_modulus_36 (by first | exact hwb _ _ | omega) (by first | exact hwb _ _ | omega) ?_
        refine J_istore (lv' := [(0, _), (1, _), (2, _), (3, _), (4, _), (5, _), (6, _), (7, _)]) C d_D_modulus_37 (by decide) rfl rfl ?_
        refine J_iinc (lv' := [(0, _), (1, _), (2, _), (3, _), (4, _), (5, _), (6, _), (7, _)]) C d_D_modulus_39 rfl (inc1 _) (by decide) rfl rfl ?_
        refine J_goto C d_D_modulus_42 (tgt := 20) (by decide) ?_
        rw [up_s] at hv ⊢
        refine ih (i + 1) _ (by omega) (by omega) (Nat.or_lt_two_pow (n := 32) hw hv) ?_
        rw [or_zero, h2]
        constructor
        · rintro ⟨a1, a2⟩ j hj hj2
          rcases Nat.lt_or_ge j i with q | q
          · exact a1 j hj q
          · rw [show j = i by omega]; exact a2
        · intro a
          exact ⟨fun j hj hj2 => a j hj (by omega), a i h1 (by omega)⟩
  refine J_aload_n C d_D_modulus_0 0 rfl rfl ?_
  refine J_get_modulus C d_D_modulus_1 ?_
  refine J_iload_n C d_D_modulus_4 1 rfl rfl ?_
  refine J_iload_n C d_D_modulus_5 2 rfl rfl ?_
  refine J_iload_n C d_D_modulus_6 3 rfl rfl ?_
  refine J_iload C d_D_modulus_7 rfl ?_
  refine J_iload C d_D_modulus_9 rfl ?_
  refine J_callSv C d_D_modulus_11 (c_put (σ := σ) (xl X) (xE X) (xA X) (ka := 0) (by decide) (by decide) hpt) ⟨⟨ml_D_84, ini_D, mc_D_put⟩, co_D_put, ⟨rfl, rfl⟩, by rw [hR]; decide⟩ st_D_put rfl (by decide) (fun s11 h11 => ?_)
  refine J_wb (fun hwb => ?_)
  obtain rfl := h11
  refine J_iconst C d_D_modulus_14 0 (by decide) ?_
  refine J_istore (lv' := [(0, _), (1, _), (2, _), (3, _), (4, _), (5, _), (6, _)]) C d_D_modulus_15 (by decide) rfl rfl ?_
  refine J_iconst C d_D_modulus_17 1 (by decide) ?_
  refine J_istore (lv' := [(0, _), (1, _), (2, _), (3, _), (4, _), (5, _), (6, _), (7, _)]) C d_D_modulus_18 (by decide) rfl rfl ?_
  exact loop 15 1 0 (by omega) (by omega) (by decide) ⟨fun _ j h1 h2 => by omega, fun _ => rfl⟩
theorem c_modulus (l : Launch) (E : En) (A : Nat → Prop) {pt p q r s : Nat} (hpt : pt < 4294967296) : MV l y_D_modulus b_D_modulus 8 rm_D_modulus [.ref (ex E), .int (nI pt), .int (nI p), .int (nI q), .int (nI r), .int (nI s)] E A σ mn iv tw (fun u => u 0 = fixm (pf (σ 0) pt p q r s) ∧ V (u 1) 16 = V (σ 1) 16 % V (u 0) 16 ∧ V (u 3) 16 = V (σ 3) 16 % V (u 0) 16 ∧ (∀ q, q ≠ 0 → q ≠ 1 → q ≠ 3 → q ≠ 6 → u q = σ q)) :=
  mk_v (by decide) (Nat.le_of_ble_eq_true rfl) (fun X C hR hE k => by subst hE; exact b_modulus C hR hpt (fun u h1 h2 h3 h4 => k u ⟨h1, h2, h3, h4⟩))
theorem b_base (C : Cx X b_D_base 6 R_D) (hR : xR X = rm_D_base) {pt p q r s : Nat} (hpt : pt < 4294967296) (hM : 0 < V (σ 0) 16)
    (k : ∀ u, V (u 1) 16 = V (pf (σ 1) pt p q r s) 16 % V (σ 0) 16 → (∀ q, q ≠ 1 → q ≠ 6 → u q = σ q) → Ret X b_D_base .return_ [] u mn iv tw) :
    J X 0 [(0, .ref (ex (xE X))), (1, .int (nI pt)), (2, .int (nI p)), (3, .int (nI q)), (4, .int (nI r)), (5, .int (nI s))] [] σ mn iv tw := by
  refine J_aload_n C d_D_base_0 0 rfl rfl ?_
  refine J_get_base C d_D_base_1 ?_
  refine J_iload_n C d_D_base_4 1 rfl rfl ?_
  refine J_iload_n C d_D_base_5 2 rfl rfl ?_
  refine J_iload_n C d_D_base_6 3 rfl rfl ?_
  refine J_iload C d_D_base_7 rfl ?_
  refine J_iload C d_D_base_9 rfl ?_
  refine J_callSv C d_D_base_11 (c_put (σ := σ) (xl X) (xE X) (xA X) (ka := 1) (by decide) (by decide) hpt) ⟨⟨ml_D_84, ini_D, mc_D_put⟩, co_D_put, ⟨rfl, rfl⟩, by rw [hR]; decide⟩ st_D_put rfl (by decide) (fun s11 h11 => ?_)
  refine J_wb (fun hwb => ?_)
  obtain rfl := h11
  refine J_aload_n C d_D_base_14 0 rfl rfl ?_
  refine J_aload_n C d_D_base_15 0 rfl rfl ?_
  refine J_get_base C d_D_base_16 ?_
  refine J_callVv R_D (ex (xE X)) C (fun _ _ => recvD C) d_D_base_19 (c_reduce (xl X) (xE X) (xA X) (ka := 1) (by decide) (by decide) (by decide) (by decide) (by rw [up_n (by decide)]; exact hM)) ⟨⟨ml_D_88, ini_D, mc_D_reduce⟩, co_D_reduce, ⟨rfl, rfl⟩, by rw [hR]; decide⟩ im_D_reduce se_D_reduce rfl (by decide) (fun s19 h19 => ?_)
  refine J_wb (fun hwb => ?_)
  obtain ⟨g1, g2⟩ := h19
  refine k s19 ?_ (fun q h1 h6 => by rw [g1 q h1 h6, up_n h1]) _ _ d_D_base_22
  rw [g2, up_s, up_n (by decide)]
  rfl
theorem c_base (l : Launch) (E : En) (A : Nat → Prop) {pt p q r s : Nat} (hpt : pt < 4294967296) (hM : 0 < V (σ 0) 16) : MV l y_D_base b_D_base 6 rm_D_base [.ref (ex E), .int (nI pt), .int (nI p), .int (nI q), .int (nI r), .int (nI s)] E A σ mn iv tw (fun u => V (u 1) 16 = V (pf (σ 1) pt p q r s) 16 % V (σ 0) 16 ∧ (∀ q, q ≠ 1 → q ≠ 6 → u q = σ q)) :=
  mk_v (by decide) (Nat.le_of_ble_eq_true rfl) (fun X C hR hE k => by subst hE; exact b_base C hR hpt hM (fun u h1 h2 => k u ⟨h1, h2⟩))
theorem b_power (C : Cx X b_D_power 6 R_D) (hR : xR X = rm_D_power) {pt p q r s : Nat} (hpt : pt < 4294967296)
    (k : Ret X b_D_power .return_ [] (up σ 2 (pf (σ 2) pt p q r s)) mn iv tw) :
    J X 0 [(0, .ref (ex (xE X))), (1, .int (nI pt)), (2, .int (nI p)), (3, .int (nI q)), (4, .int (nI r)), (5, .int (nI s))] [] σ mn iv tw := by
  refine J_aload_n C d_D_power_0 0 rfl rfl ?_
  refine J_get_power C d_D_power_1 ?_
  refine J_iload_n C d_D_power_4 1 rfl rfl ?_
  refine J_iload_n C d_D_power_5 2 rfl rfl ?_
  refine J_iload_n C d_D_power_6 3 rfl rfl ?_
  refine J_iload C d_D_power_7 rfl ?_
  refine J_iload C d_D_power_9 rfl ?_
  refine J_callSv C d_D_power_11 (c_put (σ := σ) (xl X) (xE X) (xA X) (ka := 2) (by decide) (by decide) hpt) ⟨⟨ml_D_84, ini_D, mc_D_put⟩, co_D_put, ⟨rfl, rfl⟩, by rw [hR]; decide⟩ st_D_put rfl (by decide) (fun s11 h11 => ?_)
  refine J_wb (fun hwb => ?_)
  obtain rfl := h11
  exact k _ _ d_D_power_14
theorem c_power (l : Launch) (E : En) (A : Nat → Prop) {pt p q r s : Nat} (hpt : pt < 4294967296) : MV l y_D_power b_D_power 6 rm_D_power [.ref (ex E), .int (nI pt), .int (nI p), .int (nI q), .int (nI r), .int (nI s)] E A σ mn iv tw (fun u => up σ 2 (pf (σ 2) pt p q r s) = u) :=
  mk_v (by decide) (Nat.le_of_ble_eq_true rfl) (fun X C hR hE k => by subst hE; exact b_power C hR hpt (k _ rfl))
theorem b_multiply (C : Cx X b_D_multiply 1 R_D) (hR : xR X = rm_D_multiply) (hM : 0 < V (σ 0) 16)
    (k : ∀ u, V (u 3) 16 = V (σ 3) 16 * V (σ 1) 16 % V (σ 0) 16 → (∀ q, q ≠ 3 → q ≠ 5 → q ≠ 6 → u q = σ q) → Ret X b_D_multiply .return_ [] u mn iv tw) :
    J X 0 [(0, .ref (ex (xE X)))] [] σ mn iv tw := by
  refine J_wb (fun hw0 => ?_)
  refine J_aload_n C d_D_multiply_0 0 rfl rfl ?_
  refine J_get_answer C d_D_multiply_1 ?_
  refine J_aload_n C d_D_multiply_4 0 rfl rfl ?_
  refine J_get_base C d_D_multiply_5 ?_
  refine J_bipush C d_D_multiply_8 32 (by decide) ?_
  refine J_aload_n C d_D_multiply_10 0 rfl rfl ?_
  refine J_get_product C d_D_multiply_11 ?_
  refine J_callSv C d_D_multiply_14 (c_times (σ := σ) (xl X) (xE X) (xA X) (ka := 3) (kb := 1) (n := 32) (kt := 5) (by decide) (by decide) (by decide) (by decide) (by decide) (by decide) (by decide) (by decide)) ⟨⟨ml_D_92, ini_D, mc_D_times⟩, co_D_times, ⟨rfl, rfl⟩, by rw [hR]; decide⟩ st_D_times rfl (by decide) (fun s14 h14 => ?_)
  refine J_wb (fun hwb => ?_)
  obtain ⟨g1, g2, g3⟩ := h14
  have e0 : s14 0 = σ 0 := g1 0 (by decide)
  refine J_aload_n C d_D_multiply_17 0 rfl rfl ?_
  refine J_get_product C d_D_multiply_18 ?_
  refine J_bipush C d_D_multiply_21 32 (by decide) ?_
  refine J_aload_n C d_D_multiply_23 0 rfl rfl ?_
  refine J_get_modulus C d_D_multiply_24 ?_
  refine J_aload_n C d_D_multiply_27 0 rfl rfl ?_
  refine J_get_left C d_D_multiply_28 ?_
  refine J_callSv C d_D_multiply_31 (c_leave (σ := s14) (xl X) (xE X) (xA X) (ka := 5) (n := 32) (kb := 0) (kt := 6) (by decide) (by decide) (by decide) (by decide) (by decide) (by decide) (by decide) (by decide) (by decide) (by rw [e0]; exact hM)) ⟨⟨ml_D_74, ini_D, mc_D_leave⟩, co_D_leave, ⟨rfl, rfl⟩, by rw [hR]; decide⟩ st_D_leave rfl (by decide) (fun s31 h31 => ?_)
  refine J_wb (fun hwb => ?_)
  refine J_aload_n C d_D_multiply_34 0 rfl rfl ?_
  refine J_get_left C d_D_multiply_35 ?_
  refine J_iconst C d_D_multiply_38 0 (by decide) ?_
  refine J_aload_n C d_D_multiply_39 0 rfl rfl ?_
  refine J_get_answer C d_D_multiply_40 ?_
  refine J_iconst C d_D_multiply_43 0 (by decide) ?_
  refine J_bipush C d_D_multiply_44 16 (by decide) ?_
  refine J_copy C d_D_multiply_46 (by decide) (by decide) (by show _ ≤ 17; omega) (by show _ ≤ 16; omega) (by rw [hR]; decide) (by rw [hR]; decide) ?_
  refine J_wb (fun hwb => ?_)
  obtain ⟨f1, f2, f3⟩ := h31
  refine k _ ?_ (fun q h3 h5 h6 => by rw [up_n h3, f1 q h6, g1 q h5]) _ _ d_D_multiply_49
  rw [up_s, V_cpy (Nat.le_refl 16), f3, g3, e0]
  congr 1
  apply Nat.mod_eq_of_lt
  rw [show 4294967296 ^ 32 = 4294967296 ^ 16 * 4294967296 ^ 16 from rfl]
  exact Nat.mul_lt_mul'' (V_lt hw0 3 16) (V_lt hw0 1 16)
theorem c_multiply (l : Launch) (E : En) (A : Nat → Prop) (hM : 0 < V (σ 0) 16) : MV l y_D_multiply b_D_multiply 1 rm_D_multiply [.ref (ex E)] E A σ mn iv tw (fun u => V (u 3) 16 = V (σ 3) 16 * V (σ 1) 16 % V (σ 0) 16 ∧ (∀ q, q ≠ 3 → q ≠ 5 → q ≠ 6 → u q = σ q)) :=
  mk_v (by decide) (Nat.le_of_ble_eq_true rfl) (fun X C hR hE k => by subst hE; exact b_multiply C hR hM (fun u h1 h2 => k u ⟨h1, h2⟩))
theorem b_keep (C : Cx X b_D_keep 1 R_D) (hR : xR X = rm_D_keep) (k : Ret X b_D_keep .return_ [] (up σ 1 (va_cpy (σ 3) (σ 1) 0 0 16)) mn iv tw) : J X 0 [(0, .ref (ex (xE X)))] [] σ mn iv tw := by
  refine J_aload_n C d_D_keep_0 0 rfl rfl ?_
  refine J_get_answer C d_D_keep_1 ?_
  refine J_iconst C d_D_keep_4 0 (by decide) ?_
  refine J_aload_n C d_D_keep_5 0 rfl rfl ?_
  refine J_get_base C d_D_keep_6 ?_
  refine J_iconst C d_D_keep_9 0 (by decide) ?_
  refine J_bipush C d_D_keep_10 16 (by decide) ?_
  refine J_copy C d_D_keep_12 (by decide) (by decide) (by show _ ≤ 16; omega) (by show _ ≤ 16; omega) (by rw [hR]; decide) (by rw [hR]; decide) ?_
  refine J_wb (fun hwb => ?_)
  exact k _ _ d_D_keep_15
theorem c_keep (l : Launch) (E : En) (A : Nat → Prop) : MV l y_D_keep b_D_keep 1 rm_D_keep [.ref (ex E)] E A σ mn iv tw (fun u => up σ 1 (va_cpy (σ 3) (σ 1) 0 0 16) = u) :=
  mk_v (by decide) (Nat.le_of_ble_eq_true rfl) (fun X C hR hE k => by subst hE; exact b_keep C hR (k _ rfl))
theorem b_answer (C : Cx X b_D_answer 2 R_D) {a : Nat} (ha : a < 4294967296) (k : Ret X b_D_answer .ireturn [.int (nI (σ 3 (a % 16)))] σ mn iv tw) : J X 0 [(0, .ref (ex (xE X))), (1, .int (nI a))] [] σ mn iv tw := by
  refine J_aload_n C d_D_answer_0 0 rfl rfl ?_
  refine J_get_answer C d_D_answer_1 ?_
  refine J_iload_n C d_D_answer_4 1 rfl rfl ?_
  refine J_bipush C d_D_answer_5 15 (by decide) ?_
  refine J_iand C d_D_answer_7 4 16 rfl ha (by decide) rfl ?_
  refine J_iaload C d_D_answer_8 (by decide) (by show _ < 16; omega) ?_
  exact k _ _ d_D_answer_9
theorem c_answer (l : Launch) (E : En) (A : Nat → Prop) {a : Nat} (ha : a < 4294967296) : MI .int l y_D_answer b_D_answer 2 rm_D_answer [.ref (ex E), .int (nI a)] E A σ mn iv tw (fun n u => σ = u ∧ n = σ 3 (a % 16)) :=
  mk_i (by decide) (Nat.le_of_ble_eq_true rfl) (fun X C hR hE k => by subst hE; exact b_answer C ha (k _ _ ⟨rfl, rfl⟩))
theorem b_factor (C : Cx X b_D_factor 2 R_D) {a : Nat} (ha : a < 4294967296) (k : Ret X b_D_factor .ireturn [.int (nI (σ 1 (a % 16)))] σ mn iv tw) : J X 0 [(0, .ref (ex (xE X))), (1, .int (nI a))] [] σ mn iv tw := by
  refine J_aload_n C d_D_factor_0 0 rfl rfl ?_
  refine J_get_base C d_D_factor_1 ?_
  refine J_iload_n C d_D_factor_4 1 rfl rfl ?_
  refine J_bipush C d_D_factor_5 15 (by decide) ?_
  refine J_iand C d_D_factor_7 4 16 rfl ha (by decide) rfl ?_
  refine J_iaload C d_D_factor_8 (by decide) (by show _ < 16; omega) ?_
  exact k _ _ d_D_factor_9
theorem c_factor (l : Launch) (E : En) (A : Nat → Prop) {a : Nat} (ha : a < 4294967296) : MI .int l y_D_factor b_D_factor 2 rm_D_factor [.ref (ex E), .int (nI a)] E A σ mn iv tw (fun n u => σ = u ∧ n = σ 1 (a % 16)) :=
  mk_i (by decide) (Nat.le_of_ble_eq_true rfl) (fun X C hR hE k => by subst hE; exact b_factor C ha (k _ _ ⟨rfl, rfl⟩))
theorem b_bit (C : Cx X b_D_bit 2 R_D) {t : Nat} (ht : t < 512) (k : Ret X b_D_bit .ireturn [.int (nI (V (σ 2) 16 / 2 ^ t % 2))] σ mn iv tw) : J X 0 [(0, .ref (ex (xE X))), (1, .int (nI t))] [] σ mn iv tw := by
  refine J_wb (fun hwb => ?_)
  have e : V (σ 2) 16 / 2 ^ t % 2 = σ 2 (t / 32) / 2 ^ (t % 32) % 2 := bitV (w := 32) (by decide) (fun j => hwb 2 j) (by omega)
  have hlt : σ 2 (t / 32) / 2 ^ (t % 32) % 2 < 2 := Nat.mod_lt _ (by decide)
  rw [e] at k
  refine J_aload_n C d_D_bit_0 0 rfl rfl ?_
  refine J_get_power C d_D_bit_1 ?_
  refine J_iload_n C d_D_bit_4 1 rfl rfl ?_
  refine J_iconst C d_D_bit_5 5 (by decide) ?_
  refine J_ishr C d_D_bit_6 32 rfl (by omega) (by decide) ?_
  refine J_iaload C d_D_bit_7 (by decide) (by show _ < 16; omega) ?_
  refine J_iload_n C d_D_bit_8 1 rfl rfl ?_
  refine J_bipush C d_D_bit_9 31 (by decide) ?_
  refine J_iand C d_D_bit_11 5 32 rfl (by first | exact hwb _ _ | omega) (by decide) rfl ?_
  refine J_iushr C d_D_bit_12 _ rfl (by first | exact hwb _ _ | omega) (by omega) ?_
  refine J_iconst C d_D_bit_13 1 (by decide) ?_
  refine J_iand C d_D_bit_14 1 2 rfl (Nat.lt_of_le_of_lt (Nat.div_le_self _ _) (hwb _ _)) (by decide) rfl ?_
  refine J_iconst C d_D_bit_15 1 (by decide) ?_
  refine J_icmp_ne C d_D_bit_16 (tgt := 23) (by decide) (by first | exact hwb _ _ | omega) (by first | exact hwb _ _ | omega) (fun c_16 => ?_) (fun c_16 => ?_)
  · refine J_iconst C d_D_bit_23 0 (by decide) ?_
    rw [show σ 2 (t / 32) / 2 ^ (t % 32) % 2 = 0 by omega] at k
    exact k _ _ d_D_bit_24
  · refine J_iconst C d_D_bit_19 1 (by decide) ?_
    refine J_goto C d_D_bit_20 (tgt := 24) (by decide) ?_
    rw [c_16] at k
    exact k _ _ d_D_bit_24
theorem c_bit (l : Launch) (E : En) (A : Nat → Prop) {t : Nat} (ht : t < 512) : MI .boolean l y_D_bit b_D_bit 2 rm_D_bit [.ref (ex E), .int (nI t)] E A σ mn iv tw (fun n u => σ = u ∧ n = V (σ 2) 16 / 2 ^ t % 2) :=
  mk_z (by decide) (Nat.le_of_ble_eq_true rfl) (fun n u h => by rw [h.2]; exact Nat.mod_lt _ (by decide)) (fun X C hR hE k => by subst hE; exact b_bit C ht (k _ _ ⟨rfl, rfl⟩))
theorem b_bits (C : Cx X b_D_bits 2 R_D) (hR : xR X = rm_D_bits) (k : ∀ t, t ≤ 512 → V (σ 2) 16 < 2 ^ t → Ret X b_D_bits .ireturn [.int (nI t)] σ mn iv tw) : J X 0 [(0, .ref (ex (xE X)))] [] σ mn iv tw := by
  refine J_wb (fun hw0 => ?_)
  have loop : ∀ t, t ≤ 512 → V (σ 2) 16 < 2 ^ t → J X 4 [(0, .ref (ex (xE X))), (1, .int (nI t))] [] σ mn iv tw := by
    intro t
    induction t with
    | zero =>
      intro h1 h2
      refine J_iload_n C d_D_bits_4 1 rfl rfl ?_
      refine J_ifle C d_D_bits_5 (tgt := 24) (by decide) (by omega) (fun c_5 => ?_) (fun c_5 => ?_)
      · refine J_iload_n C d_D_bits_24 1 rfl rfl ?_
        exact k 0 h1 h2 _ _ d_D_bits_25
      · omega
    | succ t ih =>
      intro h1 h2
      refine J_iload_n C d_D_bits_4 1 rfl rfl ?_
      refine J_ifle C d_D_bits_5 (tgt := 24) (by decide) (by omega) (fun c_5 => ?_) (fun c_5 => ?_)
      · omega
      · refine J_aload_n C d_D_bits_8 0 rfl rfl ?_
        refine J_iload_n C d_D_bits_9 1 rfl rfl ?_
        refine J_iconst C d_D_bits_10 1 (by decide) ?_
        refine J_isub C d_D_bits_11 (by omega) ?_
        refine J_callVi R_D (ex (xE X)) C (fun _ _ => recvD C) d_D_bits_12 (c_bit (σ := σ) (xl X) (xE X) (xA X) (t := t) (by omega)) ⟨⟨ml_D_96, ini_D, mc_D_bit⟩, co_D_bit, ⟨rfl, rfl⟩, by rw [hR]; decide⟩ im_D_bit se_D_bit rfl (by decide) (fun n12 s12 h12 => ?_)
        refine J_wb (fun hwb => ?_)
        obtain ⟨rfl, e12⟩ := h12
        have hn12 : n12 < 2 := by rw [e12]; exact Nat.mod_lt _ (by decide)
        refine J_ifne C d_D_bits_15 (tgt := 24) (by decide) (by omega) (fun c_15 => ?_) (fun c_15 => ?_)
        · refine J_iload_n C d_D_bits_24 1 rfl rfl ?_
          exact k (t + 1) h1 h2 _ _ d_D_bits_25
        · refine J_iinc (lv' := [(0, _), (1, _)]) C d_D_bits_18 rfl (dec1 _) (by decide) rfl rfl ?_
          refine J_goto C d_D_bits_21 (tgt := 4) (by decide) ?_
          rw [pk_m1]
          exact ih (by omega) (low_bit h2 (e12 ▸ c_15))
  refine J_sipush C d_D_bits_0 512 (by decide) ?_
  refine J_istore_n (lv' := [(0, _), (1, _)]) C d_D_bits_3 1 rfl (by decide) rfl rfl ?_
  exact loop 512 (by decide) (Nat.lt_of_lt_of_eq (V_lt hw0 2 16) p512)
theorem c_bits (l : Launch) (E : En) (A : Nat → Prop) : MI .int l y_D_bits b_D_bits 2 rm_D_bits [.ref (ex E)] E A σ mn iv tw (fun n u => σ = u ∧ n ≤ 512 ∧ V (σ 2) 16 < 2 ^ n) :=
  mk_i (by decide) (Nat.le_of_ble_eq_true rfl) (fun X C hR hE k => by subst hE; exact b_bits C hR (fun t h1 h2 => k _ _ ⟨rfl, h1, h2⟩))
end FACE
end
section
/-! modulo the odd part: subtractOdd, twiceOdd, together -/
theorem vl_hi0 {b : Nat} {f : Nat → Nat} {m n : Nat} (hb : 0 < b) (h : vl b f n < b ^ m) : ∀ j, m ≤ j → j < n → f j = 0 := by
  intro j h1 h2
  have h3 := vl_ge (b := b) (f := f) h2
  have h4 : b ^ m ≤ b ^ j := Nat.pow_le_pow_right hb h1
  rcases Nat.eq_zero_or_pos (f j) with q | q
  · exact q
  · have := Nat.mul_le_mul_right (b ^ j) (show 1 ≤ f j from q)
    omega
theorem V_cut {f : Nat → Nat} {m : Nat} (hm : m ≤ 16) (h : V f 16 < 4294967296 ^ m) : V f 16 = V f m := vl_top hm (fun j h1 h2 => vl_hi0 (by decide) h j h1 h2)
theorem tg1 {B Vn c c' v t x bj P S Vb : Nat} (h : Vn + c * P = S + x * Vb) (hv : v + c' * B = c + (x * bj + t)) : (Vn + v * P) + c' * (P * B) = (S + t * P) + x * (Vb + bj * P) := by grind
theorem tg2 {B Vn c c' v t m oj P Q S Vo : Nat} (hQ : Q = P * B) (h : Vn * B + c * Q = S + m * Vo) (hv : v + c' * B = c + (m * oj + t)) : (Vn + v * P) * B + c' * (Q * B) = (S + t * Q) + m * (Vo + oj * Q) := by
  subst hQ
  grind
theorem tg3 {B Vn c tm tm1 f1 ch m O P Q Vm : Nat} (hQ : Q = P * B) (h : Vn * B + c * Q = Vm + m * O) (hv : f1 + ch * B = c + tm) : ((Vn + f1 * P) + (tm1 + ch) * Q) * B = (Vm + tm * Q + tm1 * (Q * B)) + m * O := by
  subst hQ
  grind
theorem tg4 {O S x Vb m Sf : Nat} (e : Sf * 4294967296 = S + x * Vb + m * O) (hS : S < 2 * O) (hx : x < 4294967296) (hb : Vb < O) (hm : m < 4294967296) : Sf < 2 * O := by
  have h1 : x * Vb ≤ 4294967295 * O := Nat.mul_le_mul (by omega) (by omega)
  have h2 : m * O ≤ 4294967295 * O := Nat.mul_le_mul_right _ (by omega)
  omega
theorem tg5 {B O S x Vb m Sf A z Bi : Nat} (h : S * Bi = A * Vb + z * O) (e : Sf * B = S + x * Vb + m * O) : Sf * (Bi * B) = (A + x * Bi) * Vb + (z + m * Bi) * O := by grind
theorem inv0 {B t o iv : Nat} (h : (o * iv + 1) % B = 0) : (t * iv % B * o + t) % B = 0 := by
  have hq := Nat.div_add_mod (t * iv) B
  obtain ⟨k, hk⟩ := Nat.dvd_of_mod_eq_zero h
  generalize t * iv % B = r at hq ⊢
  generalize t * iv / B = q at hq
  have e : (r * o + t) + B * (q * o) = B * (t * k) := by grind
  exact Nat.mod_eq_zero_of_dvd ((Nat.dvd_add_left ⟨_, rfl⟩).mp ⟨_, e⟩)
theorem tg6 {S O W to s : Nat} (hS : S < 2 * O) (e : S = to + s * W) (ht : to < W) (hO : O < W) : s < 2 := by
  rcases Nat.lt_or_ge s 2 with q | q
  · exact q
  · have := Nat.mul_le_mul_right W q
    omega
theorem tg7 {S O W V' A Vb z : Nat} (h : S * W = A * Vb + z * O) (e : V' = S ∨ V' + O = S) : V' * W % O = A * Vb % O := by
  have e2 : S * W % O = A * Vb % O := by rw [h, Nat.add_mul_mod_self_right]
  rw [← e2]
  rcases e with rfl | e
  · rfl
  · rw [← e, Nat.add_mul, Nat.mul_comm O W, Nat.add_mul_mod_self_right]
section ODD
variable {X : Ctx} {σ : Nat → Nat → Nat} {mn iv tw : Nat}
theorem b_subtractOdd (C : Cx X b_D_subtractOdd 7 R_D) {ka : Nat} (ha : ka < 35) (hab : ka ≠ 4) (la : 16 ≤ ln ka) (hm : mn ≤ 16)
    (k : ∀ w u, w < 2 → (∀ q, q ≠ ka → u q = σ q) → (∀ j, mn ≤ j → u ka j = σ ka j) → V (u ka) mn + V (σ 4) mn = V (σ ka) mn + w * 4294967296 ^ mn → Ret X b_D_subtractOdd .return_ [] u mn iv tw) :
    J X 0 [(0, .ref (ex (xE X))), (1, .ref (ea (xE X) ka))] [] σ mn iv tw := by
  have loop : ∀ d i c' τ, i + d = mn → c' < 2 → (∀ q, q ≠ ka → τ q = σ q) → (∀ j, i ≤ j → τ ka j = σ ka j) → V (τ ka) i + V (σ 4) i = V (σ ka) i + c' * 4294967296 ^ i →
      J X 5 [(0, .ref (ex (xE X))), (1, .ref (ea (xE X) ka)), (2, .long (lN c')), (4, .int (nI i))] [] τ mn iv tw := by
    intro d
    induction d with
    | zero =>
      intro i c' τ hi hc' h1 h2 h3
      obtain rfl : i = mn := by omega
      refine J_iload C d_D_subtractOdd_5 rfl ?_
      refine J_aload_n C d_D_subtractOdd_7 0 rfl rfl ?_
      refine J_get_many C d_D_subtractOdd_8 ?_
      refine J_icmp_ge C d_D_subtractOdd_11 (tgt := 59) (by decide) (by omega) (by omega) (fun c_11 => ?_) (fun c_11 => ?_)
      · exact k c' τ hc' h1 h2 h3 _ _ d_D_subtractOdd_59
      · omega
    | succ d ih =>
      intro i c' τ hi hc' h1 h2 h3
      refine J_wb (fun hwb => ?_)
      have hw := hwb ka i
      have hw2 := hwb 4 i
      refine J_iload C d_D_subtractOdd_5 rfl ?_
      refine J_aload_n C d_D_subtractOdd_7 0 rfl rfl ?_
      refine J_get_many C d_D_subtractOdd_8 ?_
      refine J_icmp_ge C d_D_subtractOdd_11 (tgt := 59) (by decide) (by omega) (by omega) (fun c_11 => ?_) (fun c_11 => ?_)
      · omega
      · refine J_aload_n C d_D_subtractOdd_14 1 rfl rfl ?_
        refine J_iload C d_D_subtractOdd_15 rfl ?_
        refine J_iaload C d_D_subtractOdd_17 (by omega) (by omega) ?_
        refine J_word C d_D_subtractOdd_18 d_D_subtractOdd_19 d_D_subtractOdd_22 (by first | exact hwb _ _ | omega) ?_
        refine J_aload_n C d_D_subtractOdd_23 0 rfl rfl ?_
        refine J_get_odd C d_D_subtractOdd_24 ?_
        refine J_iload C d_D_subtractOdd_27 rfl ?_
        refine J_iaload C d_D_subtractOdd_29 (by decide) (by show _ < 16; omega) ?_
        refine J_word C d_D_subtractOdd_30 d_D_subtractOdd_31 d_D_subtractOdd_34 (by first | exact hwb _ _ | omega) ?_
        refine J_lsub C d_D_subtractOdd_35 (by omega) ?_
        refine J_lload_n C d_D_subtractOdd_36 2 rfl rfl ?_
        refine J_lsub C d_D_subtractOdd_37 (by omega) ?_
        refine J_lstore (lv' := [(0, _), (1, _), (2, _), (4, _), (5, _)]) C d_D_subtractOdd_38 (by decide) rfl rfl ?_
        refine J_aload_n C d_D_subtractOdd_40 1 rfl rfl ?_
        refine J_iload C d_D_subtractOdd_41 rfl ?_
        refine J_lload C d_D_subtractOdd_43 rfl ?_
        refine J_l2i C d_D_subtractOdd_45 ?_
        refine J_iastore C d_D_subtractOdd_46 (by omega) (by omega) ?_
        refine J_wb (fun hwb => ?_)
        refine J_lload C d_D_subtractOdd_47 rfl ?_
        refine J_bipush C d_D_subtractOdd_49 63 (by decide) ?_
        refine J_lushrm C d_D_subtractOdd_51 9223372036854775808 rfl (by decide) ?_
        refine J_lstore_n (lv' := [(0, _), (1, _), (2, _), (4, _), (5, _)]) C d_D_subtractOdd_52 2 rfl (by decide) rfl rfl ?_
        refine J_iinc (lv' := [(0, _), (1, _), (2, _), (4, _), (5, _)]) C d_D_subtractOdd_53 rfl (inc1 _) (by decide) rfl rfl ?_
        refine J_goto C d_D_subtractOdd_56 (tgt := 5) (by decide) ?_
        refine J_sub [0, 1, 2, 3] rfl ?_
        have hv : (τ ka i + 18446744073709551616 - τ 4 i + 18446744073709551616 - c') % 4294967296 + σ 4 i + c' = σ ka i + (τ ka i + 18446744073709551616 - τ 4 i + 18446744073709551616 - c') % 18446744073709551616 / 9223372036854775808 * 4294967296 := by
          rw [← h2 i (Nat.le_refl i), ← h1 4 (Ne.symm hab)]; omega
        refine ih (i + 1) _ _ (by omega) (by omega) (fun q hq => by rw [up_n hq]; exact h1 q hq) (fun j hj => by rw [up_s, uf_n (by omega)]; exact h2 j (by omega)) ?_
        have e := bst (b := 4294967296) h3 hv
        unfold V at e ⊢
        rw [up_s, vl_uf_last, vl_s, vl_s, Nat.pow_succ]
        omega
  refine J_lconst C d_D_subtractOdd_0 0 rfl ?_
  refine J_lstore_n (lv' := [(0, _), (1, _), (2, _)]) C d_D_subtractOdd_1 2 rfl (by decide) rfl rfl ?_
  refine J_iconst C d_D_subtractOdd_2 0 (by decide) ?_
  refine J_istore (lv' := [(0, _), (1, _), (2, _), (4, _)]) C d_D_subtractOdd_3 (by decide) rfl rfl ?_
  exact loop mn 0 0 σ (by omega) (by omega) (fun _ _ => rfl) (fun _ _ => rfl) (by unfold V vl; omega)
theorem c_subtractOdd (l : Launch) (E : En) (A : Nat → Prop) {ka : Nat} (ha : ka < 35) (hab : ka ≠ 4) (la : 16 ≤ ln ka) (hm : mn ≤ 16) : MV l y_D_subtractOdd b_D_subtractOdd 7 rm_D_subtractOdd [.ref (ex E), .ref (ea E ka)] E A σ mn iv tw (fun u => (∀ q, q ≠ ka → u q = σ q) ∧ (∀ j, mn ≤ j → u ka j = σ ka j) ∧ ∃ w, w < 2 ∧ V (u ka) mn + V (σ 4) mn = V (σ ka) mn + w * 4294967296 ^ mn) :=
  mk_v (by decide) (Nat.le_of_ble_eq_true rfl) (fun X C hR hE k => by subst hE; exact b_subtractOdd C ha hab la hm (fun w u h1 h2 h3 h4 => k u ⟨h2, h3, w, h1, h4⟩))
theorem b_twiceOdd (C : Cx X b_D_twiceOdd 5 R_D) (hR : xR X = rm_D_twiceOdd) {ka : Nat} (ha : ka < 35) (hab : ka ≠ 4) (la : ln ka = 16) (hm : mn ≤ 16) (hO : V (σ 4) 16 < 4294967296 ^ mn) (hlt : V (σ ka) 16 < V (σ 4) 16)
    (k : ∀ u, (∀ q, q ≠ ka → u q = σ q) → V (u ka) 16 = 2 * V (σ ka) 16 % V (σ 4) 16 → Ret X b_D_twiceOdd .return_ [] u mn iv tw) :
    J X 0 [(0, .ref (ex (xE X))), (1, .ref (ea (xE X) ka))] [] σ mn iv tw := by
  have hz : ∀ j, mn ≤ j → j < 16 → σ ka j = 0 := vl_hi0 (by decide) (Nat.lt_trans hlt hO)
  have e4 : V (σ 4) 16 = V (σ 4) mn := V_cut hm hO
  have ea' : V (σ ka) 16 = V (σ ka) mn := V_cut hm (Nat.lt_trans hlt hO)
  have loop : ∀ d i c' τ, i + d = mn → c' < 2 → (∀ q, q ≠ ka → τ q = σ q) → (∀ j, i ≤ j → τ ka j = σ ka j) → V (τ ka) i + c' * 4294967296 ^ i = 2 * V (σ ka) i →
      J X 4 [(0, .ref (ex (xE X))), (1, .ref (ea (xE X) ka)), (2, .int (nI c')), (3, .int (nI i))] [] τ mn iv tw := by
    intro d
    induction d with
    | zero =>
      intro i c' τ hi hc' h1 h2 h3
      obtain rfl : i = mn := by omega
      refine J_wb (fun hwb => ?_)
      have eT : V (τ ka) 16 = V (τ ka) i := vl_top hm (fun j h3 h4 => by rw [h2 j h3]; exact hz j h3 h4)
      have red := red1 (T := V (σ ka) 16) (Nat.mod_eq_of_lt hlt).symm (by omega) hO (V_lt hwb ka i) hc' (show 0 < 2 by decide) (by rw [ea', Nat.add_zero]; exact h3)
      rw [Nat.add_zero] at red
      refine J_iload_n C d_D_twiceOdd_4 3 rfl rfl ?_
      refine J_aload_n C d_D_twiceOdd_5 0 rfl rfl ?_
      refine J_get_many C d_D_twiceOdd_6 ?_
      refine J_icmp_ge C d_D_twiceOdd_9 (tgt := 39) (by decide) (by omega) (by omega) (fun c_9 => ?_) (fun c_9 => ?_)
      · refine J_iload_n C d_D_twiceOdd_39 2 rfl rfl ?_
        refine J_iconst C d_D_twiceOdd_40 1 (by decide) ?_
        refine J_icmp_eq C d_D_twiceOdd_41 (tgt := 55) (by decide) (by first | exact hwb _ _ | omega) (by first | exact hwb _ _ | omega) (fun c_41 => ?_) (fun c_41 => ?_)
        · refine J_aload_n C d_D_twiceOdd_55 0 rfl rfl ?_
          refine J_aload_n C d_D_twiceOdd_56 1 rfl rfl ?_
          refine J_callVv R_D (ex (xE X)) C (fun _ _ => recvD C) d_D_twiceOdd_57 (c_subtractOdd (σ := τ) (xl X) (xE X) (xA X) (ka := ka) ha hab (by omega) hm) ⟨⟨ml_D_125, ini_D, mc_D_subtractOdd⟩, co_D_subtractOdd, ⟨rfl, rfl⟩, by rw [hR]; decide⟩ im_D_subtractOdd se_D_subtractOdd rfl (by decide) (fun s57 h57 => ?_)
          refine J_wb (fun hwb => ?_)
          obtain ⟨f1, f2, w, f3, f4⟩ := h57
          have eU : V (s57 ka) 16 = V (s57 ka) i := vl_top hm (fun j h3 h4 => by rw [f2 j h3, h2 j h3]; exact hz j h3 h4)
          rw [h1 4 (Ne.symm hab), ← e4] at f4
          exact k s57 (fun q hq => by rw [f1 q hq, h1 q hq]) (by rw [eU]; exact red.2 _ w (Or.inl c_41) (V_lt hwb ka i) f3 f4) _ _ d_D_twiceOdd_60
        · refine J_aload_n C d_D_twiceOdd_44 1 rfl rfl ?_
          refine J_aload_n C d_D_twiceOdd_45 0 rfl rfl ?_
          refine J_get_odd C d_D_twiceOdd_46 ?_
          refine J_callSi C d_D_twiceOdd_49 (c_compare (σ := τ) (xl X) (xE X) (xA X) (ka := ka) (kb := 4) ha (by decide) (by omega) (by decide)) ⟨⟨ml_D_66, ini_D, mc_D_compare⟩, co_D_compare, ⟨rfl, rfl⟩, by rw [hR]; decide⟩ st_D_compare rfl (by decide) (fun n49 s49 h49 => ?_)
          refine J_wb (fun hwb => ?_)
          obtain ⟨rfl, p1, p2⟩ := h49
          rw [h1 4 (Ne.symm hab), eT] at p2
          refine J_iflt C d_D_twiceOdd_52 (tgt := 60) (by decide) (by first | exact hwb _ _ | omega) (fun c_52 => ?_) (fun c_52 => ?_)
          · exact k τ h1 (by rw [eT]; exact red.1 c_41 (p2.mp c_52)) _ _ d_D_twiceOdd_60
          · refine J_aload_n C d_D_twiceOdd_55 0 rfl rfl ?_
            refine J_aload_n C d_D_twiceOdd_56 1 rfl rfl ?_
            refine J_callVv R_D (ex (xE X)) C (fun _ _ => recvD C) d_D_twiceOdd_57 (c_subtractOdd (σ := τ) (xl X) (xE X) (xA X) (ka := ka) ha hab (by omega) hm) ⟨⟨ml_D_125, ini_D, mc_D_subtractOdd⟩, co_D_subtractOdd, ⟨rfl, rfl⟩, by rw [hR]; decide⟩ im_D_subtractOdd se_D_subtractOdd rfl (by decide) (fun s57 h57 => ?_)
            refine J_wb (fun hwb => ?_)
            obtain ⟨f1, f2, w, f3, f4⟩ := h57
            have eU : V (s57 ka) 16 = V (s57 ka) i := vl_top hm (fun j h3 h4 => by rw [f2 j h3, h2 j h3]; exact hz j h3 h4)
            rw [h1 4 (Ne.symm hab), ← e4] at f4
            exact k s57 (fun q hq => by rw [f1 q hq, h1 q hq]) (by rw [eU]; exact red.2 _ w (Or.inr (Nat.le_of_not_lt fun h => by have := p2.mpr h; omega)) (V_lt hwb ka i) f3 f4) _ _ d_D_twiceOdd_60
      · omega
    | succ d ih =>
      intro i c' τ hi hc' h1 h2 h3
      refine J_wb (fun hwb => ?_)
      have hw := hwb ka i
      refine J_iload_n C d_D_twiceOdd_4 3 rfl rfl ?_
      refine J_aload_n C d_D_twiceOdd_5 0 rfl rfl ?_
      refine J_get_many C d_D_twiceOdd_6 ?_
      refine J_icmp_ge C d_D_twiceOdd_9 (tgt := 39) (by decide) (by omega) (by omega) (fun c_9 => ?_) (fun c_9 => ?_)
      · omega
      · refine J_aload_n C d_D_twiceOdd_12 1 rfl rfl ?_
        refine J_iload_n C d_D_twiceOdd_13 3 rfl rfl ?_
        refine J_iaload C d_D_twiceOdd_14 (by omega) (by omega) ?_
        refine J_bipush C d_D_twiceOdd_15 31 (by decide) ?_
        refine J_iushr C d_D_twiceOdd_17 2147483648 rfl (by first | exact hwb _ _ | omega) (by decide) ?_
        refine J_istore (lv' := [(0, _), (1, _), (2, _), (3, _), (4, _)]) C d_D_twiceOdd_18 (by decide) rfl rfl ?_
        refine J_aload_n C d_D_twiceOdd_20 1 rfl rfl ?_
        refine J_iload_n C d_D_twiceOdd_21 3 rfl rfl ?_
        refine J_aload_n C d_D_twiceOdd_22 1 rfl rfl ?_
        refine J_iload_n C d_D_twiceOdd_23 3 rfl rfl ?_
        refine J_iaload C d_D_twiceOdd_24 (by omega) (by omega) ?_
        refine J_iconst C d_D_twiceOdd_25 1 (by decide) ?_
        refine J_ishl C d_D_twiceOdd_26 2 rfl (by decide) ?_
        refine J_iload_n C d_D_twiceOdd_27 2 rfl rfl ?_
        refine J_ior1 C d_D_twiceOdd_28 hc' ?_
        refine J_iastore C d_D_twiceOdd_29 (by omega) (by omega) ?_
        refine J_wb (fun hwb => ?_)
        refine J_iload C d_D_twiceOdd_30 rfl ?_
        refine J_istore_n (lv' := [(0, _), (1, _), (2, _), (3, _), (4, _)]) C d_D_twiceOdd_32 2 rfl (by decide) rfl rfl ?_
        refine J_iinc (lv' := [(0, _), (1, _), (2, _), (3, _), (4, _)]) C d_D_twiceOdd_33 rfl (inc1 _) (by decide) rfl rfl ?_
        refine J_goto C d_D_twiceOdd_36 (tgt := 4) (by decide) ?_
        refine J_sub [0, 1, 2, 3] rfl ?_
        refine ih (i + 1) _ _ (by omega) (by omega) (fun q hq => by rw [up_n hq]; exact h1 q hq) (fun j hj => by rw [up_s, uf_n (by omega)]; exact h2 j (by omega)) ?_
        have e := cst (b := 4294967296) (d := 2 * σ ka i) h3 (show (τ ka i * 2 + c') % 4294967296 + τ ka i / 2147483648 * 4294967296 = 2 * σ ka i + c' by rw [← h2 i (Nat.le_refl i)]; omega)
        unfold V at e ⊢
        rw [Nat.mul_assoc 2] at e
        rw [up_s, vl_uf_last, vl_s, Nat.pow_succ, Nat.mul_add]
        omega
  refine J_iconst C d_D_twiceOdd_0 0 (by decide) ?_
  refine J_istore_n (lv' := [(0, _), (1, _), (2, _)]) C d_D_twiceOdd_1 2 rfl (by decide) rfl rfl ?_
  refine J_iconst C d_D_twiceOdd_2 0 (by decide) ?_
  refine J_istore_n (lv' := [(0, _), (1, _), (2, _), (3, _)]) C d_D_twiceOdd_3 3 rfl (by decide) rfl rfl ?_
  exact loop mn 0 0 σ (by omega) (by decide) (fun _ _ => rfl) (fun _ _ => rfl) (by unfold V vl; omega)
theorem c_twiceOdd (l : Launch) (E : En) (A : Nat → Prop) {ka : Nat} (ha : ka < 35) (hab : ka ≠ 4) (la : ln ka = 16) (hm : mn ≤ 16) (hO : V (σ 4) 16 < 4294967296 ^ mn) (hlt : V (σ ka) 16 < V (σ 4) 16) : MV l y_D_twiceOdd b_D_twiceOdd 5 rm_D_twiceOdd [.ref (ex E), .ref (ea E ka)] E A σ mn iv tw (fun u => (∀ q, q ≠ ka → u q = σ q) ∧ V (u ka) 16 = 2 * V (σ ka) 16 % V (σ 4) 16) :=
  mk_v (by decide) (Nat.le_of_ble_eq_true rfl) (fun X C hR hE k => by subst hE; exact b_twiceOdd C hR ha hab la hm hO hlt (fun u h1 h2 => k u ⟨h1, h2⟩))
end ODD
end
section
/-! a times b divided by R, modulo the odd part -/
section TOG
variable {X : Ctx} {σ : Nat → Nat → Nat} {mn iv tw : Nat}
theorem b_together (C : Cx X b_D_together 12 R_D) (hR : xR X = rm_D_together) {ka kb kt : Nat} (ha : ka < 35) (hb : kb < 35) (ht : kt < 35) (la : 16 ≤ ln ka) (lb : 16 ≤ ln kb) (lt : ln kt = 16) (ha12 : ka ≠ 12) (hb12 : kb ≠ 12) (ht12 : kt ≠ 12) (ht4 : kt ≠ 4) (hm1 : 1 ≤ mn) (hm : mn ≤ 16)
    (hO : V (σ 4) 16 < 4294967296 ^ mn) (hiv : (σ 4 0 * iv + 1) % 4294967296 = 0) (hA : V (σ ka) 16 < 4294967296 ^ mn) (hB : V (σ kb) 16 < V (σ 4) 16)
    (k : ∀ u, (∀ q, q ≠ kt → q ≠ 12 → u q = σ q) → V (u kt) 16 < V (σ 4) 16 → V (u kt) 16 * 4294967296 ^ mn % V (σ 4) 16 = V (σ ka) 16 * V (σ kb) 16 % V (σ 4) 16 → Ret X b_D_together .return_ [] u mn iv tw) :
    J X 0 [(0, .ref (ex (xE X))), (1, .ref (ea (xE X) ka)), (2, .ref (ea (xE X) kb)), (3, .ref (ea (xE X) kt))] [] σ mn iv tw := by
  refine J_wb (fun hw0 => ?_)
  have e4 : V (σ 4) 16 = V (σ 4) mn := V_cut hm hO
  have eB : V (σ kb) 16 = V (σ kb) mn := V_cut hm (Nat.lt_trans hB hO)
  have eA : V (σ ka) 16 = V (σ ka) mn := V_cut hm hA
  rw [eA, eB] at k
  rw [eB] at hB
  -- the end: the sum is below twice the odd part
  have fin : ∀ τ z, (∀ q, q ≠ 12 → τ q = σ q) → V (τ 12) (mn + 1) < 2 * V (σ 4) 16 → V (τ 12) (mn + 1) * 4294967296 ^ mn = V (σ ka) mn * V (σ kb) mn + z * V (σ 4) 16 →
      J X 332 [(0, .ref (ex (xE X))), (1, .ref (ea (xE X) ka)), (2, .ref (ea (xE X) kb)), (3, .ref (ea (xE X) kt)), (4, .int (nI mn))] [] τ mn iv tw := by
    intro τ z h1 h2 h3
    refine J_wb (fun hwb => ?_)
    have hto : V (τ 12) mn < 4294967296 ^ mn := V_lt hwb 12 mn
    have hs : τ 12 mn < 2 := tg6 h2 (show V (τ 12) (mn + 1) = V (τ 12) mn + τ 12 mn * 4294967296 ^ mn from vl_s _ _ _) hto hO
    have hS : V (τ 12) (mn + 1) = V (τ 12) mn + τ 12 mn * 4294967296 ^ mn := vl_s _ _ _
    have tail : ∀ ov lv, ov < 2 → (ov = 0 ↔ τ 12 mn = 0) → lvg lv 0 = some (.ref (ex (xE X))) → lvg lv 3 = some (.ref (ea (xE X) kt)) → lvg lv 4 = some (.int (nI ov)) → J X 351 lv [] τ mn iv tw := by
      intro ov lv hov hov2 l0 l3 l4
      refine J_aload_n C d_D_together_351 0 rfl l0 ?_
      refine J_get_sum C d_D_together_352 ?_
      refine J_iconst C d_D_together_355 0 (by decide) ?_
      refine J_aload_n C d_D_together_356 3 rfl l3 ?_
      refine J_iconst C d_D_together_357 0 (by decide) ?_
      refine J_aload_n C d_D_together_358 0 rfl l0 ?_
      refine J_get_many C d_D_together_359 ?_
      refine J_copy C d_D_together_362 (by decide) (by omega) (by show _ ≤ 18; omega) (by omega) (by rw [hR]; decide) (by rw [hR]; decide) ?_
      refine J_wb (fun hwb => ?_)
      refine J_aload_n C d_D_together_365 3 rfl l3 ?_
      refine J_aload_n C d_D_together_366 0 rfl l0 ?_
      refine J_get_many C d_D_together_367 ?_
      refine J_bipush C d_D_together_370 16 (by decide) ?_
      refine J_iconst C d_D_together_372 0 (by decide) ?_
      refine J_callSv C d_D_together_373 (c_fill4 (xl X) (xE X) (xA X) (ka := kt) (a := mn) (b := 16) (v := 0) ht hm (by omega) (by decide)) ⟨⟨ml_D_56, ini_A, mc_A_fill4⟩, co_A_fill4, ⟨rfl, rfl⟩, by rw [hR]; decide⟩ st_A_fill4 rfl (by decide) (fun s373 h373 => ?_)
      refine J_wb (fun hwb => ?_)
      obtain ⟨g1, g2, g3⟩ := h373
      have hq : ∀ q, q ≠ kt → q ≠ 12 → s373 q = σ q := fun q hq hq12 => by rw [g1 q hq, up_n hq, h1 q hq12]
      have e4' : s373 4 = σ 4 := hq 4 (Ne.symm ht4) (by decide)
      have eV : V (s373 kt) 16 = V (τ 12) mn := by
        have e1 : V (s373 kt) 16 = V (s373 kt) mn := vl_top hm (fun j a1 a2 => g2 j a1 a2)
        rw [e1]
        exact vl_congr (fun j hj => by rw [g3 j (Or.inl hj), up_s, cpy_lt hj])
      have hw3 := hwb
      refine J_iload C d_D_together_376 l4 ?_
      refine J_ifne C d_D_together_378 (tgt := 392) (by decide) (by first | exact hwb _ _ | omega) (fun c_378 => ?_) (fun c_378 => ?_)
      · refine J_aload_n C d_D_together_392 0 rfl l0 ?_
        refine J_aload_n C d_D_together_393 3 rfl l3 ?_
        refine J_callVv R_D (ex (xE X)) C (fun _ _ => recvD C) d_D_together_394 (c_subtractOdd (σ := s373) (xl X) (xE X) (xA X) (ka := kt) ht ht4 (by omega) hm) ⟨⟨ml_D_125, ini_D, mc_D_subtractOdd⟩, co_D_subtractOdd, ⟨rfl, rfl⟩, by rw [hR]; decide⟩ im_D_subtractOdd se_D_subtractOdd rfl (by decide) (fun s394 h394 => ?_)
        refine J_wb (fun hwb => ?_)
        obtain ⟨f1, f2, w, f3, f4⟩ := h394
        have eU : V (s394 kt) 16 = V (s394 kt) mn := vl_top hm (fun j a1 a2 => by rw [f2 j a1]; exact g2 j a1 a2)
        have hq2 : ∀ q, q ≠ kt → q ≠ 12 → s394 q = σ q := fun q hq' hq12 => by rw [f1 q hq', hq q hq' hq12]
        have eT : V (s373 kt) mn = V (τ 12) mn := by rw [← eV]; exact (vl_top hm (fun j a1 a2 => g2 j a1 a2)).symm
        have hlt := V_lt hwb kt mn
        rw [e4', ← e4, eT] at f4
        have hs1 : τ 12 mn = 1 := by have : τ 12 mn ≠ 0 := fun h => c_378 (hov2.mpr h); omega
        have eR : V (s394 kt) 16 + V (σ 4) 16 = V (τ 12) (mn + 1) := by
          rw [eU, hS, hs1]
          rcases (show w = 0 ∨ w = 1 by omega) with rfl | rfl <;> rw [hS, hs1] at h2 <;> omega
        exact k s394 hq2 (by omega) (tg7 h3 (Or.inr eR)) _ _ d_D_together_397
      · refine J_aload_n C d_D_together_381 3 rfl l3 ?_
        refine J_aload_n C d_D_together_382 0 rfl l0 ?_
        refine J_get_odd C d_D_together_383 ?_
        refine J_callSi C d_D_together_386 (c_compare (σ := s373) (xl X) (xE X) (xA X) (ka := kt) (kb := 4) ht (by decide) (by omega) (by decide)) ⟨⟨ml_D_66, ini_D, mc_D_compare⟩, co_D_compare, ⟨rfl, rfl⟩, by rw [hR]; decide⟩ st_D_compare rfl (by decide) (fun n386 s386 h386 => ?_)
        refine J_wb (fun hwb => ?_)
        obtain ⟨rfl, p1, p2⟩ := h386
        rw [e4', eV] at p2
        refine J_iflt C d_D_together_389 (tgt := 397) (by decide) (by first | exact hwb _ _ | omega) (fun c_389 => ?_) (fun c_389 => ?_)
        · have hs0 : τ 12 mn = 0 := hov2.mp c_378
          have eR : V (s373 kt) 16 = V (τ 12) (mn + 1) := by rw [eV, hS, hs0, Nat.zero_mul, Nat.add_zero]
          exact k s373 hq (by rw [eV]; exact p2.mp c_389) (tg7 h3 (Or.inl eR)) _ _ d_D_together_397
        · refine J_aload_n C d_D_together_392 0 rfl l0 ?_
          refine J_aload_n C d_D_together_393 3 rfl l3 ?_
          refine J_callVv R_D (ex (xE X)) C (fun _ _ => recvD C) d_D_together_394 (c_subtractOdd (σ := s373) (xl X) (xE X) (xA X) (ka := kt) ht ht4 (by omega) hm) ⟨⟨ml_D_125, ini_D, mc_D_subtractOdd⟩, co_D_subtractOdd, ⟨rfl, rfl⟩, by rw [hR]; decide⟩ im_D_subtractOdd se_D_subtractOdd rfl (by decide) (fun s394 h394 => ?_)
          refine J_wb (fun hwb => ?_)
          obtain ⟨f1, f2, w, f3, f4⟩ := h394
          have eU : V (s394 kt) 16 = V (s394 kt) mn := vl_top hm (fun j a1 a2 => by rw [f2 j a1]; exact g2 j a1 a2)
          have hq2 : ∀ q, q ≠ kt → q ≠ 12 → s394 q = σ q := fun q hq' hq12 => by rw [f1 q hq', hq q hq' hq12]
          have eT : V (s373 kt) mn = V (τ 12) mn := by rw [← eV]; exact (vl_top hm (fun j a1 a2 => g2 j a1 a2)).symm
          have hlt := V_lt hwb kt mn
          rw [e4', ← e4, eT] at f4
          have hs0 : τ 12 mn = 0 := hov2.mp c_378
          have hge : V (σ 4) 16 ≤ V (τ 12) mn := Nat.le_of_not_lt fun h => by have := p2.mpr h; omega
          have eR : V (s394 kt) 16 + V (σ 4) 16 = V (τ 12) (mn + 1) := by
            rw [eU, hS, hs0, Nat.zero_mul, Nat.add_zero]
            rcases (show w = 0 ∨ w = 1 by omega) with rfl | rfl <;> omega
          exact k s394 hq2 (by omega) (tg7 h3 (Or.inr eR)) _ _ d_D_together_397
    refine J_aload_n C d_D_together_332 0 rfl rfl ?_
    refine J_get_sum C d_D_together_333 ?_
    refine J_aload_n C d_D_together_336 0 rfl rfl ?_
    refine J_get_many C d_D_together_337 ?_
    refine J_iaload C d_D_together_340 (by decide) (by show _ < 18; omega) ?_
    refine J_ifeq C d_D_together_341 (tgt := 348) (by decide) (by first | exact hwb _ _ | omega) (fun c_341 => ?_) (fun c_341 => ?_)
    · refine J_iconst C d_D_together_348 0 (by decide) ?_
      refine J_istore (lv' := [(0, _), (1, _), (2, _), (3, _), (4, _)]) C d_D_together_349 (by decide) rfl rfl ?_
      exact tail 0 _ (by decide) ⟨fun _ => c_341, fun _ => rfl⟩ rfl rfl rfl
    · refine J_iconst C d_D_together_344 1 (by decide) ?_
      refine J_goto C d_D_together_345 (tgt := 349) (by decide) ?_
      refine J_istore (lv' := [(0, _), (1, _), (2, _), (3, _), (4, _)]) C d_D_together_349 (by decide) rfl rfl ?_
      exact tail 1 _ (by decide) ⟨fun h => by omega, fun h => absurd h c_341⟩ rfl rfl rfl
  have outer : ∀ d i τ z, i + d = mn → (∀ q, q ≠ 12 → τ q = σ q) → V (τ 12) (mn + 1) < 2 * V (σ 4) 16 → V (τ 12) (mn + 1) * 4294967296 ^ i = V (σ ka) i * V (σ kb) mn + z * V (σ 4) 16 →
      J X 11 [(0, .ref (ex (xE X))), (1, .ref (ea (xE X) ka)), (2, .ref (ea (xE X) kb)), (3, .ref (ea (xE X) kt)), (4, .int (nI i))] [] τ mn iv tw := by
    intro d
    induction d with
    | zero =>
      intro i τ z hi h1 h2 h3
      obtain rfl : i = mn := by omega
      refine J_iload C d_D_together_11 rfl ?_
      refine J_aload_n C d_D_together_13 0 rfl rfl ?_
      refine J_get_many C d_D_together_14 ?_
      refine J_icmp_ge C d_D_together_17 (tgt := 332) (by decide) (by omega) (by omega) (fun c_17 => ?_) (fun c_17 => ?_)
      · exact fin τ z h1 h2 h3
      · omega
    | succ d ih =>
      intro i τ z hi h1 h2 h3
      have hxl := hw0 ka i
      -- the reduction: the lowest word becomes 0 and goes
      have seg2 : ∀ c ρ lv, lvg lv 0 = some (.ref (ex (xE X))) → lv = [(0, .ref (ex (xE X))), (1, .ref (ea (xE X) ka)), (2, .ref (ea (xE X) kb)), (3, .ref (ea (xE X) kt)), (4, .int (nI i)), (5, .long (lN c)), (7, .long (lN (σ ka i))), (9, .int (nI mn))] → (∀ q, q ≠ 12 → ρ q = σ q) → ρ 12 (mn + 1) < 2 → V (ρ 12) mn + ρ 12 mn * 4294967296 ^ mn + ρ 12 (mn + 1) * (4294967296 ^ mn * 4294967296) = V (τ 12) (mn + 1) + σ ka i * V (σ kb) mn →
          J X 147 lv [] ρ mn iv tw := by
        intro c ρ lv _ hlv g1 g2 g3
        subst hlv
        have inner2 : ∀ e j c m ρ', j + e + 1 = mn → c < 4294967296 → m < 4294967296 → (∀ q, q ≠ 12 → ρ' q = σ q) → (∀ p, j + 1 ≤ p → ρ' 12 p = ρ 12 p) → V (ρ' 12) j * 4294967296 + c * 4294967296 ^ (j + 1) = V (ρ 12) (j + 1) + m * V (σ 4) (j + 1) →
            J X 199 [(0, .ref (ex (xE X))), (1, .ref (ea (xE X) ka)), (2, .ref (ea (xE X) kb)), (3, .ref (ea (xE X) kt)), (4, .int (nI i)), (5, .long (lN c)), (7, .long (lN (σ ka i))), (9, .long (lN m)), (11, .int (nI (j + 1)))] [] ρ' mn iv tw := by
          intro e
          induction e with
          | zero =>
            intro j c m ρ' hj hc hmb q1 q2 q3
            refine J_wb (fun hwb => ?_)
            have hv1 := hwb 12 mn
            have hv2 : ρ' 12 (mn + 1) < 2 := by rw [q2 _ (by omega)]; exact g2
            have hw' := hwb
            refine J_iload C d_D_together_199 rfl ?_
            refine J_aload_n C d_D_together_201 0 rfl rfl ?_
            refine J_get_many C d_D_together_202 ?_
            refine J_icmp_ge C d_D_together_205 (tgt := 266) (by decide) (by omega) (by omega) (fun c_205 => ?_) (fun c_205 => ?_)
            · refine J_lload C d_D_together_266 rfl ?_
              refine J_aload_n C d_D_together_268 0 rfl rfl ?_
              refine J_get_sum C d_D_together_269 ?_
              refine J_aload_n C d_D_together_272 0 rfl rfl ?_
              refine J_get_many C d_D_together_273 ?_
              refine J_iaload C d_D_together_276 (by decide) (by show _ < 18; omega) ?_
              refine J_word C d_D_together_277 d_D_together_278 d_D_together_281 (by first | exact hwb _ _ | omega) ?_
              refine J_ladd C d_D_together_282 ?_
              refine J_lstore (lv' := [(0, _), (1, _), (2, _), (3, _), (4, _), (5, _), (7, _), (9, _), (11, _)]) C d_D_together_283 (by decide) rfl rfl ?_
              refine J_aload_n C d_D_together_285 0 rfl rfl ?_
              refine J_get_sum C d_D_together_286 ?_
              refine J_aload_n C d_D_together_289 0 rfl rfl ?_
              refine J_get_many C d_D_together_290 ?_
              refine J_iconst C d_D_together_293 1 (by decide) ?_
              refine J_isub C d_D_together_294 (by omega) ?_
              refine J_lload C d_D_together_295 rfl ?_
              refine J_l2i C d_D_together_297 ?_
              refine J_iastore C d_D_together_298 (by decide) (by show _ < 18; omega) ?_
              refine J_wb (fun hwb => ?_)
              refine J_aload_n C d_D_together_299 0 rfl rfl ?_
              refine J_get_sum C d_D_together_300 ?_
              refine J_aload_n C d_D_together_303 0 rfl rfl ?_
              refine J_get_many C d_D_together_304 ?_
              refine J_aload_n C d_D_together_307 0 rfl rfl ?_
              refine J_get_sum C d_D_together_308 ?_
              refine J_aload_n C d_D_together_311 0 rfl rfl ?_
              refine J_get_many C d_D_together_312 ?_
              refine J_iconst C d_D_together_315 1 (by decide) ?_
              refine J_iadd C d_D_together_316 ?_
              refine J_iaload C d_D_together_317 (by decide) (by show _ < 18; omega) ?_
              refine J_lload C d_D_together_318 rfl ?_
              refine J_bipush C d_D_together_320 32 (by decide) ?_
              refine J_lushr C d_D_together_322 4294967296 rfl (by omega) (by decide) ?_
              refine J_l2i C d_D_together_323 ?_
              refine J_iadd C d_D_together_324 ?_
              refine J_iastore C d_D_together_325 (by decide) (by show _ < 18; omega) ?_
              refine J_wb (fun hwb => ?_)
              refine J_iinc (lv' := [(0, _), (1, _), (2, _), (3, _), (4, _), (5, _), (7, _), (9, _), (11, _)]) C d_D_together_326 rfl (inc1 _) (by decide) rfl rfl ?_
              refine J_goto C d_D_together_329 (tgt := 11) (by decide) ?_
              refine J_sub [0, 1, 2, 3, 4] rfl ?_
              have hmj : mn = j + 1 := by omega
              have r1 : ρ' 12 mn = ρ 12 mn := q2 _ (by omega)
              have r2 : ρ' 12 (mn + 1) = ρ 12 (mn + 1) := q2 _ (by omega)
              have eS : V (uf (uf (ρ' 12) (mn - 1) ((c + ρ' 12 mn) % 4294967296)) mn ((ρ' 12 (mn + 1) + (c + ρ' 12 mn) / 4294967296) % 4294967296)) (mn + 1) = V (ρ' 12) j + (c + ρ 12 mn) % 4294967296 * 4294967296 ^ j + (ρ 12 (mn + 1) + (c + ρ 12 mn) / 4294967296) * 4294967296 ^ mn := by
                unfold V
                rw [vl_uf_last, r1, r2, Nat.mod_eq_of_lt (show ρ 12 (mn + 1) + (c + ρ 12 mn) / 4294967296 < 4294967296 by omega)]
                rw [show mn - 1 = j by omega, hmj, vl_uf_last]
              have e5 := tg3 (B := 4294967296) (P := 4294967296 ^ j) (Q := 4294967296 ^ (j + 1)) (Vn := V (ρ' 12) j) (tm := ρ 12 mn) (tm1 := ρ 12 (mn + 1)) (f1 := (c + ρ 12 mn) % 4294967296) (ch := (c + ρ 12 mn) / 4294967296) (Nat.pow_succ _ _) q3 (by omega)
              rw [← hmj, ← e4] at e5
              rw [g3] at e5
              have eF : (up (up ρ' 12 (uf (ρ' 12) (mn - 1) ((c + ρ' 12 mn) % 4294967296))) 12 (uf ((up ρ' 12 (uf (ρ' 12) (mn - 1) ((c + ρ' 12 mn) % 4294967296))) 12) mn (((up ρ' 12 (uf (ρ' 12) (mn - 1) ((c + ρ' 12 mn) % 4294967296))) 12 (mn + 1) + (c + ρ' 12 mn) / 4294967296) % 4294967296))) 12 = uf (uf (ρ' 12) (mn - 1) ((c + ρ' 12 mn) % 4294967296)) mn ((ρ' 12 (mn + 1) + (c + ρ' 12 mn) / 4294967296) % 4294967296) := by
                rw [up_s, up_s, uf_n (show mn + 1 ≠ mn - 1 by omega)]
              refine ih (i + 1) _ (z + m * 4294967296 ^ i) (by omega) (fun q hq => by rw [up_n hq, up_n hq]; exact q1 q hq) ?_ ?_
              · rw [eF, eS]
                exact tg4 e5 h2 hxl hB hmb
              · rw [eF, eS, Nat.pow_succ]
                exact tg5 h3 e5
            · omega
          | succ e ihe =>
            intro j c m ρ' hj hc hmb q1 q2 q3
            refine J_wb (fun hwb => ?_)
            have hv1 := hwb 12 (j + 1)
            have hv2 := hwb 4 (j + 1)
            have hxy : m * ρ' 4 (j + 1) ≤ 4294967295 * 4294967295 := Nat.mul_le_mul (by omega) (by omega)
            refine J_iload C d_D_together_199 rfl ?_
            refine J_aload_n C d_D_together_201 0 rfl rfl ?_
            refine J_get_many C d_D_together_202 ?_
            refine J_icmp_ge C d_D_together_205 (tgt := 266) (by decide) (by omega) (by omega) (fun c_205 => ?_) (fun c_205 => ?_)
            · omega
            · refine J_lload C d_D_together_208 rfl ?_
              refine J_lload C d_D_together_210 rfl ?_
              refine J_aload_n C d_D_together_212 0 rfl rfl ?_
              refine J_get_odd C d_D_together_213 ?_
              refine J_iload C d_D_together_216 rfl ?_
              refine J_iaload C d_D_together_218 (by decide) (by show _ < 16; omega) ?_
              refine J_word C d_D_together_219 d_D_together_220 d_D_together_223 (by first | exact hwb _ _ | omega) ?_
              refine J_lmul C d_D_together_224 ?_
              refine J_aload_n C d_D_together_225 0 rfl rfl ?_
              refine J_get_sum C d_D_together_226 ?_
              refine J_iload C d_D_together_229 rfl ?_
              refine J_iaload C d_D_together_231 (by decide) (by show _ < 18; omega) ?_
              refine J_word C d_D_together_232 d_D_together_233 d_D_together_236 (by first | exact hwb _ _ | omega) ?_
              refine J_ladd C d_D_together_237 ?_
              refine J_ladd C d_D_together_238 ?_
              refine J_lstore (lv' := [(0, _), (1, _), (2, _), (3, _), (4, _), (5, _), (7, _), (9, _), (11, _)]) C d_D_together_239 (by decide) rfl rfl ?_
              refine J_aload_n C d_D_together_241 0 rfl rfl ?_
              refine J_get_sum C d_D_together_242 ?_
              refine J_iload C d_D_together_245 rfl ?_
              refine J_iconst C d_D_together_247 1 (by decide) ?_
              refine J_isub C d_D_together_248 (by omega) ?_
              refine J_lload C d_D_together_249 rfl ?_
              refine J_l2i C d_D_together_251 ?_
              refine J_iastore C d_D_together_252 (by decide) (by show _ < 18; omega) ?_
              refine J_wb (fun hwb => ?_)
              refine J_lload C d_D_together_253 rfl ?_
              refine J_bipush C d_D_together_255 32 (by decide) ?_
              refine J_lushr C d_D_together_257 4294967296 rfl (by omega) (by decide) ?_
              refine J_lstore (lv' := [(0, _), (1, _), (2, _), (3, _), (4, _), (5, _), (7, _), (9, _), (11, _)]) C d_D_together_258 (by decide) rfl rfl ?_
              refine J_iinc (lv' := [(0, _), (1, _), (2, _), (3, _), (4, _), (5, _), (7, _), (9, _), (11, _)]) C d_D_together_260 rfl (inc1 _) (by decide) rfl rfl ?_
              refine J_goto C d_D_together_263 (tgt := 199) (by decide) ?_
              refine ihe (j + 1) _ m _ (by omega) (by omega) hmb (fun q hq => by rw [up_n hq]; exact q1 q hq) (fun p hp => by rw [up_s, uf_n (by omega)]; exact q2 p (by omega)) ?_
              have e5 := tg2 (B := 4294967296) (P := 4294967296 ^ j) (Q := 4294967296 ^ (j + 1)) (oj := σ 4 (j + 1)) (t := ρ 12 (j + 1)) (v := (c + (m * ρ' 4 (j + 1) + ρ' 12 (j + 1))) % 4294967296) (c' := (c + (m * ρ' 4 (j + 1) + ρ' 12 (j + 1))) / 4294967296) (Nat.pow_succ _ _) q3 (by rw [q1 4 (by decide), q2 (j + 1) (Nat.le_refl _)]; omega)
              rw [up_s, Nat.add_sub_cancel]
              unfold V at e5 ⊢
              rw [vl_uf_last, vl_s _ _ (j + 1), vl_s _ _ (j + 1), Nat.pow_succ _ (j + 1)]
              exact e5
        refine J_wb (fun hwb => ?_)
        have hv1 := hwb 12 0
        have hv2 := hwb 4 0
        have hm0 : ρ 12 0 * iv % 4294967296 < 4294967296 := Nat.mod_lt _ (by decide)
        have hxy : ρ 12 0 * iv % 4294967296 * ρ 4 0 ≤ 4294967295 * 4294967295 := Nat.mul_le_mul (by omega) (by omega)
        have hz := inv0 (B := 4294967296) (t := ρ 12 0) hiv
        refine J_aload_n C d_D_together_147 0 rfl rfl ?_
        refine J_get_sum C d_D_together_148 ?_
        refine J_iconst C d_D_together_151 0 (by decide) ?_
        refine J_iaload C d_D_together_152 (by decide) (by show _ < 18; omega) ?_
        refine J_aload_n C d_D_together_153 0 rfl rfl ?_
        refine J_get_inverse C d_D_together_154 ?_
        refine J_imul C d_D_together_157 ?_
        refine J_wordm C d_D_together_158 d_D_together_159 d_D_together_162 ?_
        refine J_lstore (lv' := [(0, _), (1, _), (2, _), (3, _), (4, _), (5, _), (7, _), (9, _)]) C d_D_together_163 (by decide) rfl rfl ?_
        refine J_lload C d_D_together_165 rfl ?_
        refine J_aload_n C d_D_together_167 0 rfl rfl ?_
        refine J_get_odd C d_D_together_168 ?_
        refine J_iconst C d_D_together_171 0 (by decide) ?_
        refine J_iaload C d_D_together_172 (by decide) (by show _ < 16; omega) ?_
        refine J_word C d_D_together_173 d_D_together_174 d_D_together_177 (by first | exact hwb _ _ | omega) ?_
        refine J_lmul C d_D_together_178 ?_
        refine J_aload_n C d_D_together_179 0 rfl rfl ?_
        refine J_get_sum C d_D_together_180 ?_
        refine J_iconst C d_D_together_183 0 (by decide) ?_
        refine J_iaload C d_D_together_184 (by decide) (by show _ < 18; omega) ?_
        refine J_word C d_D_together_185 d_D_together_186 d_D_together_189 (by first | exact hwb _ _ | omega) ?_
        refine J_ladd C d_D_together_190 ?_
        refine J_bipush C d_D_together_191 32 (by decide) ?_
        refine J_lushr C d_D_together_193 4294967296 rfl (by omega) (by decide) ?_
        refine J_lstore (lv' := [(0, _), (1, _), (2, _), (3, _), (4, _), (5, _), (7, _), (9, _)]) C d_D_together_194 (by decide) rfl rfl ?_
        refine J_iconst C d_D_together_196 1 (by decide) ?_
        refine J_istore (lv' := [(0, _), (1, _), (2, _), (3, _), (4, _), (5, _), (7, _), (9, _), (11, _)]) C d_D_together_197 (by decide) rfl rfl ?_
        refine inner2 (mn - 1) 0 _ (ρ 12 0 * iv % 4294967296) ρ (by omega) (by omega) hm0 g1 (fun _ _ => rfl) ?_
        have e6 : ρ 4 0 = σ 4 0 := by rw [g1 4 (by decide)]
        rw [e6]
        rw [e6] at hxy
        have t1 : V (ρ 12) (0 + 1) = ρ 12 0 := by unfold V vl vl; omega
        have t2 : V (σ 4) (0 + 1) = σ 4 0 := by unfold V vl vl; omega
        rw [t1, t2, show V (ρ 12) 0 = 0 from rfl, Nat.zero_mul, Nat.zero_add, Nat.zero_add, Nat.pow_one]
        omega
      have inner1 : ∀ e j c τ', j + e = mn → c < 4294967296 → (∀ q, q ≠ 12 → τ' q = σ q) → (∀ p, j ≤ p → τ' 12 p = τ 12 p) → V (τ' 12) j + c * 4294967296 ^ j = V (τ 12) j + σ ka i * V (σ kb) j →
          J X 37 [(0, .ref (ex (xE X))), (1, .ref (ea (xE X) ka)), (2, .ref (ea (xE X) kb)), (3, .ref (ea (xE X) kt)), (4, .int (nI i)), (5, .long (lN c)), (7, .long (lN (σ ka i))), (9, .int (nI j))] [] τ' mn iv tw := by
        intro e
        induction e with
        | zero =>
          intro j c τ' hj hc g1 g2 g3
          obtain rfl : j = mn := by omega
          refine J_wb (fun hwb => ?_)
          have hv1 := hwb 12 j
          refine J_iload C d_D_together_37 rfl ?_
          refine J_aload_n C d_D_together_39 0 rfl rfl ?_
          refine J_get_many C d_D_together_40 ?_
          refine J_icmp_ge C d_D_together_43 (tgt := 99) (by decide) (by omega) (by omega) (fun c_43 => ?_) (fun c_43 => ?_)
          · refine J_lload C d_D_together_99 rfl ?_
            refine J_aload_n C d_D_together_101 0 rfl rfl ?_
            refine J_get_sum C d_D_together_102 ?_
            refine J_aload_n C d_D_together_105 0 rfl rfl ?_
            refine J_get_many C d_D_together_106 ?_
            refine J_iaload C d_D_together_109 (by decide) (by show _ < 18; omega) ?_
            refine J_word C d_D_together_110 d_D_together_111 d_D_together_114 (by first | exact hwb _ _ | omega) ?_
            refine J_ladd C d_D_together_115 ?_
            refine J_lstore (lv' := [(0, _), (1, _), (2, _), (3, _), (4, _), (5, _), (7, _), (9, _)]) C d_D_together_116 (by decide) rfl rfl ?_
            refine J_aload_n C d_D_together_118 0 rfl rfl ?_
            refine J_get_sum C d_D_together_119 ?_
            refine J_aload_n C d_D_together_122 0 rfl rfl ?_
            refine J_get_many C d_D_together_123 ?_
            refine J_lload C d_D_together_126 rfl ?_
            refine J_l2i C d_D_together_128 ?_
            refine J_iastore C d_D_together_129 (by decide) (by show _ < 18; omega) ?_
            refine J_wb (fun hwb => ?_)
            refine J_aload_n C d_D_together_130 0 rfl rfl ?_
            refine J_get_sum C d_D_together_131 ?_
            refine J_aload_n C d_D_together_134 0 rfl rfl ?_
            refine J_get_many C d_D_together_135 ?_
            refine J_iconst C d_D_together_138 1 (by decide) ?_
            refine J_iadd C d_D_together_139 ?_
            refine J_lload C d_D_together_140 rfl ?_
            refine J_bipush C d_D_together_142 32 (by decide) ?_
            refine J_lushr C d_D_together_144 4294967296 rfl (by omega) (by decide) ?_
            refine J_l2i C d_D_together_145 ?_
            refine J_iastore C d_D_together_146 (by decide) (by show _ < 18; omega) ?_
            refine J_wb (fun hwb => ?_)
            have r1 : τ' 12 j = τ 12 j := g2 j (Nat.le_refl j)
            refine seg2 _ _ _ rfl rfl (fun q hq => by rw [up_n hq, up_n hq]; exact g1 q hq) ?_ ?_
            · rw [up_s, uf_s]; omega
            · rw [up_s, uf_s, uf_n (show j ≠ j + 1 by omega), up_s, uf_s]
              unfold V at g3 ⊢
              rw [vl_uf_ge (by omega), vl_uf_ge (Nat.le_refl j), vl_s, r1]
              rw [r1] at hv1
              have q1 : (c + τ 12 j) % 4294967296 + (c + τ 12 j) / 4294967296 % 4294967296 * 4294967296 = c + τ 12 j := by omega
              generalize (c + τ 12 j) % 4294967296 = a1 at q1 ⊢
              generalize (c + τ 12 j) / 4294967296 % 4294967296 = a2 at q1 ⊢
              grind
          · omega
        | succ e ihe =>
          intro j c τ' hj hc g1 g2 g3
          refine J_wb (fun hwb => ?_)
          have hv1 := hwb 12 j
          have hv2 := hwb kb j
          have hxy : σ ka i * τ' kb j ≤ 4294967295 * 4294967295 := Nat.mul_le_mul (by omega) (by omega)
          refine J_iload C d_D_together_37 rfl ?_
          refine J_aload_n C d_D_together_39 0 rfl rfl ?_
          refine J_get_many C d_D_together_40 ?_
          refine J_icmp_ge C d_D_together_43 (tgt := 99) (by decide) (by omega) (by omega) (fun c_43 => ?_) (fun c_43 => ?_)
          · omega
          · refine J_lload C d_D_together_46 rfl ?_
            refine J_lload C d_D_together_48 rfl ?_
            refine J_aload_n C d_D_together_50 2 rfl rfl ?_
            refine J_iload C d_D_together_51 rfl ?_
            refine J_iaload C d_D_together_53 (by omega) (by omega) ?_
            refine J_word C d_D_together_54 d_D_together_55 d_D_together_58 (by first | exact hwb _ _ | omega) ?_
            refine J_lmul C d_D_together_59 ?_
            refine J_aload_n C d_D_together_60 0 rfl rfl ?_
            refine J_get_sum C d_D_together_61 ?_
            refine J_iload C d_D_together_64 rfl ?_
            refine J_iaload C d_D_together_66 (by decide) (by show _ < 18; omega) ?_
            refine J_word C d_D_together_67 d_D_together_68 d_D_together_71 (by first | exact hwb _ _ | omega) ?_
            refine J_ladd C d_D_together_72 ?_
            refine J_ladd C d_D_together_73 ?_
            refine J_lstore (lv' := [(0, _), (1, _), (2, _), (3, _), (4, _), (5, _), (7, _), (9, _)]) C d_D_together_74 (by decide) rfl rfl ?_
            refine J_aload_n C d_D_together_76 0 rfl rfl ?_
            refine J_get_sum C d_D_together_77 ?_
            refine J_iload C d_D_together_80 rfl ?_
            refine J_lload C d_D_together_82 rfl ?_
            refine J_l2i C d_D_together_84 ?_
            refine J_iastore C d_D_together_85 (by decide) (by show _ < 18; omega) ?_
            refine J_wb (fun hwb => ?_)
            refine J_lload C d_D_together_86 rfl ?_
            refine J_bipush C d_D_together_88 32 (by decide) ?_
            refine J_lushr C d_D_together_90 4294967296 rfl (by omega) (by decide) ?_
            refine J_lstore (lv' := [(0, _), (1, _), (2, _), (3, _), (4, _), (5, _), (7, _), (9, _)]) C d_D_together_91 (by decide) rfl rfl ?_
            refine J_iinc (lv' := [(0, _), (1, _), (2, _), (3, _), (4, _), (5, _), (7, _), (9, _)]) C d_D_together_93 rfl (inc1 _) (by decide) rfl rfl ?_
            refine J_goto C d_D_together_96 (tgt := 37) (by decide) ?_
            refine ihe (j + 1) _ _ (by omega) (by omega) (fun q hq => by rw [up_n hq]; exact g1 q hq) (fun p hp => by rw [up_s, uf_n (by omega)]; exact g2 p (by omega)) ?_
            have e5 := tg1 (B := 4294967296) (P := 4294967296 ^ j) (bj := σ kb j) (t := τ 12 j) (v := (c + (σ ka i * τ' kb j + τ' 12 j)) % 4294967296) (c' := (c + (σ ka i * τ' kb j + τ' 12 j)) / 4294967296) g3 (by rw [g1 kb hb12, g2 j (Nat.le_refl _)]; omega)
            rw [up_s]
            unfold V at e5 ⊢
            rw [vl_uf_last, vl_s, vl_s, Nat.pow_succ]
            exact e5
      refine J_wb (fun hwb => ?_)
      refine J_iload C d_D_together_11 rfl ?_
      refine J_aload_n C d_D_together_13 0 rfl rfl ?_
      refine J_get_many C d_D_together_14 ?_
      refine J_icmp_ge C d_D_together_17 (tgt := 332) (by decide) (by omega) (by omega) (fun c_17 => ?_) (fun c_17 => ?_)
      · omega
      · refine J_lconst C d_D_together_20 0 rfl ?_
        refine J_lstore (lv' := [(0, _), (1, _), (2, _), (3, _), (4, _), (5, _)]) C d_D_together_21 (by decide) rfl rfl ?_
        refine J_aload_n C d_D_together_23 1 rfl rfl ?_
        refine J_iload C d_D_together_24 rfl ?_
        refine J_iaload C d_D_together_26 (by omega) (by omega) ?_
        refine J_word C d_D_together_27 d_D_together_28 d_D_together_31 (by first | exact hwb _ _ | omega) ?_
        refine J_lstore (lv' := [(0, _), (1, _), (2, _), (3, _), (4, _), (5, _), (7, _)]) C d_D_together_32 (by decide) rfl rfl ?_
        refine J_iconst C d_D_together_34 0 (by decide) ?_
        refine J_istore (lv' := [(0, _), (1, _), (2, _), (3, _), (4, _), (5, _), (7, _), (9, _)]) C d_D_together_35 (by decide) rfl rfl ?_
        rw [h1 ka ha12]
        exact inner1 mn 0 0 τ (by omega) (by decide) h1 (fun _ _ => rfl) (by unfold V vl; omega)
  refine J_aload_n C d_D_together_0 0 rfl rfl ?_
  refine J_get_sum C d_D_together_1 ?_
  refine J_iconst C d_D_together_4 0 (by decide) ?_
  refine J_callSv C d_D_together_5 (c_fill2 (σ := σ) (xl X) (xE X) (xA X) (ka := 12) (v := 0) (by decide) (by decide)) ⟨⟨ml_D_122, ini_A, mc_A_fill2⟩, co_A_fill2, ⟨rfl, rfl⟩, by rw [hR]; decide⟩ st_A_fill2 rfl (by decide) (fun s5 h5 => ?_)
  refine J_wb (fun hwb => ?_)
  refine J_iconst C d_D_together_8 0 (by decide) ?_
  refine J_istore (lv' := [(0, _), (1, _), (2, _), (3, _), (4, _)]) C d_D_together_9 (by decide) rfl rfl ?_
  obtain ⟨g1, g2, g3⟩ := h5
  have e0 : V (s5 12) (mn + 1) = 0 := vl_zero (fun j hj => g2 j (show j < 18 by omega))
  refine outer mn 0 s5 0 (by omega) g1 (by rw [e0]; omega) ?_
  rw [e0, show V (σ ka) 0 = 0 from rfl]
  omega
theorem c_together (l : Launch) (E : En) (A : Nat → Prop) {ka kb kt : Nat} (ha : ka < 35) (hb : kb < 35) (ht : kt < 35) (la : 16 ≤ ln ka) (lb : 16 ≤ ln kb) (lt : ln kt = 16) (ha12 : ka ≠ 12) (hb12 : kb ≠ 12) (ht12 : kt ≠ 12) (ht4 : kt ≠ 4) (hm1 : 1 ≤ mn) (hm : mn ≤ 16)
    (hO : V (σ 4) 16 < 4294967296 ^ mn) (hiv : (σ 4 0 * iv + 1) % 4294967296 = 0) (hA : V (σ ka) 16 < 4294967296 ^ mn) (hB : V (σ kb) 16 < V (σ 4) 16) : MV l y_D_together b_D_together 12 rm_D_together [.ref (ex E), .ref (ea E ka), .ref (ea E kb), .ref (ea E kt)] E A σ mn iv tw (fun u => (∀ q, q ≠ kt → q ≠ 12 → u q = σ q) ∧ V (u kt) 16 < V (σ 4) 16 ∧ V (u kt) 16 * 4294967296 ^ mn % V (σ 4) 16 = V (σ ka) 16 * V (σ kb) 16 % V (σ 4) 16) :=
  mk_v (by decide) (Nat.le_of_ble_eq_true rfl) (fun X C hR hE k => by subst hE; exact b_together C hR ha hb ht la lb lt ha12 hb12 ht12 ht4 hm1 hm hO hiv hA hB (fun u h1 h2 h3 => k u ⟨h1, h2, h3⟩))
end TOG
end
section
/-! the modulus is parted -/
theorem vl_of {b N : Nat} : ∀ n, vl b (fun j => N / b ^ j % b) n = N % b ^ n
  | 0 => by rw [Nat.pow_zero, Nat.mod_one]; rfl
  | n + 1 => by rw [vl_s, vl_of n, Nat.mod_pow_succ, Nat.mul_comm (b ^ n)]
/-- words shifted down by q words and r bits -/
theorem shiftV {f g : Nat → Nat} {q r : Nat} (hr : r < 32) (hf : ∀ j, f j < 4294967296) (h0 : ∀ j, 16 ≤ j → f j = 0) (hg : ∀ j, j < 16 → g j = (f (j + q) + f (j + q + 1) * 4294967296) / 2 ^ r % 4294967296) :
    V g 16 = V f 16 / 2 ^ (32 * q + r) := by
  have hlt : V f 16 < 4294967296 ^ 16 := vl_lt (fun j _ => hf j)
  have e1 : 2 ^ (32 * q + r) = 4294967296 ^ q * 2 ^ r := by rw [Nat.pow_add, Nat.pow_mul]
  have e2 : 4294967296 = 2 ^ r * 2 ^ (32 - r) := by
    rw [← Nat.pow_add, show r + (32 - r) = 32 by omega]
  have hp : 0 < 2 ^ r := Nat.two_pow_pos r
  have key : ∀ j, j < 16 → g j = V f 16 / 2 ^ (32 * q + r) / 4294967296 ^ j % 4294967296 := by
    intro j hj
    rw [hg j hj, e1, Nat.div_div_eq_div_mul, show 4294967296 ^ q * 2 ^ r * 4294967296 ^ j = 4294967296 ^ (j + q) * 2 ^ r by rw [Nat.pow_add]; grind, ← Nat.div_div_eq_div_mul]
    rcases Nat.lt_or_ge (j + q) 16 with h | h
    · unfold V
      obtain ⟨d, hd⟩ : ∃ d, 16 - (j + q) = d + 1 := ⟨16 - (j + q) - 1, by omega⟩
      rw [vl_div (fun i _ => hf i) (by omega), hd, vl_head]
      simp only [Nat.add_zero]
      -- the second word and what is above
      have e3 : ∃ R, vl 4294967296 (fun i => f (j + q + (i + 1))) d = f (j + q + 1) + 4294967296 * R := by
        cases d with
        | zero => exact ⟨0, by rw [h0 (j + q + 1) (by omega)]; rfl⟩
        | succ d => exact ⟨_, vl_head⟩
      obtain ⟨R, hR⟩ := e3
      rw [hR, show f (j + q) + 4294967296 * (f (j + q + 1) + 4294967296 * R) = (f (j + q) + f (j + q + 1) * 4294967296) + 2 ^ r * (2 ^ (32 - r) * R * 4294967296) by
        have : 4294967296 * (4294967296 * R) = 2 ^ r * (2 ^ (32 - r) * R * 4294967296) := by
          rw [← Nat.mul_assoc (2 ^ r), ← Nat.mul_assoc (2 ^ r), ← e2]
          omega
        omega]
      rw [Nat.add_mul_div_left _ _ hp, Nat.add_mul_mod_self_right]
    · rw [h0 (j + q) h, h0 (j + q + 1) (by omega)]
      have : V f 16 / 4294967296 ^ (j + q) = 0 := Nat.div_eq_of_lt (Nat.lt_of_lt_of_le hlt (Nat.pow_le_pow_right (by decide) h))
      rw [this]
  have e4 := vl_of (b := 4294967296) (N := V f 16 / 2 ^ (32 * q + r)) 16
  rw [Nat.mod_eq_of_lt (Nat.lt_of_le_of_lt (Nat.div_le_self _ _) hlt)] at e4
  rw [← e4]
  exact vl_congr key
/-- Newton's step -/
theorem nstep {o v d e : Nat} (h1 : e ≤ 2 * d) (h2 : e ≤ 32) (h : ∃ c : Int, (o : Int) * v - 1 = 2 ^ d * c) : ∃ c : Int, (o : Int) * ((v * (2 + 4294967296 - o * v % 4294967296) % 4294967296 : Nat) : Int) - 1 = 2 ^ e * c := by
  obtain ⟨c, hc⟩ := h
  have hr : o * v % 4294967296 < 4294967296 := Nat.mod_lt _ (by decide)
  have q1 := Nat.div_add_mod (o * v) 4294967296
  have q2 := Nat.div_add_mod (v * (2 + 4294967296 - o * v % 4294967296)) 4294967296
  generalize o * v % 4294967296 = r at hr q1 q2 ⊢
  generalize o * v / 4294967296 = a at q1
  obtain ⟨s, hs⟩ : ∃ s, 2 + 4294967296 - r = s := ⟨_, rfl⟩
  have hs2 : s + r = 4294967298 := by omega
  rw [hs] at q2 ⊢
  generalize v * s % 4294967296 = w at q2 ⊢
  generalize v * s / 4294967296 = b at q2
  have i1 : (4294967296 : Int) * a + r = o * v := by rw [← Int.natCast_mul]; omega
  have i2 : (4294967296 : Int) * b + w = v * s := by rw [← Int.natCast_mul]; omega
  have i3 : (s : Int) + r = 4294967298 := by omega
  obtain ⟨x, hx⟩ : ∃ x : Int, x = (2 : Int) ^ d * c := ⟨_, rfl⟩
  have p1 : (2 : Int) ^ d * 2 ^ d = 2 ^ e * 2 ^ (2 * d - e) := by
    rw [← Int.pow_add, ← Int.pow_add]; congr 1; omega
  have p2 : (4294967296 : Int) = 2 ^ e * 2 ^ (32 - e) := by
    rw [← Int.pow_add, show e + (32 - e) = 32 by omega]; rfl
  refine ⟨2 ^ (32 - e) * (o * (v + v * a - b)) - 2 ^ (2 * d - e) * c * c, ?_⟩
  have e1 : (o : Int) * w - 1 = 4294967296 * (o * (v + v * a - b)) - (2 ^ d * c) * (2 ^ d * c) := by
    rw [← hc]
    grind
  rw [e1]
  have e2 : (2 : Int) ^ d * c * (2 ^ d * c) = (2 ^ d * 2 ^ d) * (c * c) := by grind
  rw [e2, p1]
  generalize hk : (o : Int) * (v + v * a - b) = k
  have e3 : (4294967296 : Int) * k = 2 ^ e * 2 ^ (32 - e) * k := by rw [← p2]
  rw [e3]
  grind
/-- at the end: the inverse's negative -/
theorem nfin {o v : Nat} (hv : v < 4294967296) (h : ∃ c : Int, (o : Int) * v - 1 = 2 ^ 32 * c) : (o * (4294967296 - v) + 1) % 4294967296 = 0 := by
  obtain ⟨c, hc⟩ := h
  obtain ⟨s, hs⟩ : ∃ s, 4294967296 - v = s := ⟨_, rfl⟩
  have hs2 : s + v = 4294967296 := by omega
  rw [hs]
  have i3 : (s : Int) + v = 4294967296 := by omega
  have e : (o : Int) * s + 1 = 4294967296 * (o - c) := by
    have : (2 : Int) ^ 32 = 4294967296 := rfl
    rw [this] at hc
    grind
  have e2 : (((o * s + 1 : Nat)) : Int) % 4294967296 = 0 := by
    push_cast
    rw [e, Int.mul_emod_right]
  omega
theorem nbeg {o : Nat} (h : o % 2 = 1) : ∃ c : Int, (o : Int) * o - 1 = 2 ^ 3 * c := by
  obtain ⟨q, r, hq, hr⟩ : ∃ q r, o = 4 * q + r ∧ (r = 1 ∨ r = 3) := ⟨o / 4, o % 4, by omega, by omega⟩
  rcases hr with rfl | rfl
  · exact ⟨2 * q * q + q, by subst hq; push_cast; grind⟩
  · exact ⟨2 * q * q + 3 * q + 1, by subst hq; push_cast; grind⟩
section SPLIT
variable {X : Ctx} {σ : Nat → Nat → Nat} {mn iv tw : Nat}
theorem b_split (C : Cx X b_D_split 6 R_D) (hM : 0 < V (σ 0) 16)
    (k : ∀ u mn' iv' tw', (∀ q, q ≠ 4 → u q = σ q) → tw' < 512 → V (u 4) 16 * 2 ^ tw' = V (σ 0) 16 → V (u 4) 16 % 2 = 1 → 1 ≤ mn' → mn' ≤ 16 → V (u 4) 16 < 4294967296 ^ mn' → u 4 (mn' - 1) ≠ 0 → iv' ≤ 4294967296 → (u 4 0 * iv' + 1) % 4294967296 = 0 → Ret X b_D_split .return_ [] u mn' iv' tw') :
    J X 0 [(0, .ref (ex (xE X)))] [] σ mn iv tw := by
  refine J_wb (fun hw0 => ?_)
  have hML : V (σ 0) 16 < 2 ^ 512 := Nat.lt_of_lt_of_eq (V_lt hw0 0 16) p512
  have seg4 : ∀ t m τ, t < 512 → (∀ q, q ≠ 4 → τ q = σ q) → V (τ 4) 16 * 2 ^ t = V (σ 0) 16 → V (τ 4) 16 % 2 = 1 → 1 ≤ m → m ≤ 16 → V (τ 4) 16 < 4294967296 ^ m → τ 4 (m - 1) ≠ 0 →
      ∀ d i (v : Nat), i + d = 5 → v < 4294967296 → (∃ c : Int, (τ 4 0 : Int) * v - 1 = 2 ^ (min (3 * 2 ^ i) 32) * c) → J X 181 [(0, .ref (ex (xE X))), (3, .int (nI v)), (4, .int (nI i))] [] τ m iv t := by
    intro t m τ h1 h2 h3 h4 h5 h6 h7 h8 d
    induction d with
    | zero =>
      intro i v hi hv hc
      obtain rfl : i = 5 := by omega
      refine J_iload C d_D_split_181 rfl ?_
      refine J_iconst C d_D_split_183 5 (by decide) ?_
      refine J_icmp_ge C d_D_split_184 (tgt := 206) (by decide) (by omega) (by omega) (fun c_184 => ?_) (fun c_184 => ?_)
      · refine J_aload_n C d_D_split_206 0 rfl rfl ?_
        refine J_iload_n C d_D_split_207 3 rfl rfl ?_
        refine J_ineg C d_D_split_208 (by omega) ?_
        refine J_put_inverse C d_D_split_209 ?_
        exact k τ m (4294967296 - v) t h2 h1 h3 h4 h5 h6 h7 h8 (by omega) (nfin hv hc) _ _ d_D_split_212
      · omega
    | succ d ih =>
      intro i v hi hv hc
      refine J_wb (fun hwb => ?_)
      refine J_iload C d_D_split_181 rfl ?_
      refine J_iconst C d_D_split_183 5 (by decide) ?_
      refine J_icmp_ge C d_D_split_184 (tgt := 206) (by decide) (by omega) (by omega) (fun c_184 => ?_) (fun c_184 => ?_)
      · omega
      · refine J_iload_n C d_D_split_187 3 rfl rfl ?_
        refine J_iconst C d_D_split_188 2 (by decide) ?_
        refine J_aload_n C d_D_split_189 0 rfl rfl ?_
        refine J_get_odd C d_D_split_190 ?_
        refine J_iconst C d_D_split_193 0 (by decide) ?_
        refine J_iaload C d_D_split_194 (by decide) (by show _ < 16; omega) ?_
        refine J_iload_n C d_D_split_195 3 rfl rfl ?_
        refine J_imul C d_D_split_196 ?_
        rw [← nb_mod (τ 4 0 * v)]
        refine J_isubm C d_D_split_197 (Nat.le_of_lt (Nat.mod_lt _ (by decide))) ?_
        refine J_imul C d_D_split_198 ?_
        rw [← nb_mod (v * (2 + 4294967296 - τ 4 0 * v % 4294967296))]
        refine J_istore_n (lv' := [(0, _), (3, _), (4, _)]) C d_D_split_199 3 rfl (by decide) rfl rfl ?_
        refine J_iinc (lv' := [(0, _), (3, _), (4, _)]) C d_D_split_200 rfl (inc1 _) (by decide) rfl rfl ?_
        refine J_goto C d_D_split_203 (tgt := 181) (by decide) ?_
        exact ih (i + 1) _ (by omega) (Nat.mod_lt _ (by decide)) (nstep (by rw [Nat.pow_succ]; omega) (by omega) hc)
  have seg3 : ∀ t τ, t < 512 → (∀ q, q ≠ 4 → τ q = σ q) → V (τ 4) 16 * 2 ^ t = V (σ 0) 16 → V (τ 4) 16 % 2 = 1 →
      ∀ m, m ≤ 16 → (∀ j, m ≤ j → j < 16 → τ 4 j = 0) → J X 144 [(0, .ref (ex (xE X)))] [] τ m iv t := by
    intro t τ h1 h2 h3 h4 m
    induction m with
    | zero =>
      intro _ hz
      have : V (τ 4) 16 = 0 := vl_zero (fun j hj => hz j (Nat.zero_le j) hj)
      omega
    | succ m ih =>
      intro hm hz
      refine J_wb (fun hwb => ?_)
      have hwt := hwb
      refine J_aload_n C d_D_split_144 0 rfl rfl ?_
      refine J_get_odd C d_D_split_145 ?_
      refine J_aload_n C d_D_split_148 0 rfl rfl ?_
      refine J_get_many C d_D_split_149 ?_
      refine J_iconst C d_D_split_152 1 (by decide) ?_
      refine J_isub C d_D_split_153 (by omega) ?_
      refine J_iaload C d_D_split_154 (by decide) (by show _ < 16; omega) ?_
      refine J_ifne C d_D_split_155 (tgt := 171) (by decide) (by first | exact hwb _ _ | omega) (fun c_155 => ?_) (fun c_155 => ?_)
      · refine J_aload_n C d_D_split_171 0 rfl rfl ?_
        refine J_get_odd C d_D_split_172 ?_
        refine J_iconst C d_D_split_175 0 (by decide) ?_
        refine J_iaload C d_D_split_176 (by decide) (by show _ < 16; omega) ?_
        refine J_istore_n (lv' := [(0, _), (3, _)]) C d_D_split_177 3 rfl (by decide) rfl rfl ?_
        refine J_iconst C d_D_split_178 0 (by decide) ?_
        refine J_istore (lv' := [(0, _), (3, _), (4, _)]) C d_D_split_179 (by decide) rfl rfl ?_
        refine J_sub [0, 1, 2] rfl ?_
        have eT : V (τ 4) 16 = V (τ 4) (m + 1) := vl_top hm hz
        have hodd : τ 4 0 % 2 = 1 := by
          have e := vl_head (b := 4294967296) (f := τ 4) (n := 15)
          have e' : V (τ 4) 16 = τ 4 0 + 4294967296 * vl 4294967296 (fun j => τ 4 (j + 1)) 15 := e
          omega
        exact seg4 t (m + 1) τ h1 h2 h3 h4 (by omega) hm (by rw [eT]; exact V_lt hwt 4 (m + 1)) c_155 5 0 (τ 4 0) (by omega) (hwt 4 0) (nbeg hodd)
      · refine J_aload_n C d_D_split_158 0 rfl rfl ?_
        refine J_dup C d_D_split_159 rfl ?_
        refine J_get_many C d_D_split_160 ?_
        refine J_iconst C d_D_split_163 1 (by decide) ?_
        refine J_isub C d_D_split_164 (by omega) ?_
        refine J_put_many C d_D_split_165 ?_
        refine J_goto C d_D_split_168 (tgt := 144) (by decide) ?_
        refine ih (by omega) (fun j a1 a2 => ?_)
        rcases Nat.lt_or_ge j (m + 1) with q | q
        · rw [show j = m by omega]; exact c_155
        · exact hz j q a2
  have seg2 : ∀ t, t < 512 → V (σ 0) 16 % 2 ^ t = 0 → V (σ 0) 16 / 2 ^ t % 2 = 1 → ∀ d i τ, i + d = 16 → (∀ q, q ≠ 4 → τ q = σ q) →
      (∀ j, j < i → τ 4 j = ((if j + t / 32 < 16 then σ 0 (j + t / 32) else 0) + (if j + t / 32 + 1 < 16 then σ 0 (j + t / 32 + 1) else 0) * 4294967296) / 2 ^ (t % 32) % 4294967296) →
      J X 59 [(0, .ref (ex (xE X))), (1, .int (nI (t / 32))), (2, .int (nI (t % 32))), (3, .int (nI i))] [] τ mn iv t := by
    intro t ht h1 h2 d
    induction d with
    | zero =>
      intro i τ hi g1 g2
      obtain rfl : i = 16 := by omega
      have eV : V (τ 4) 16 = V (σ 0) 16 / 2 ^ t := by
        have e := shiftV (f := fun j => if j < 16 then σ 0 j else 0) (g := τ 4) (q := t / 32) (r := t % 32) (by omega) (fun j => by split; exact hw0 0 j; decide) (fun j hj => if_neg (by omega)) g2
        rw [show 32 * (t / 32) + t % 32 = t by omega] at e
        rw [e, V, vl_congr (f := fun j => if j < 16 then σ 0 j else 0) (g := σ 0) (fun j hj => if_pos hj)]
      refine J_iload_n C d_D_split_59 3 rfl rfl ?_
      refine J_bipush C d_D_split_60 16 (by decide) ?_
      refine J_icmp_ge C d_D_split_62 (tgt := 138) (by decide) (by omega) (by omega) (fun c_62 => ?_) (fun c_62 => ?_)
      · refine J_aload_n C d_D_split_138 0 rfl rfl ?_
        refine J_bipush C d_D_split_139 16 (by decide) ?_
        refine J_put_many C d_D_split_141 ?_
        refine J_sub [0] rfl ?_
        refine seg3 t τ ht g1 ?_ (by rw [eV]; exact h2) 16 (Nat.le_refl 16) (fun j a1 a2 => by omega)
        rw [eV]
        have := Nat.div_add_mod (V (σ 0) 16) (2 ^ t)
        rw [h1, Nat.mul_comm] at this
        exact this
      · omega
    | succ d ih =>
      intro i τ hi g1 g2
      refine J_wb (fun hwb => ?_)
      have seg : ∀ a b, a < 4294967296 → b < 4294967296 → a = (if i + t / 32 < 16 then σ 0 (i + t / 32) else 0) → b = (if i + t / 32 + 1 < 16 then σ 0 (i + t / 32 + 1) else 0) →
          J X 118 [(0, .ref (ex (xE X))), (1, .int (nI (t / 32))), (2, .int (nI (t % 32))), (3, .int (nI i))] [.long (lN (b * 4294967296)), .long (lN a)] τ mn iv t := by
        intro a b ha hb ea eb
        refine J_lor C d_D_split_118 ha hb ?_
        refine J_lstore (lv' := [(0, _), (1, _), (2, _), (3, _), (4, _)]) C d_D_split_119 (by decide) rfl rfl ?_
        refine J_aload_n C d_D_split_121 0 rfl rfl ?_
        refine J_get_odd C d_D_split_122 ?_
        refine J_iload_n C d_D_split_125 3 rfl rfl ?_
        refine J_lload C d_D_split_126 rfl ?_
        refine J_iload_n C d_D_split_128 2 rfl rfl ?_
        refine J_lushr C d_D_split_129 _ rfl (by omega) (by omega) ?_
        refine J_l2i C d_D_split_130 ?_
        refine J_iastore C d_D_split_131 (by decide) (by show _ < 16; omega) ?_
        refine J_iinc (lv' := [(0, _), (1, _), (2, _), (3, _), (4, _)]) C d_D_split_132 rfl (inc1 _) (by decide) rfl rfl ?_
        refine J_goto C d_D_split_135 (tgt := 59) (by decide) ?_
        refine J_sub [0, 1, 2, 3] rfl ?_
        refine ih (i + 1) _ (by omega) (fun q hq => by rw [up_n hq]; exact g1 q hq) (fun j hj => ?_)
        rw [up_s]
        rcases Nat.lt_or_ge j i with q | q
        · rw [uf_n (by omega)]; exact g2 j q
        · rw [show j = i by omega, uf_s, ea, eb]
      refine J_iload_n C d_D_split_59 3 rfl rfl ?_
      refine J_bipush C d_D_split_60 16 (by decide) ?_
      refine J_icmp_ge C d_D_split_62 (tgt := 138) (by decide) (by omega) (by omega) (fun c_62 => ?_) (fun c_62 => ?_)
      · omega
      · refine J_iload_n C d_D_split_65 3 rfl rfl ?_
        refine J_iload_n C d_D_split_66 1 rfl rfl ?_
        refine J_iadd C d_D_split_67 ?_
        refine J_bipush C d_D_split_68 16 (by decide) ?_
        refine J_icmp_ge C d_D_split_70 (tgt := 89) (by decide) (by omega) (by omega) (fun c_70 => ?_) (fun c_70 => ?_)
        · refine J_lconst C d_D_split_89 0 rfl ?_
          refine J_iload_n C d_D_split_90 3 rfl rfl ?_
          refine J_iload_n C d_D_split_91 1 rfl rfl ?_
          refine J_iadd C d_D_split_92 ?_
          refine J_iconst C d_D_split_93 1 (by decide) ?_
          refine J_iadd C d_D_split_94 ?_
          refine J_bipush C d_D_split_95 16 (by decide) ?_
          refine J_icmp_ge C d_D_split_97 (tgt := 117) (by decide) (by omega) (by omega) (fun c_97 => ?_) (fun c_97 => ?_)
          · refine J_lconst C d_D_split_117 0 rfl ?_
            have h := seg 0 0 (by decide) (by decide) (if_neg (by omega)).symm (if_neg (by omega)).symm
            rw [Nat.zero_mul] at h
            exact h
          · refine J_aload_n C d_D_split_100 0 rfl rfl ?_
            refine J_get_modulus C d_D_split_101 ?_
            refine J_iload_n C d_D_split_104 3 rfl rfl ?_
            refine J_iload_n C d_D_split_105 1 rfl rfl ?_
            refine J_iadd C d_D_split_106 ?_
            refine J_iconst C d_D_split_107 1 (by decide) ?_
            refine J_iadd C d_D_split_108 ?_
            refine J_iaload C d_D_split_109 (by decide) (by show _ < 16; omega) ?_
            refine J_hi C d_D_split_110 d_D_split_111 d_D_split_113 (by first | exact hwb _ _ | omega) ?_
            refine J_goto C d_D_split_114 (tgt := 118) (by decide) ?_
            omega
        · refine J_aload_n C d_D_split_73 0 rfl rfl ?_
          refine J_get_modulus C d_D_split_74 ?_
          refine J_iload_n C d_D_split_77 3 rfl rfl ?_
          refine J_iload_n C d_D_split_78 1 rfl rfl ?_
          refine J_iadd C d_D_split_79 ?_
          refine J_iaload C d_D_split_80 (by decide) (by show _ < 16; omega) ?_
          refine J_word C d_D_split_81 d_D_split_82 d_D_split_85 (by first | exact hwb _ _ | omega) ?_
          refine J_goto C d_D_split_86 (tgt := 90) (by decide) ?_
          refine J_iload_n C d_D_split_90 3 rfl rfl ?_
          refine J_iload_n C d_D_split_91 1 rfl rfl ?_
          refine J_iadd C d_D_split_92 ?_
          refine J_iconst C d_D_split_93 1 (by decide) ?_
          refine J_iadd C d_D_split_94 ?_
          refine J_bipush C d_D_split_95 16 (by decide) ?_
          refine J_icmp_ge C d_D_split_97 (tgt := 117) (by decide) (by omega) (by omega) (fun c_97 => ?_) (fun c_97 => ?_)
          · refine J_lconst C d_D_split_117 0 rfl ?_
            have h := seg (τ 0 (i + t / 32)) 0 (hwb _ _) (by decide) (by rw [if_pos c_70, g1 0 (by decide)]) (if_neg (by omega)).symm
            rw [Nat.zero_mul] at h
            exact h
          · refine J_aload_n C d_D_split_100 0 rfl rfl ?_
            refine J_get_modulus C d_D_split_101 ?_
            refine J_iload_n C d_D_split_104 3 rfl rfl ?_
            refine J_iload_n C d_D_split_105 1 rfl rfl ?_
            refine J_iadd C d_D_split_106 ?_
            refine J_iconst C d_D_split_107 1 (by decide) ?_
            refine J_iadd C d_D_split_108 ?_
            refine J_iaload C d_D_split_109 (by decide) (by show _ < 16; omega) ?_
            refine J_hi C d_D_split_110 d_D_split_111 d_D_split_113 (by first | exact hwb _ _ | omega) ?_
            refine J_goto C d_D_split_114 (tgt := 118) (by decide) ?_
            exact seg (τ 0 (i + t / 32)) (τ 0 (i + t / 32 + 1)) (hwb _ _) (hwb _ _) (by rw [if_pos c_70, g1 0 (by decide)]) (by rw [if_pos c_97, g1 0 (by decide)])
  have seg1 : ∀ d t, t + d = 512 → V (σ 0) 16 % 2 ^ t = 0 → J X 5 [(0, .ref (ex (xE X)))] [] σ mn iv t := by
    intro d
    induction d with
    | zero =>
      intro t ht h
      obtain rfl : t = 512 := by omega
      rw [Nat.mod_eq_of_lt hML] at h
      omega
    | succ d ih =>
      intro t ht h
      have e : V (σ 0) 16 / 2 ^ t % 2 = σ 0 (t / 32) / 2 ^ (t % 32) % 2 := bitV (w := 32) (by decide) (fun j => hw0 0 j) (by omega)
      have hwb := hw0
      have hlt : σ 0 (t / 32) / 2 ^ (t % 32) % 2 < 2 := Nat.mod_lt _ (by decide)
      refine J_aload_n C d_D_split_5 0 rfl rfl ?_
      refine J_get_modulus C d_D_split_6 ?_
      refine J_aload_n C d_D_split_9 0 rfl rfl ?_
      refine J_get_twos C d_D_split_10 ?_
      refine J_iconst C d_D_split_13 5 (by decide) ?_
      refine J_ishr C d_D_split_14 32 rfl (by omega) (by decide) ?_
      refine J_iaload C d_D_split_15 (by decide) (by show _ < 16; omega) ?_
      refine J_aload_n C d_D_split_16 0 rfl rfl ?_
      refine J_get_twos C d_D_split_17 ?_
      refine J_bipush C d_D_split_20 31 (by decide) ?_
      refine J_iand C d_D_split_22 5 32 rfl (by first | exact hwb _ _ | omega) (by decide) rfl ?_
      refine J_iushr C d_D_split_23 _ rfl (by first | exact hwb _ _ | omega) (by omega) ?_
      refine J_iconst C d_D_split_24 1 (by decide) ?_
      refine J_iand C d_D_split_25 1 2 rfl (Nat.lt_of_le_of_lt (Nat.div_le_self _ _) (hwb _ _)) (by decide) rfl ?_
      refine J_ifne C d_D_split_26 (tgt := 42) (by decide) (by first | exact hwb _ _ | omega) (fun c_26 => ?_) (fun c_26 => ?_)
      · refine J_aload_n C d_D_split_42 0 rfl rfl ?_
        refine J_get_twos C d_D_split_43 ?_
        refine J_iconst C d_D_split_46 5 (by decide) ?_
        refine J_ishr C d_D_split_47 32 rfl (by omega) (by decide) ?_
        refine J_istore_n (lv' := [(0, _), (1, _)]) C d_D_split_48 1 rfl (by decide) rfl rfl ?_
        refine J_aload_n C d_D_split_49 0 rfl rfl ?_
        refine J_get_twos C d_D_split_50 ?_
        refine J_bipush C d_D_split_53 31 (by decide) ?_
        refine J_iand C d_D_split_55 5 32 rfl (by first | exact hwb _ _ | omega) (by decide) rfl ?_
        refine J_istore_n (lv' := [(0, _), (1, _), (2, _)]) C d_D_split_56 2 rfl (by decide) rfl rfl ?_
        refine J_iconst C d_D_split_57 0 (by decide) ?_
        refine J_istore_n (lv' := [(0, _), (1, _), (2, _), (3, _)]) C d_D_split_58 3 rfl (by decide) rfl rfl ?_
        exact seg2 t (by omega) h (by rw [e]; omega) 16 0 σ (by omega) (fun _ _ => rfl) (fun j hj => by omega)
      · refine J_aload_n C d_D_split_29 0 rfl rfl ?_
        refine J_dup C d_D_split_30 rfl ?_
        refine J_get_twos C d_D_split_31 ?_
        refine J_iconst C d_D_split_34 1 (by decide) ?_
        refine J_iadd C d_D_split_35 ?_
        refine J_put_twos C d_D_split_36 ?_
        refine J_goto C d_D_split_39 (tgt := 5) (by decide) ?_
        exact ih (t + 1) (by omega) (by rw [Nat.mod_pow_succ, h, e, c_26, Nat.mul_zero])
  refine J_aload_n C d_D_split_0 0 rfl rfl ?_
  refine J_iconst C d_D_split_1 0 (by decide) ?_
  refine J_put_twos C d_D_split_2 ?_
  exact seg1 512 0 (by omega) (Nat.mod_one _)
theorem c_split (l : Launch) (E : En) (A : Nat → Prop) (hM : 0 < V (σ 0) 16) : MF l y_D_split b_D_split 6 rm_D_split [.ref (ex E)] E A σ mn iv tw (fun u => (∀ q, q ≠ 4 → u.1 q = σ q) ∧ u.2.2.2 < 512 ∧ V (u.1 4) 16 * 2 ^ u.2.2.2 = V (σ 0) 16 ∧ V (u.1 4) 16 % 2 = 1 ∧ 1 ≤ u.2.1 ∧ u.2.1 ≤ 16 ∧ V (u.1 4) 16 < 4294967296 ^ u.2.1 ∧ u.1 4 (u.2.1 - 1) ≠ 0 ∧ u.2.2.1 ≤ 4294967296 ∧ (u.1 4 0 * u.2.2.1 + 1) % 4294967296 = 0) :=
  mk_f (by decide) (Nat.le_of_ble_eq_true rfl) (fun X C hR hE k => by subst hE; exact b_split C hM (fun u a b c h1 h2 h3 h4 h5 h6 h7 h8 h9 h10 => k (u, a, b, c) ⟨h1, h2, h3, h4, h5, h6, h7, h8, h9, h10⟩))
end SPLIT
end
section
/-! powers modulo the odd part -/
theorem odd_inv {O : Nat} (h : O % 2 = 1) (k : Nat) : ∃ I, 2 ^ k * I % O = 1 % O := by
  refine ⟨((O + 1) / 2) ^ k, ?_⟩
  rw [← Nat.mul_pow, show 2 * ((O + 1) / 2) = O + 1 by omega, Nat.pow_mod, Nat.add_mod_left, ← Nat.pow_mod, Nat.one_pow]
theorem odd_cancel {O x y k : Nat} (h : O % 2 = 1) (e : x * 2 ^ k % O = y * 2 ^ k % O) : x % O = y % O := by
  obtain ⟨I, hI⟩ := odd_inv h k
  have key : ∀ z, z * 2 ^ k * I % O = z % O := fun z => by
    rw [Nat.mul_assoc, Nat.mul_mod, hI, ← Nat.mul_mod, Nat.mul_one]
  rw [← key x, ← key y, Nat.mul_mod, e, ← Nat.mul_mod]
/-- x stands for y: it is y times R -/
def Mo (O R x y : Nat) : Prop := x < O ∧ x % O = y * R % O
theorem Mo_mul {O k a b r ya yb : Nat} (ho : O % 2 = 1) (ha : Mo O (2 ^ k) a ya) (hb : Mo O (2 ^ k) b yb) (hr : r < O) (e : r * 2 ^ k % O = a * b % O) : Mo O (2 ^ k) r (ya * yb) := by
  refine ⟨hr, odd_cancel (k := k) ho ?_⟩
  rw [e, Nat.mul_mod, ha.2, hb.2, ← Nat.mul_mod]
  congr 1
  grind
theorem pR (m : Nat) : 4294967296 ^ m = 2 ^ (32 * m) := (Nat.pow_mul 2 32 m).symm
/-- some bits of a number are bits of one of its words -/
theorem chunkV {w c : Nat} {f : Nat → Nat} {n t : Nat} (hw : 0 < w) (hc : t % w + c ≤ w) (hf : ∀ j, f j < 2 ^ w) (ht : t / w < n) : vl (2 ^ w) f n / 2 ^ t % 2 ^ c = f (t / w) / 2 ^ (t % w) % 2 ^ c := by
  have e : 2 ^ t = (2 ^ w) ^ (t / w) * 2 ^ (t % w) := by
    rw [← Nat.pow_mul, ← Nat.pow_add, Nat.div_add_mod]
  obtain ⟨d, hd⟩ : ∃ d, n - t / w = d + 1 := ⟨n - t / w - 1, by omega⟩
  rw [e, ← Nat.div_div_eq_div_mul, vl_div (fun j _ => hf j) (by omega), hd, vl_head]
  have e2 : 2 ^ w = 2 ^ (t % w) * (2 ^ c * 2 ^ (w - t % w - c)) := by
    rw [← Nat.pow_add, ← Nat.pow_add]
    congr 1
    omega
  have hp : 0 < 2 ^ (t % w) := Nat.two_pow_pos _
  rw [show 2 ^ w * vl (2 ^ w) (fun j => f (t / w + (j + 1))) d = 2 ^ (t % w) * (2 ^ c * (2 ^ (w - t % w - c) * vl (2 ^ w) (fun j => f (t / w + (j + 1))) d)) by rw [← Nat.mul_assoc (2 ^ c), ← Nat.mul_assoc, ← e2], Nat.add_mul_div_left _ _ hp, Nat.add_mul_mod_self_left]
  rfl
theorem nibV {f : Nat → Nat} {n : Nat} (hf : ∀ j, f j < 4294967296) (hn : n < 128) : V f 16 / 16 ^ n % 16 = f (n / 8) / 2 ^ (4 * (n % 8)) % 16 := by
  have h := chunkV (w := 32) (c := 4) (f := f) (n := 16) (t := 4 * n) (by decide) (by omega) hf (by omega)
  rw [show 4 * n / 32 = n / 8 by omega, show 4 * n % 32 = 4 * (n % 8) by omega, Nat.pow_mul] at h
  exact h
theorem V_one {f : Nat → Nat} {v n : Nat} (h : ∀ j, j < n + 1 → f j = 0) : V (uf f 0 v) (n + 1) = v := by
  have e := vl_uf (b := 4294967296) (f := f) (p := 0) (v := v) (n := n + 1) (by omega)
  rw [h 0 (by omega), vl_zero h, Nat.pow_zero] at e
  unfold V
  omega
theorem ln_w {i : Nat} (h : i < 16) : ln (13 + i) = 16 := by
  unfold ln
  rw [if_neg (by omega), if_neg (by omega), if_neg (by omega), if_neg (by omega), if_neg (by omega)]
/-- the arrays that powerOfOdd keeps -/
def kp (q : Nat) : Prop := q = 0 ∨ q = 1 ∨ q = 2 ∨ q = 4 ∨ q = 5 ∨ q = 10 ∨ 29 ≤ q
section POWODD
variable {X : Ctx} {σ : Nat → Nat → Nat} {mn iv tw : Nat}
set_option maxHeartbeats 1000000 in
theorem b_powerOfOdd (C : Cx X b_D_powerOfOdd 3 R_D) (hR : xR X = rm_D_powerOfOdd) (hm1 : 1 ≤ mn) (hm : mn ≤ 16) (hO : V (σ 4) 16 < 4294967296 ^ mn) (ho : V (σ 4) 16 % 2 = 1) (ho1 : V (σ 4) 16 ≠ 1) (hiv : (σ 4 0 * iv + 1) % 4294967296 = 0)
    (k : ∀ u, (∀ q, kp q → u q = σ q) → V (u 3) 16 = V (σ 1) 16 ^ V (σ 2) 16 % V (σ 4) 16 → Ret X b_D_powerOfOdd .return_ [] u mn iv tw) :
    J X 0 [(0, .ref (ex (xE X)))] [] σ mn iv tw := by
  refine J_wb (fun hw0 => ?_)
  have hO1 : 1 < V (σ 4) 16 := by omega
  -- one product
  have tg : ∀ {τ : Nat → Nat → Nat} {ka kb kt ya yb : Nat}, (∀ q, kp q → τ q = σ q) → Mo (V (σ 4) 16) (2 ^ (32 * mn)) (V (τ ka) 16) ya → Mo (V (σ 4) 16) (2 ^ (32 * mn)) (V (τ kb) 16) yb → ka < 35 → kb < 35 → kt < 35 → 16 ≤ ln ka → 16 ≤ ln kb → ln kt = 16 → ka ≠ 12 → kb ≠ 12 → kt ≠ 12 → kt ≠ 4 →
      MV (xl X) y_D_together b_D_together 12 rm_D_together [.ref (ex (xE X)), .ref (ea (xE X) ka), .ref (ea (xE X) kb), .ref (ea (xE X) kt)] (xE X) (xA X) τ mn iv tw (fun u => (∀ q, q ≠ kt → q ≠ 12 → u q = τ q) ∧ V (u kt) 16 < V (τ 4) 16 ∧ V (u kt) 16 * 4294967296 ^ mn % V (τ 4) 16 = V (τ ka) 16 * V (τ kb) 16 % V (τ 4) 16) := by
    intro τ ka kb kt ya yb hk ma mb h1 h2 h3 h4 h5 h6 h7 h8 h9 h10
    have e4 : τ 4 = σ 4 := hk 4 (by unfold kp; omega)
    exact c_together (xl X) (xE X) (xA X) h1 h2 h3 h4 h5 h6 h7 h8 h9 h10 hm1 hm (by rw [e4]; exact hO) (by rw [e4]; exact hiv) (Nat.lt_trans ma.1 hO) (by rw [e4]; exact mb.1)
  have tgo : ∀ {τ u : Nat → Nat → Nat} {ka kb kt ya yb : Nat}, (∀ q, kp q → τ q = σ q) → Mo (V (σ 4) 16) (2 ^ (32 * mn)) (V (τ ka) 16) ya → Mo (V (σ 4) 16) (2 ^ (32 * mn)) (V (τ kb) 16) yb → ((∀ q, q ≠ kt → q ≠ 12 → u q = τ q) ∧ V (u kt) 16 < V (τ 4) 16 ∧ V (u kt) 16 * 4294967296 ^ mn % V (τ 4) 16 = V (τ ka) 16 * V (τ kb) 16 % V (τ 4) 16) → Mo (V (σ 4) 16) (2 ^ (32 * mn)) (V (u kt) 16) (ya * yb) := by
    intro τ u ka kb kt ya yb hk ma mb ⟨g1, g2, g3⟩
    rw [hk 4 (by unfold kp; omega)] at g2 g3
    rw [pR] at g3
    exact Mo_mul ho ma mb g2 g3
  have segF : ∀ τ, (∀ q, kp q → τ q = σ q) → Mo (V (σ 4) 16) (2 ^ (32 * mn)) (V (τ 9) 16) (V (σ 1) 16 ^ V (σ 2) 16) → ∀ lv, lvg lv 0 = some (.ref (ex (xE X))) → J X 289 lv [] τ mn iv tw := by
    intro τ hk h9 lv l0
    have e4 : τ 4 = σ 4 := hk 4 (by unfold kp; omega)
    refine J_aload_n C d_D_powerOfOdd_289 0 rfl l0 ?_
    refine J_get_plain C d_D_powerOfOdd_290 ?_
    refine J_iconst C d_D_powerOfOdd_293 0 (by decide) ?_
    refine J_callSv C d_D_powerOfOdd_294 (c_fill2 (σ := τ) (xl X) (xE X) (xA X) (ka := 11) (v := 0) (by decide) (by decide)) ⟨⟨ml_D_122, ini_A, mc_A_fill2⟩, co_A_fill2, ⟨rfl, rfl⟩, by rw [hR]; decide⟩ st_A_fill2 rfl (by decide) (fun s294 h294 => ?_)
    refine J_wb (fun hwb => ?_)
    obtain ⟨g1, g2, g3⟩ := h294
    refine J_aload_n C d_D_powerOfOdd_297 0 rfl l0 ?_
    refine J_get_plain C d_D_powerOfOdd_298 ?_
    refine J_iconst C d_D_powerOfOdd_301 0 (by decide) ?_
    refine J_iconst C d_D_powerOfOdd_302 1 (by decide) ?_
    refine J_iastore C d_D_powerOfOdd_303 (by decide) (by show _ < 16; omega) ?_
    refine J_wb (fun hwb => ?_)
    have e11 : V ((up s294 11 (uf (s294 11) 0 (1 % 4294967296))) 11) 16 = 1 := by rw [up_s]; exact V_one (n := 15) (fun j hj => g2 j hj)
    have k4 : (up s294 11 (uf (s294 11) 0 (1 % 4294967296))) 4 = σ 4 := by rw [up_n (by decide), g1 4 (by decide), e4]
    have k9 : (up s294 11 (uf (s294 11) 0 (1 % 4294967296))) 9 = τ 9 := by rw [up_n (by decide), g1 9 (by decide)]
    have kk : ∀ q, kp q → (up s294 11 (uf (s294 11) 0 (1 % 4294967296))) q = σ q := fun q hq => by unfold kp at hq; rw [up_n (by omega), g1 q (by omega)]; exact hk q (by unfold kp; exact hq)
    generalize (up s294 11 (uf (s294 11) 0 (1 % 4294967296))) = ρ at e11 k4 k9 kk hwb ⊢
    refine J_aload_n C d_D_powerOfOdd_304 0 rfl l0 ?_
    refine J_aload_n C d_D_powerOfOdd_305 0 rfl l0 ?_
    refine J_get_low C d_D_powerOfOdd_306 ?_
    refine J_aload_n C d_D_powerOfOdd_309 0 rfl l0 ?_
    refine J_get_plain C d_D_powerOfOdd_310 ?_
    refine J_aload_n C d_D_powerOfOdd_313 0 rfl l0 ?_
    refine J_get_answer C d_D_powerOfOdd_314 ?_
    refine J_callVv R_D (ex (xE X)) C (fun _ _ => recvD C) d_D_powerOfOdd_317 (c_together (σ := ρ) (xl X) (xE X) (xA X) (ka := 9) (kb := 11) (kt := 3) (by decide) (by decide) (by decide) (by decide) (by decide) rfl (by decide) (by decide) (by decide) (by decide) hm1 hm (by rw [k4]; exact hO) (by rw [k4]; exact hiv) (by rw [k9]; exact Nat.lt_trans h9.1 hO) (by rw [k4, e11]; exact hO1)) ⟨⟨ml_D_131, ini_D, mc_D_together⟩, co_D_together, ⟨rfl, rfl⟩, by rw [hR]; decide⟩ im_D_together se_D_together rfl (by decide) (fun s317 h317 => ?_)
    refine J_wb (fun hwb => ?_)
    obtain ⟨f1, f2, f3⟩ := h317
    refine k s317 (fun q hq => by have hq' := hq; unfold kp at hq'; rw [f1 q (by omega) (by omega)]; exact kk q hq) ?_ _ _ d_D_powerOfOdd_320
    rw [k4, k9, e11, Nat.mul_one, h9.2, pR] at f3
    rw [k4] at f2
    rw [← odd_cancel ho f3]
    exact (Nat.mod_eq_of_lt f2).symm
  have loopD : ∀ n, n ≤ 128 → ∀ τ, (∀ q, kp q → τ q = σ q) → (∀ i, i < 16 → Mo (V (σ 4) 16) (2 ^ (32 * mn)) (V (τ (13 + i)) 16) (V (σ 1) 16 ^ i)) → Mo (V (σ 4) 16) (2 ^ (32 * mn)) (V (τ 9) 16) (V (σ 1) 16 ^ (V (σ 2) 16 / 16 ^ n)) →
      J X 215 [(0, .ref (ex (xE X))), (1, .int (nI n + (-1)))] [] τ mn iv tw := by
    intro n
    induction n with
    | zero =>
      intro _ τ hk hwin h9
      rw [m1_0]
      refine J_iload_n C d_D_powerOfOdd_215 1 rfl rfl ?_
      refine J_iflt C d_D_powerOfOdd_216 (tgt := 289) (by decide) (by first | exact hwb _ _ | omega) (fun c_216 => ?_) (fun c_216 => ?_)
      · exact segF τ hk (by rw [Nat.pow_zero, Nat.div_one] at h9; exact h9) _ rfl
      · omega
    | succ n ih =>
      intro hn τ hk hwin h9
      rw [pk_m1]
      have loopE : ∀ d i τ, i + d = 4 → (∀ q, kp q → τ q = σ q) → (∀ i, i < 16 → Mo (V (σ 4) 16) (2 ^ (32 * mn)) (V (τ (13 + i)) 16) (V (σ 1) 16 ^ i)) → Mo (V (σ 4) 16) (2 ^ (32 * mn)) (V (τ 9) 16) ((V (σ 1) 16 ^ (V (σ 2) 16 / 16 ^ (n + 1))) ^ (2 ^ i)) →
          J X 221 [(0, .ref (ex (xE X))), (1, .int (nI n)), (2, .int (nI i))] [] τ mn iv tw := by
        intro d
        induction d with
        | zero =>
          intro i τ hi hk hwin h9
          obtain rfl : i = 4 := by omega
          refine J_wb (fun hwb => ?_)
          have e2 : τ 2 = σ 2 := hk 2 (by unfold kp; omega)
          have hd := nibV (f := τ 2) (n := n) (fun j => hwb 2 j) (by omega)
          have hd16 : τ 2 (n / 8) / 2 ^ (4 * (n % 8)) % 16 < 16 := Nat.mod_lt _ (by decide)
          generalize hdd : τ 2 (n / 8) / 2 ^ (4 * (n % 8)) % 16 = dd at hd hd16
          have hlw := ln_w hd16
          refine J_iload_n C d_D_powerOfOdd_221 2 rfl rfl ?_
          refine J_iconst C d_D_powerOfOdd_222 4 (by decide) ?_
          refine J_icmp_ge C d_D_powerOfOdd_223 (tgt := 248) (by decide) (by omega) (by omega) (fun c_223 => ?_) (fun c_223 => ?_)
          · refine J_aload_n C d_D_powerOfOdd_248 0 rfl rfl ?_
            refine J_aload_n C d_D_powerOfOdd_249 0 rfl rfl ?_
            refine J_get_low C d_D_powerOfOdd_250 ?_
            refine J_aload_n C d_D_powerOfOdd_253 0 rfl rfl ?_
            refine J_get_window C d_D_powerOfOdd_254 ?_
            refine J_aload_n C d_D_powerOfOdd_257 0 rfl rfl ?_
            refine J_get_power C d_D_powerOfOdd_258 ?_
            refine J_iload_n C d_D_powerOfOdd_261 1 rfl rfl ?_
            refine J_iconst C d_D_powerOfOdd_262 3 (by decide) ?_
            refine J_ishr C d_D_powerOfOdd_263 8 rfl (by omega) (by decide) ?_
            refine J_iaload C d_D_powerOfOdd_264 (by decide) (by show _ < 16; omega) ?_
            refine J_iconst C d_D_powerOfOdd_265 4 (by decide) ?_
            refine J_iload_n C d_D_powerOfOdd_266 1 rfl rfl ?_
            refine J_bipush C d_D_powerOfOdd_267 7 (by decide) ?_
            refine J_iand C d_D_powerOfOdd_269 3 8 rfl (by first | exact hwb _ _ | omega) (by decide) rfl ?_
            refine J_imul C d_D_powerOfOdd_270 ?_
            refine J_iushr C d_D_powerOfOdd_271 _ rfl (by first | exact hwb _ _ | omega) (by omega) ?_
            refine J_bipush C d_D_powerOfOdd_272 15 (by decide) ?_
            refine J_iand C d_D_powerOfOdd_274 4 16 rfl (Nat.lt_of_le_of_lt (Nat.div_le_self _ _) (hwb _ _)) (by decide) rfl ?_
            rw [hdd]
            refine J_aaload C d_D_powerOfOdd_275 (by omega) ?_
            refine J_aload_n C d_D_powerOfOdd_276 0 rfl rfl ?_
            refine J_get_low C d_D_powerOfOdd_277 ?_
            refine J_callVv R_D (ex (xE X)) C (fun _ _ => recvD C) d_D_powerOfOdd_280 (tg (ka := 9) (kb := 13 + dd) (kt := 9) hk h9 (hwin dd hd16) (by decide) (by omega) (by decide) (by decide) (by omega) rfl (by decide) (by omega) (by decide) (by decide)) ⟨⟨ml_D_131, ini_D, mc_D_together⟩, co_D_together, ⟨rfl, rfl⟩, by rw [hR]; decide⟩ im_D_together se_D_together rfl (by decide) (fun s280 h280 => ?_)
            refine J_wb (fun hwb => ?_)
            have m9 := tgo hk h9 (hwin dd hd16) h280
            refine J_iinc (lv' := [(0, _), (1, _), (2, _)]) C d_D_powerOfOdd_283 rfl (dec1 _) (by decide) rfl rfl ?_
            refine J_goto C d_D_powerOfOdd_286 (tgt := 215) (by decide) ?_
            obtain ⟨f1, -, -⟩ := h280
            refine J_sub [0, 1] rfl ?_
            refine ih (by omega) s280 (fun q hq => by have hq' := hq; unfold kp at hq'; rw [f1 q (by omega) (by omega)]; exact hk q hq) (fun i hi => by rw [f1 _ (by omega) (by omega)]; exact hwin i hi) ?_
            have ee : (V (σ 1) 16 ^ (V (σ 2) 16 / 16 ^ (n + 1))) ^ 2 ^ 4 * V (σ 1) 16 ^ dd = V (σ 1) 16 ^ (V (σ 2) 16 / 16 ^ n) := by
              rw [← Nat.pow_mul, ← Nat.pow_add, Nat.pow_succ, ← Nat.div_div_eq_div_mul, ← hd, e2]
              congr 1
              omega
            rw [ee] at m9
            exact m9
          · omega
        | succ d ihd =>
          intro i τ hi hk hwin h9
          refine J_iload_n C d_D_powerOfOdd_221 2 rfl rfl ?_
          refine J_iconst C d_D_powerOfOdd_222 4 (by decide) ?_
          refine J_icmp_ge C d_D_powerOfOdd_223 (tgt := 248) (by decide) (by omega) (by omega) (fun c_223 => ?_) (fun c_223 => ?_)
          · omega
          · refine J_aload_n C d_D_powerOfOdd_226 0 rfl rfl ?_
            refine J_aload_n C d_D_powerOfOdd_227 0 rfl rfl ?_
            refine J_get_low C d_D_powerOfOdd_228 ?_
            refine J_aload_n C d_D_powerOfOdd_231 0 rfl rfl ?_
            refine J_get_low C d_D_powerOfOdd_232 ?_
            refine J_aload_n C d_D_powerOfOdd_235 0 rfl rfl ?_
            refine J_get_low C d_D_powerOfOdd_236 ?_
            refine J_callVv R_D (ex (xE X)) C (fun _ _ => recvD C) d_D_powerOfOdd_239 (tg (ka := 9) (kb := 9) (kt := 9) hk h9 h9 (by decide) (by decide) (by decide) (by decide) (by decide) rfl (by decide) (by decide) (by decide) (by decide)) ⟨⟨ml_D_131, ini_D, mc_D_together⟩, co_D_together, ⟨rfl, rfl⟩, by rw [hR]; decide⟩ im_D_together se_D_together rfl (by decide) (fun s239 h239 => ?_)
            refine J_wb (fun hwb => ?_)
            have m9 := tgo hk h9 h9 h239
            refine J_iinc (lv' := [(0, _), (1, _), (2, _)]) C d_D_powerOfOdd_242 rfl (inc1 _) (by decide) rfl rfl ?_
            refine J_goto C d_D_powerOfOdd_245 (tgt := 221) (by decide) ?_
            obtain ⟨f1, -, -⟩ := h239
            refine ihd (i + 1) s239 (by omega) (fun q hq => by have hq' := hq; unfold kp at hq'; rw [f1 q (by omega) (by omega)]; exact hk q hq) (fun i hi => by rw [f1 _ (by omega) (by omega)]; exact hwin i hi) ?_
            rw [← Nat.pow_add, show 2 ^ i + 2 ^ i = 2 ^ (i + 1) by rw [Nat.pow_succ]; omega] at m9
            exact m9
      refine J_iload_n C d_D_powerOfOdd_215 1 rfl rfl ?_
      refine J_iflt C d_D_powerOfOdd_216 (tgt := 289) (by decide) (by first | exact hwb _ _ | omega) (fun c_216 => ?_) (fun c_216 => ?_)
      · omega
      · refine J_iconst C d_D_powerOfOdd_219 0 (by decide) ?_
        refine J_istore_n (lv' := [(0, _), (1, _), (2, _)]) C d_D_powerOfOdd_220 2 rfl (by decide) rfl rfl ?_
        exact loopE 4 0 τ (by omega) hk hwin (by rw [Nat.pow_zero, Nat.pow_one]; exact h9)
  have loopC : ∀ d i τ, i + d = 16 → 2 ≤ i → (∀ q, kp q → τ q = σ q) → (∀ j, j < i → Mo (V (σ 4) 16) (2 ^ (32 * mn)) (V (τ (13 + j)) 16) (V (σ 1) 16 ^ j)) → V (τ 7) 16 = 2 ^ (32 * mn) % V (σ 4) 16 →
      J X 153 [(0, .ref (ex (xE X))), (1, .int (nI i))] [] τ mn iv tw := by
    intro d
    induction d with
    | zero =>
      intro i τ hi h2 hk hwin h7
      obtain rfl : i = 16 := by omega
      refine J_iload_n C d_D_powerOfOdd_153 1 rfl rfl ?_
      refine J_bipush C d_D_powerOfOdd_154 16 (by decide) ?_
      refine J_icmp_ge C d_D_powerOfOdd_156 (tgt := 189) (by decide) (by omega) (by omega) (fun c_156 => ?_) (fun c_156 => ?_)
      · refine J_aload_n C d_D_powerOfOdd_189 0 rfl rfl ?_
        refine J_get_one C d_D_powerOfOdd_190 ?_
        refine J_iconst C d_D_powerOfOdd_193 0 (by decide) ?_
        refine J_aload_n C d_D_powerOfOdd_194 0 rfl rfl ?_
        refine J_get_low C d_D_powerOfOdd_195 ?_
        refine J_iconst C d_D_powerOfOdd_198 0 (by decide) ?_
        refine J_bipush C d_D_powerOfOdd_199 16 (by decide) ?_
        refine J_copy C d_D_powerOfOdd_201 (by decide) (by decide) (by show _ ≤ 16; omega) (by show _ ≤ 16; omega) (by rw [hR]; decide) (by rw [hR]; decide) ?_
        refine J_wb (fun hwb => ?_)
        refine J_aload_n C d_D_powerOfOdd_204 0 rfl rfl ?_
        refine J_callVi R_D (ex (xE X)) C (fun _ _ => recvD C) d_D_powerOfOdd_205 (c_bits (xl X) (xE X) (xA X)) ⟨⟨ml_D_135, ini_D, mc_D_bits⟩, co_D_bits, ⟨rfl, rfl⟩, by rw [hR]; decide⟩ im_D_bits se_D_bits rfl (by decide) (fun n205 s205 h205 => ?_)
        refine J_wb (fun hwb => ?_)
        obtain ⟨hs, ht, hP⟩ := h205
        obtain rfl := hs
        refine J_iconst C d_D_powerOfOdd_208 3 (by decide) ?_
        refine J_iadd C d_D_powerOfOdd_209 ?_
        refine J_iconst C d_D_powerOfOdd_210 4 (by decide) ?_
        refine J_idiv C d_D_powerOfOdd_211 (by omega) (by decide) (by decide) ?_
        refine J_iconst C d_D_powerOfOdd_212 1 (by decide) ?_
        refine J_isub1 C d_D_powerOfOdd_213 ?_
        refine J_istore_n (lv' := [(0, _), (1, _)]) C d_D_powerOfOdd_214 1 rfl (by decide) rfl rfl ?_
        have e2 : (up τ 9 (va_cpy (τ 7) (τ 9) 0 0 16)) 2 = σ 2 := by rw [up_n (by decide)]; exact hk 2 (by unfold kp; omega)
        rw [e2] at hP
        refine loopD ((n205 + 3) / 4) (by omega) _ (fun q hq => by have hq' := hq; unfold kp at hq'; rw [up_n (by omega)]; exact hk q hq) (fun i hi => by rw [up_n (by omega)]; exact hwin i hi) ?_
        rw [up_s, V_cpy (Nat.le_refl 16), h7]
        have h0 : V (σ 2) 16 / 16 ^ ((n205 + 3) / 4) = 0 := by
          apply Nat.div_eq_of_lt
          rw [show (16 : Nat) = 2 ^ 4 from rfl, ← Nat.pow_mul]
          exact Nat.lt_of_lt_of_le hP (Nat.pow_le_pow_right (by decide) (by omega))
        rw [h0, Nat.pow_zero]
        exact ⟨Nat.mod_lt _ (by omega), by rw [Nat.mod_mod, Nat.one_mul]⟩
      · omega
    | succ d ih =>
      intro i τ hi h2 hk hwin h7
      have l1 := ln_w (i := i - 1) (by omega)
      have l2 := ln_w (i := i) (by omega)
      refine J_iload_n C d_D_powerOfOdd_153 1 rfl rfl ?_
      refine J_bipush C d_D_powerOfOdd_154 16 (by decide) ?_
      refine J_icmp_ge C d_D_powerOfOdd_156 (tgt := 189) (by decide) (by omega) (by omega) (fun c_156 => ?_) (fun c_156 => ?_)
      · omega
      · refine J_aload_n C d_D_powerOfOdd_159 0 rfl rfl ?_
        refine J_aload_n C d_D_powerOfOdd_160 0 rfl rfl ?_
        refine J_get_window C d_D_powerOfOdd_161 ?_
        refine J_iload_n C d_D_powerOfOdd_164 1 rfl rfl ?_
        refine J_iconst C d_D_powerOfOdd_165 1 (by decide) ?_
        refine J_isub C d_D_powerOfOdd_166 (by omega) ?_
        refine J_aaload C d_D_powerOfOdd_167 (by omega) ?_
        refine J_aload_n C d_D_powerOfOdd_168 0 rfl rfl ?_
        refine J_get_window C d_D_powerOfOdd_169 ?_
        refine J_iconst C d_D_powerOfOdd_172 1 (by decide) ?_
        refine J_aaload C d_D_powerOfOdd_173 (by omega) ?_
        refine J_aload_n C d_D_powerOfOdd_174 0 rfl rfl ?_
        refine J_get_window C d_D_powerOfOdd_175 ?_
        refine J_iload_n C d_D_powerOfOdd_178 1 rfl rfl ?_
        refine J_aaload C d_D_powerOfOdd_179 (by omega) ?_
        refine J_callVv R_D (ex (xE X)) C (fun _ _ => recvD C) d_D_powerOfOdd_180 (tg (ka := 13 + (i - 1)) (kb := 13 + 1) (kt := 13 + i) hk (hwin (i - 1) (by omega)) (hwin 1 (by omega)) (by omega) (by decide) (by omega) (by omega) (by decide) (by omega) (by omega) (by decide) (by omega) (by omega)) ⟨⟨ml_D_131, ini_D, mc_D_together⟩, co_D_together, ⟨rfl, rfl⟩, by rw [hR]; decide⟩ im_D_together se_D_together rfl (by decide) (fun s180 h180 => ?_)
        refine J_wb (fun hwb => ?_)
        have m9 := tgo hk (hwin (i - 1) (by omega)) (hwin 1 (by omega)) h180
        refine J_iinc (lv' := [(0, _), (1, _)]) C d_D_powerOfOdd_183 rfl (inc1 _) (by decide) rfl rfl ?_
        refine J_goto C d_D_powerOfOdd_186 (tgt := 153) (by decide) ?_
        obtain ⟨f1, -, -⟩ := h180
        refine ih (i + 1) s180 (by omega) (by omega) (fun q hq => by have hq' := hq; unfold kp at hq'; rw [f1 q (by omega) (by omega)]; exact hk q hq) (fun j hj => ?_) (by rw [f1 7 (by omega) (by decide)]; exact h7)
        rcases Nat.lt_or_ge j i with q | q
        · rw [f1 _ (by omega) (by omega)]; exact hwin j q
        · obtain rfl : j = i := by omega
          rw [← Nat.pow_add, show j - 1 + 1 = j by omega] at m9
          exact m9
  have segC : ∀ τ, (∀ q, kp q → τ q = σ q) → V (τ 7) 16 = 2 ^ (32 * mn) % V (σ 4) 16 → V (τ 8) 16 = 2 ^ (32 * mn) * 2 ^ (32 * mn) % V (σ 4) 16 → ∀ lv, lvg lv 0 = some (.ref (ex (xE X))) → lvc (lvF1 1) lv 1 = true → lvs lv 1 (.int (nI 2)) = [(0, .ref (ex (xE X))), (1, .int (nI 2))] → J X 84 lv [] τ mn iv tw := by
    intro τ hk h7 h8 lv l0 l1 l2
    have e4 : τ 4 = σ 4 := hk 4 (by unfold kp; omega)
    have e1 : τ 1 = σ 1 := hk 1 (by unfold kp; omega)
    refine J_aload_n C d_D_powerOfOdd_84 0 rfl l0 ?_
    refine J_get_base C d_D_powerOfOdd_85 ?_
    refine J_bipush C d_D_powerOfOdd_88 16 (by decide) ?_
    refine J_aload_n C d_D_powerOfOdd_90 0 rfl l0 ?_
    refine J_get_odd C d_D_powerOfOdd_91 ?_
    refine J_aload_n C d_D_powerOfOdd_94 0 rfl l0 ?_
    refine J_get_left C d_D_powerOfOdd_95 ?_
    refine J_callSv C d_D_powerOfOdd_98 (c_leave (σ := τ) (xl X) (xE X) (xA X) (ka := 1) (n := 16) (kb := 4) (kt := 6) (by decide) (by decide) (by decide) (by decide) (by decide) (by decide) (by decide) (by decide) (by decide) (by rw [e4]; omega)) ⟨⟨ml_D_74, ini_D, mc_D_leave⟩, co_D_leave, ⟨rfl, rfl⟩, by rw [hR]; decide⟩ st_D_leave rfl (by decide) (fun s98 h98 => ?_)
    refine J_wb (fun hwb => ?_)
    obtain ⟨g1, g2, g3⟩ := h98
    rw [e1, e4] at g3
    refine J_aload_n C d_D_powerOfOdd_101 0 rfl l0 ?_
    refine J_get_left C d_D_powerOfOdd_102 ?_
    refine J_iconst C d_D_powerOfOdd_105 0 (by decide) ?_
    refine J_aload_n C d_D_powerOfOdd_106 0 rfl l0 ?_
    refine J_get_plain C d_D_powerOfOdd_107 ?_
    refine J_iconst C d_D_powerOfOdd_110 0 (by decide) ?_
    refine J_bipush C d_D_powerOfOdd_111 16 (by decide) ?_
    refine J_copy C d_D_powerOfOdd_113 (by decide) (by decide) (by show _ ≤ 17; omega) (by show _ ≤ 16; omega) (by rw [hR]; decide) (by rw [hR]; decide) ?_
    refine J_wb (fun hwb => ?_)
    refine J_aload_n C d_D_powerOfOdd_116 0 rfl l0 ?_
    refine J_get_one C d_D_powerOfOdd_117 ?_
    refine J_iconst C d_D_powerOfOdd_120 0 (by decide) ?_
    refine J_aload_n C d_D_powerOfOdd_121 0 rfl l0 ?_
    refine J_get_window C d_D_powerOfOdd_122 ?_
    refine J_iconst C d_D_powerOfOdd_125 0 (by decide) ?_
    refine J_aaload C d_D_powerOfOdd_126 (by decide) ?_
    refine J_iconst C d_D_powerOfOdd_127 0 (by decide) ?_
    refine J_bipush C d_D_powerOfOdd_128 16 (by decide) ?_
    refine J_copy C d_D_powerOfOdd_130 (by decide) (by decide) (by show _ ≤ 16; omega) (by show _ ≤ 16; omega) (by rw [hR]; decide) (by rw [hR]; decide) ?_
    refine J_wb (fun hwb => ?_)
    have kk : ∀ q, kp q → (up (up s98 11 (va_cpy (s98 6) (s98 11) 0 0 16)) (13 + 0) (va_cpy ((up s98 11 (va_cpy (s98 6) (s98 11) 0 0 16)) 7) ((up s98 11 (va_cpy (s98 6) (s98 11) 0 0 16)) (13 + 0)) 0 0 16)) q = σ q := fun q hq => by have hq' := hq; unfold kp at hq'; rw [up_n (by omega), up_n (by omega), g1 q (by omega)]; exact hk q hq
    have q7 : (up (up s98 11 (va_cpy (s98 6) (s98 11) 0 0 16)) (13 + 0) (va_cpy ((up s98 11 (va_cpy (s98 6) (s98 11) 0 0 16)) 7) ((up s98 11 (va_cpy (s98 6) (s98 11) 0 0 16)) (13 + 0)) 0 0 16)) 7 = τ 7 := by rw [up_n (by decide), up_n (by decide), g1 7 (by decide)]
    have q8 : (up (up s98 11 (va_cpy (s98 6) (s98 11) 0 0 16)) (13 + 0) (va_cpy ((up s98 11 (va_cpy (s98 6) (s98 11) 0 0 16)) 7) ((up s98 11 (va_cpy (s98 6) (s98 11) 0 0 16)) (13 + 0)) 0 0 16)) 8 = τ 8 := by rw [up_n (by decide), up_n (by decide), g1 8 (by decide)]
    have q11 : V ((up (up s98 11 (va_cpy (s98 6) (s98 11) 0 0 16)) (13 + 0) (va_cpy ((up s98 11 (va_cpy (s98 6) (s98 11) 0 0 16)) 7) ((up s98 11 (va_cpy (s98 6) (s98 11) 0 0 16)) (13 + 0)) 0 0 16)) 11) 16 = V (σ 1) 16 % V (σ 4) 16 := by rw [up_n (by decide), up_s, V_cpy (Nat.le_refl 16), g3]
    have q13 : V ((up (up s98 11 (va_cpy (s98 6) (s98 11) 0 0 16)) (13 + 0) (va_cpy ((up s98 11 (va_cpy (s98 6) (s98 11) 0 0 16)) 7) ((up s98 11 (va_cpy (s98 6) (s98 11) 0 0 16)) (13 + 0)) 0 0 16)) 13) 16 = 2 ^ (32 * mn) % V (σ 4) 16 := by rw [show (13 : Nat) = 13 + 0 from rfl, up_s, V_cpy (Nat.le_refl 16), up_n (by decide), g1 7 (by decide), h7]
    generalize (up (up s98 11 (va_cpy (s98 6) (s98 11) 0 0 16)) (13 + 0) (va_cpy ((up s98 11 (va_cpy (s98 6) (s98 11) 0 0 16)) 7) ((up s98 11 (va_cpy (s98 6) (s98 11) 0 0 16)) (13 + 0)) 0 0 16)) = ρ at kk q7 q8 q11 q13 hwb ⊢
    have k4 : ρ 4 = σ 4 := kk 4 (by unfold kp; omega)
    refine J_aload_n C d_D_powerOfOdd_133 0 rfl l0 ?_
    refine J_aload_n C d_D_powerOfOdd_134 0 rfl l0 ?_
    refine J_get_plain C d_D_powerOfOdd_135 ?_
    refine J_aload_n C d_D_powerOfOdd_138 0 rfl l0 ?_
    refine J_get_square C d_D_powerOfOdd_139 ?_
    refine J_aload_n C d_D_powerOfOdd_142 0 rfl l0 ?_
    refine J_get_window C d_D_powerOfOdd_143 ?_
    refine J_iconst C d_D_powerOfOdd_146 1 (by decide) ?_
    refine J_aaload C d_D_powerOfOdd_147 (by decide) ?_
    refine J_callVv R_D (ex (xE X)) C (fun _ _ => recvD C) d_D_powerOfOdd_148 (c_together (σ := ρ) (xl X) (xE X) (xA X) (ka := 11) (kb := 8) (kt := 13 + 1) (by decide) (by decide) (by decide) (by decide) (by decide) rfl (by decide) (by decide) (by decide) (by decide) hm1 hm (by rw [k4]; exact hO) (by rw [k4]; exact hiv) (by rw [q11]; exact Nat.lt_trans (Nat.mod_lt _ (by omega)) hO) (by rw [k4, q8, h8]; exact Nat.mod_lt _ (by omega))) ⟨⟨ml_D_131, ini_D, mc_D_together⟩, co_D_together, ⟨rfl, rfl⟩, by rw [hR]; decide⟩ im_D_together se_D_together rfl (by decide) (fun s148 h148 => ?_)
    refine J_wb (fun hwb => ?_)
    refine J_iconst C d_D_powerOfOdd_151 2 (by decide) ?_
    refine J_istore_n (lv' := [(0, _), (1, _)]) C d_D_powerOfOdd_152 1 rfl (by decide) l1 l2 ?_
    obtain ⟨f1, f2, f3⟩ := h148
    rw [k4] at f2 f3
    rw [q11, q8, h8, pR] at f3
    refine loopC 14 2 s148 (by omega) (by omega) (fun q hq => by have hq' := hq; unfold kp at hq'; rw [f1 q (by omega) (by omega)]; exact kk q hq) (fun j hj => ?_) (by rw [f1 7 (by decide) (by decide), q7, h7])
    rcases (show j = 0 ∨ j = 1 by omega) with rfl | rfl
    · rw [f1 _ (by decide) (by decide), Nat.pow_zero, show 13 + 0 = 13 from rfl, q13]
      exact ⟨Nat.mod_lt _ (by omega), by rw [Nat.mod_mod, Nat.one_mul]⟩
    · refine ⟨f2, odd_cancel (k := 32 * mn) ho ?_⟩
      rw [f3, ← Nat.mul_mod, Nat.pow_one, Nat.mul_assoc]
  have loopB : ∀ d i τ, i + d = 32 * mn → (∀ q, kp q → τ q = σ q) → V (τ 7) 16 = 2 ^ (32 * mn) % V (σ 4) 16 → V (τ 8) 16 = 2 ^ (32 * mn) * 2 ^ i % V (σ 4) 16 →
      J X 59 [(0, .ref (ex (xE X))), (1, .int (nI i))] [] τ mn iv tw := by
    intro d
    induction d with
    | zero =>
      intro i τ hi hk h7 h8
      obtain rfl : i = 32 * mn := by omega
      refine J_iload_n C d_D_powerOfOdd_59 1 rfl rfl ?_
      refine J_bipush C d_D_powerOfOdd_60 32 (by decide) ?_
      refine J_aload_n C d_D_powerOfOdd_62 0 rfl rfl ?_
      refine J_get_many C d_D_powerOfOdd_63 ?_
      refine J_imul C d_D_powerOfOdd_66 ?_
      refine J_icmp_ge C d_D_powerOfOdd_67 (tgt := 84) (by decide) (by omega) (by omega) (fun c_67 => ?_) (fun c_67 => ?_)
      · exact segC τ hk h7 h8 _ rfl rfl rfl
      · omega
    | succ d ih =>
      intro i τ hi hk h7 h8
      have e4 : τ 4 = σ 4 := hk 4 (by unfold kp; omega)
      refine J_iload_n C d_D_powerOfOdd_59 1 rfl rfl ?_
      refine J_bipush C d_D_powerOfOdd_60 32 (by decide) ?_
      refine J_aload_n C d_D_powerOfOdd_62 0 rfl rfl ?_
      refine J_get_many C d_D_powerOfOdd_63 ?_
      refine J_imul C d_D_powerOfOdd_66 ?_
      refine J_icmp_ge C d_D_powerOfOdd_67 (tgt := 84) (by decide) (by omega) (by omega) (fun c_67 => ?_) (fun c_67 => ?_)
      · omega
      · refine J_aload_n C d_D_powerOfOdd_70 0 rfl rfl ?_
        refine J_aload_n C d_D_powerOfOdd_71 0 rfl rfl ?_
        refine J_get_square C d_D_powerOfOdd_72 ?_
        refine J_callVv R_D (ex (xE X)) C (fun _ _ => recvD C) d_D_powerOfOdd_75 (c_twiceOdd (σ := τ) (xl X) (xE X) (xA X) (ka := 8) (by decide) (by decide) rfl hm (by rw [e4]; exact hO) (by rw [e4, h8]; exact Nat.mod_lt _ (by omega))) ⟨⟨ml_D_128, ini_D, mc_D_twiceOdd⟩, co_D_twiceOdd, ⟨rfl, rfl⟩, by rw [hR]; decide⟩ im_D_twiceOdd se_D_twiceOdd rfl (by decide) (fun s75 h75 => ?_)
        refine J_wb (fun hwb => ?_)
        refine J_iinc (lv' := [(0, _), (1, _)]) C d_D_powerOfOdd_78 rfl (inc1 _) (by decide) rfl rfl ?_
        refine J_goto C d_D_powerOfOdd_81 (tgt := 59) (by decide) ?_
        obtain ⟨f1, f2⟩ := h75
        refine ih (i + 1) s75 (by omega) (fun q hq => by have hq' := hq; unfold kp at hq'; rw [f1 q (by omega)]; exact hk q hq) (by rw [f1 7 (by decide)]; exact h7) ?_
        rw [f2, e4, h8, Nat.pow_succ, Nat.mul_mod_mod]
        congr 1
        grind
  have loopA : ∀ d i τ, i + d = 32 * mn → (∀ q, kp q → τ q = σ q) → V (τ 7) 16 = 2 ^ i % V (σ 4) 16 → J X 17 [(0, .ref (ex (xE X))), (1, .int (nI i))] [] τ mn iv tw := by
    intro d
    induction d with
    | zero =>
      intro i τ hi hk h7
      obtain rfl : i = 32 * mn := by omega
      refine J_iload_n C d_D_powerOfOdd_17 1 rfl rfl ?_
      refine J_bipush C d_D_powerOfOdd_18 32 (by decide) ?_
      refine J_aload_n C d_D_powerOfOdd_20 0 rfl rfl ?_
      refine J_get_many C d_D_powerOfOdd_21 ?_
      refine J_imul C d_D_powerOfOdd_24 ?_
      refine J_icmp_ge C d_D_powerOfOdd_25 (tgt := 42) (by decide) (by omega) (by omega) (fun c_25 => ?_) (fun c_25 => ?_)
      · refine J_aload_n C d_D_powerOfOdd_42 0 rfl rfl ?_
        refine J_get_one C d_D_powerOfOdd_43 ?_
        refine J_iconst C d_D_powerOfOdd_46 0 (by decide) ?_
        refine J_aload_n C d_D_powerOfOdd_47 0 rfl rfl ?_
        refine J_get_square C d_D_powerOfOdd_48 ?_
        refine J_iconst C d_D_powerOfOdd_51 0 (by decide) ?_
        refine J_bipush C d_D_powerOfOdd_52 16 (by decide) ?_
        refine J_copy C d_D_powerOfOdd_54 (by decide) (by decide) (by show _ ≤ 16; omega) (by show _ ≤ 16; omega) (by rw [hR]; decide) (by rw [hR]; decide) ?_
        refine J_wb (fun hwb => ?_)
        refine J_iconst C d_D_powerOfOdd_57 0 (by decide) ?_
        refine J_istore_n (lv' := [(0, _), (1, _)]) C d_D_powerOfOdd_58 1 rfl (by decide) rfl rfl ?_
        refine loopB (32 * mn) 0 _ (by omega) (fun q hq => by have hq' := hq; unfold kp at hq'; rw [up_n (by omega)]; exact hk q hq) (by rw [up_n (by decide)]; exact h7) ?_
        rw [up_s, V_cpy (Nat.le_refl 16), h7, Nat.pow_zero, Nat.mul_one]
      · omega
    | succ d ih =>
      intro i τ hi hk h7
      have e4 : τ 4 = σ 4 := hk 4 (by unfold kp; omega)
      refine J_iload_n C d_D_powerOfOdd_17 1 rfl rfl ?_
      refine J_bipush C d_D_powerOfOdd_18 32 (by decide) ?_
      refine J_aload_n C d_D_powerOfOdd_20 0 rfl rfl ?_
      refine J_get_many C d_D_powerOfOdd_21 ?_
      refine J_imul C d_D_powerOfOdd_24 ?_
      refine J_icmp_ge C d_D_powerOfOdd_25 (tgt := 42) (by decide) (by omega) (by omega) (fun c_25 => ?_) (fun c_25 => ?_)
      · omega
      · refine J_aload_n C d_D_powerOfOdd_28 0 rfl rfl ?_
        refine J_aload_n C d_D_powerOfOdd_29 0 rfl rfl ?_
        refine J_get_one C d_D_powerOfOdd_30 ?_
        refine J_callVv R_D (ex (xE X)) C (fun _ _ => recvD C) d_D_powerOfOdd_33 (c_twiceOdd (σ := τ) (xl X) (xE X) (xA X) (ka := 7) (by decide) (by decide) rfl hm (by rw [e4]; exact hO) (by rw [e4, h7]; exact Nat.mod_lt _ (by omega))) ⟨⟨ml_D_128, ini_D, mc_D_twiceOdd⟩, co_D_twiceOdd, ⟨rfl, rfl⟩, by rw [hR]; decide⟩ im_D_twiceOdd se_D_twiceOdd rfl (by decide) (fun s33 h33 => ?_)
        refine J_wb (fun hwb => ?_)
        refine J_iinc (lv' := [(0, _), (1, _)]) C d_D_powerOfOdd_36 rfl (inc1 _) (by decide) rfl rfl ?_
        refine J_goto C d_D_powerOfOdd_39 (tgt := 17) (by decide) ?_
        obtain ⟨f1, f2⟩ := h33
        refine ih (i + 1) s33 (by omega) (fun q hq => by have hq' := hq; unfold kp at hq'; rw [f1 q (by omega)]; exact hk q hq) ?_
        rw [f2, e4, h7, Nat.pow_succ, Nat.mul_mod_mod, Nat.mul_comm 2]
  refine J_aload_n C d_D_powerOfOdd_0 0 rfl rfl ?_
  refine J_get_one C d_D_powerOfOdd_1 ?_
  refine J_iconst C d_D_powerOfOdd_4 0 (by decide) ?_
  refine J_callSv C d_D_powerOfOdd_5 (c_fill2 (σ := σ) (xl X) (xE X) (xA X) (ka := 7) (v := 0) (by decide) (by decide)) ⟨⟨ml_D_122, ini_A, mc_A_fill2⟩, co_A_fill2, ⟨rfl, rfl⟩, by rw [hR]; decide⟩ st_A_fill2 rfl (by decide) (fun s5 h5 => ?_)
  refine J_wb (fun hwb => ?_)
  obtain ⟨g1, g2, g3⟩ := h5
  refine J_aload_n C d_D_powerOfOdd_8 0 rfl rfl ?_
  refine J_get_one C d_D_powerOfOdd_9 ?_
  refine J_iconst C d_D_powerOfOdd_12 0 (by decide) ?_
  refine J_iconst C d_D_powerOfOdd_13 1 (by decide) ?_
  refine J_iastore C d_D_powerOfOdd_14 (by decide) (by show _ < 16; omega) ?_
  refine J_wb (fun hwb => ?_)
  refine J_iconst C d_D_powerOfOdd_15 0 (by decide) ?_
  refine J_istore_n (lv' := [(0, _), (1, _)]) C d_D_powerOfOdd_16 1 rfl (by decide) rfl rfl ?_
  refine loopA (32 * mn) 0 _ (by omega) (fun q hq => by unfold kp at hq; rw [up_n (by omega), g1 q (by omega)]) ?_
  rw [up_s, V_one (n := 15) (fun j hj => g2 j hj), Nat.pow_zero, Nat.mod_eq_of_lt hO1]
theorem c_powerOfOdd (l : Launch) (E : En) (A : Nat → Prop) (hm1 : 1 ≤ mn) (hm : mn ≤ 16) (hO : V (σ 4) 16 < 4294967296 ^ mn) (ho : V (σ 4) 16 % 2 = 1) (ho1 : V (σ 4) 16 ≠ 1) (hiv : (σ 4 0 * iv + 1) % 4294967296 = 0) : MV l y_D_powerOfOdd b_D_powerOfOdd 3 rm_D_powerOfOdd [.ref (ex E)] E A σ mn iv tw (fun u => (∀ q, kp q → u q = σ q) ∧ V (u 3) 16 = V (σ 1) 16 ^ V (σ 2) 16 % V (σ 4) 16) :=
  mk_v (by decide) (Nat.le_of_ble_eq_true rfl) (fun X C hR hE k => by subst hE; exact b_powerOfOdd C hR hm1 hm hO ho ho1 hiv (fun u h1 h2 => k u ⟨h1, h2⟩))
end POWODD
end
section
/-! modulo the power of 2: cut, powerOfTwos -/
/-- bits from t on go -/
def ctf (f : Nat → Nat) (t j : Nat) : Nat := if t ≤ 32 * j then 0 else if t < 32 * j + 32 then f j % 2 ^ (t % 32) else f j
theorem ctf_V {f g : Nat → Nat} {t : Nat} (ht : t < 512) (hf : ∀ j, f j < 4294967296) (hg : ∀ j, j < 16 → g j = ctf f t j) : V g 16 = V f 16 % 2 ^ t := by
  have e1 : 2 ^ t = 4294967296 ^ (t / 32) * 2 ^ (t % 32) := by
    rw [show (4294967296 : Nat) = 2 ^ 32 from rfl, ← Nat.pow_mul, ← Nat.pow_add, show 32 * (t / 32) + t % 32 = t by omega]
  have hq : t / 32 < 16 := by omega
  have e2 : V f 16 / 4294967296 ^ (t / 32) % 2 ^ (t % 32) = f (t / 32) % 2 ^ (t % 32) := by
    obtain ⟨d, hd⟩ : ∃ d, 16 - t / 32 = d + 1 := ⟨16 - t / 32 - 1, by omega⟩
    unfold V
    rw [vl_div (fun j _ => hf j) (by omega), hd, vl_head]
    have e3 : 4294967296 = 2 ^ (t % 32) * 2 ^ (32 - t % 32) := by
      rw [← Nat.pow_add, show t % 32 + (32 - t % 32) = 32 by omega]
    rw [show 4294967296 * vl 4294967296 (fun j => f (t / 32 + (j + 1))) d = 2 ^ (t % 32) * (2 ^ (32 - t % 32) * vl 4294967296 (fun j => f (t / 32 + (j + 1))) d) by rw [← Nat.mul_assoc, ← e3], Nat.add_mul_mod_self_left]
    rfl
  have e4 : V f 16 % 4294967296 ^ (t / 32) = V f (t / 32) := vl_mod (fun j _ => hf j) (by omega)
  rw [e1, Nat.mod_mul, e2, e4]
  have e5 : V g 16 = V g (t / 32 + 1) := vl_top (by omega) (fun j h1 h2 => by rw [hg j h2]; unfold ctf; rw [if_pos (by omega)])
  have e6 : g (t / 32) = f (t / 32) % 2 ^ (t % 32) := by
    rw [hg _ hq]
    unfold ctf
    split
    · next h => rw [show t % 32 = 0 by omega, Nat.pow_zero, Nat.mod_one]
    · rw [if_pos (by omega)]
  have e7 : V g (t / 32) = V f (t / 32) := vl_congr (fun j hj => by rw [hg j (by omega)]; unfold ctf; rw [if_neg (by omega), if_neg (by omega)])
  rw [e5]
  unfold V at e7 ⊢
  rw [vl_s, e7, e6, Nat.mul_comm (4294967296 ^ (t / 32))]
theorem pow_mod_mod {b p m n : Nat} (h : m ∣ n) : b ^ p % n % m = b ^ p % m := Nat.mod_mod_of_dvd _ h
section TWOS
variable {X : Ctx} {σ : Nat → Nat → Nat} {mn iv tw : Nat}
theorem b_cut (C : Cx X b_D_cut 3 R_D) {ka : Nat} (ha : ka < 35) (la : 16 ≤ ln ka) (ht : tw < 512)
    (k : ∀ u, (∀ q, q ≠ ka → u q = σ q) → V (u ka) 16 = V (σ ka) 16 % 2 ^ tw → Ret X b_D_cut .return_ [] u mn iv tw) :
    J X 0 [(0, .ref (ex (xE X))), (1, .ref (ea (xE X) ka))] [] σ mn iv tw := by
  refine J_wb (fun hw0 => ?_)
  have loop : ∀ d i τ, i + d = 16 → (∀ q, q ≠ ka → τ q = σ q) → (∀ j, j < i → τ ka j = ctf (σ ka) tw j) → (∀ j, i ≤ j → τ ka j = σ ka j) →
      J X 2 [(0, .ref (ex (xE X))), (1, .ref (ea (xE X) ka)), (2, .int (nI i))] [] τ mn iv tw := by
    intro d
    induction d with
    | zero =>
      intro i τ hi h1 h2 h3
      obtain rfl : i = 16 := by omega
      refine J_iload_n C d_D_cut_2 2 rfl rfl ?_
      refine J_bipush C d_D_cut_3 16 (by decide) ?_
      refine J_icmp_ge C d_D_cut_5 (tgt := 63) (by decide) (by omega) (by omega) (fun c_5 => ?_) (fun c_5 => ?_)
      · exact k τ h1 (ctf_V ht (fun j => hw0 ka j) h2) _ _ d_D_cut_63
      · omega
    | succ d ih =>
      intro i τ hi h1 h2 h3
      refine J_wb (fun hwb => ?_)
      have ei := h3 i (Nat.le_refl i)
      have hp : 2 ^ (tw % 32) ≤ 2 ^ 31 := Nat.pow_le_pow_right (by decide) (by omega)
      have hp0 : 0 < 2 ^ (tw % 32) := Nat.two_pow_pos _
      have fin : ∀ f : Nat → Nat, f i = ctf (σ ka) tw i → (∀ j, j ≠ i → f j = τ ka j) → J X 57 [(0, .ref (ex (xE X))), (1, .ref (ea (xE X) ka)), (2, .int (nI i))] [] (up τ ka f) mn iv tw := by
        intro f f1 f2
        refine J_iinc (lv' := [(0, _), (1, _), (2, _)]) C d_D_cut_57 rfl (inc1 _) (by decide) rfl rfl ?_
        refine J_goto C d_D_cut_60 (tgt := 2) (by decide) ?_
        refine ih (i + 1) _ (by omega) (fun q hq => by rw [up_n hq]; exact h1 q hq) (fun j hj => ?_) (fun j hj => by rw [up_s, f2 j (by omega)]; exact h3 j (by omega))
        rw [up_s]
        rcases Nat.lt_or_ge j i with q | q
        · rw [f2 j (by omega)]; exact h2 j q
        · rw [show j = i by omega]; exact f1
      refine J_iload_n C d_D_cut_2 2 rfl rfl ?_
      refine J_bipush C d_D_cut_3 16 (by decide) ?_
      refine J_icmp_ge C d_D_cut_5 (tgt := 63) (by decide) (by omega) (by omega) (fun c_5 => ?_) (fun c_5 => ?_)
      · omega
      · refine J_bipush C d_D_cut_8 32 (by decide) ?_
        refine J_iload_n C d_D_cut_10 2 rfl rfl ?_
        refine J_imul C d_D_cut_11 ?_
        refine J_aload_n C d_D_cut_12 0 rfl rfl ?_
        refine J_get_twos C d_D_cut_13 ?_
        refine J_icmp_lt C d_D_cut_16 (tgt := 26) (by decide) (by omega) (by omega) (fun c_16 => ?_) (fun c_16 => ?_)
        · refine J_bipush C d_D_cut_26 32 (by decide) ?_
          refine J_iload_n C d_D_cut_28 2 rfl rfl ?_
          refine J_imul C d_D_cut_29 ?_
          refine J_bipush C d_D_cut_30 32 (by decide) ?_
          refine J_iadd C d_D_cut_32 ?_
          refine J_aload_n C d_D_cut_33 0 rfl rfl ?_
          refine J_get_twos C d_D_cut_34 ?_
          refine J_icmp_le C d_D_cut_37 (tgt := 57) (by decide) (by omega) (by omega) (fun c_37 => ?_) (fun c_37 => ?_)
          · have h := fin (τ ka) (by rw [ei]; unfold ctf; rw [if_neg (by omega), if_neg (by omega)]) (fun j hj => rfl)
            rw [up_id] at h
            exact h
          · refine J_aload_n C d_D_cut_40 1 rfl rfl ?_
            refine J_iload_n C d_D_cut_41 2 rfl rfl ?_
            refine J_dup2 C d_D_cut_42 rfl rfl ?_
            refine J_iaload C d_D_cut_43 (by omega) (by omega) ?_
            refine J_iconst C d_D_cut_44 1 (by decide) ?_
            refine J_aload_n C d_D_cut_45 0 rfl rfl ?_
            refine J_get_twos C d_D_cut_46 ?_
            refine J_bipush C d_D_cut_49 31 (by decide) ?_
            refine J_iand C d_D_cut_51 5 32 rfl (by first | exact hwb _ _ | omega) (by decide) rfl ?_
            refine J_ishl C d_D_cut_52 _ rfl (by omega) ?_
            refine J_iconst C d_D_cut_53 1 (by decide) ?_
            refine J_isub C d_D_cut_54 (by omega) ?_
            refine J_iand C d_D_cut_55 (tw % 32) (2 ^ (tw % 32)) rfl (hwb _ _) (by omega) (by omega) ?_
            refine J_iastore C d_D_cut_56 (by omega) (by omega) ?_
            refine J_wb (fun hwb => ?_)
            exact fin _ (by rw [uf_s, ei]; unfold ctf; rw [if_neg (by omega), if_pos (by omega)]; exact Nat.mod_eq_of_lt (Nat.lt_of_lt_of_le (Nat.mod_lt _ hp0) (Nat.le_trans hp (by decide)))) (fun j hj => uf_n hj)
        · refine J_aload_n C d_D_cut_19 1 rfl rfl ?_
          refine J_iload_n C d_D_cut_20 2 rfl rfl ?_
          refine J_iconst C d_D_cut_21 0 (by decide) ?_
          refine J_iastore C d_D_cut_22 (by omega) (by omega) ?_
          refine J_wb (fun hwb => ?_)
          refine J_goto C d_D_cut_23 (tgt := 57) (by decide) ?_
          exact fin _ (by rw [uf_s]; unfold ctf; rw [if_pos (by omega)]) (fun j hj => uf_n hj)
  refine J_iconst C d_D_cut_0 0 (by decide) ?_
  refine J_istore_n (lv' := [(0, _), (1, _), (2, _)]) C d_D_cut_1 2 rfl (by decide) rfl rfl ?_
  exact loop 16 0 σ (by omega) (fun _ _ => rfl) (fun j hj => by omega) (fun _ _ => rfl)
theorem c_cut (l : Launch) (E : En) (A : Nat → Prop) {ka : Nat} (ha : ka < 35) (la : 16 ≤ ln ka) (ht : tw < 512) : MV l y_D_cut b_D_cut 3 rm_D_cut [.ref (ex E), .ref (ea E ka)] E A σ mn iv tw (fun u => (∀ q, q ≠ ka → u q = σ q) ∧ V (u ka) 16 = V (σ ka) 16 % 2 ^ tw) :=
  mk_v (by decide) (Nat.le_of_ble_eq_true rfl) (fun X C hR hE k => by subst hE; exact b_cut C ha la ht (fun u h1 h2 => k u ⟨h1, h2⟩))
theorem V_cpyn {f g : Nat → Nat} {n : Nat} (hn : n ≤ 16) (hz : ∀ j, n ≤ j → j < 16 → g j = 0) : V (va_cpy f g 0 0 n) 16 = V f n := by
  have e : V (va_cpy f g 0 0 n) 16 = V (va_cpy f g 0 0 n) n := vl_top hn (fun j h1 h2 => by rw [cpy_ge h1]; exact hz j h1 h2)
  rw [e, V_cpy (Nat.le_refl n)]
theorem sq_pow {s m B : Nat} : s ^ m % B * (s ^ m % B) % B = s ^ (2 * m) % B := by
  rw [← Nat.mul_mod, ← Nat.pow_add, show m + m = 2 * m by omega]
theorem mul_pow_s {s m B : Nat} : s ^ m % B * s % B = s ^ (m + 1) % B := by
  rw [Nat.pow_succ, Nat.mul_mod, Nat.mod_mod, ← Nat.mul_mod]
set_option maxHeartbeats 1000000 in
theorem b_powerOfTwos (C : Cx X b_D_powerOfTwos 4 R_D) (hR : xR X = rm_D_powerOfTwos) {kt : Nat} (hkt : kt < 35) (lt : 16 ≤ ln kt) (ht1 : 1 ≤ tw) (ht : tw < 512)
    (k : ∀ u, (∀ q, q ≠ kt → q ≠ 5 → q ≠ 8 → q ≠ 10 → u q = σ q) → V (u kt) 16 = V (σ 1) 16 ^ V (σ 2) 16 % 2 ^ tw → Ret X b_D_powerOfTwos .return_ [] u mn iv tw) :
    J X 0 [(0, .ref (ex (xE X))), (1, .ref (ea (xE X) kt))] [] σ mn iv tw := by
  obtain ⟨n, hn⟩ : ∃ n, n = (tw + 31) / 32 := ⟨_, rfl⟩
  have hn1 : 1 ≤ n := by omega
  have hn16 : n ≤ 16 := by omega
  have hdv : 2 ^ tw ∣ 4294967296 ^ n := by rw [pR]; exact Nat.pow_dvd_pow 2 (by omega)
  have l5 : ln 5 = 32 := rfl
  have l10 : ln 10 = 16 := rfl
  have loop : ∀ c, c ≤ 512 → ∀ τ, (∀ q, q ≠ 5 → q ≠ 8 → q ≠ 10 → τ q = σ q) → V (τ 8) 16 = V (σ 1) 16 % 2 ^ tw → (∀ j, n ≤ j → j < 16 → τ 10 j = 0) → V (τ 10) 16 = (V (σ 1) 16 % 2 ^ tw) ^ (V (σ 2) 16 / 2 ^ c) % 4294967296 ^ n →
      J X 56 [(0, .ref (ex (xE X))), (1, .ref (ea (xE X) kt)), (2, .int (nI n)), (3, .int (nI c + (-1)))] [] τ mn iv tw := by
    intro c
    induction c with
    | zero =>
      intro _ τ hk h8 hz h10
      rw [m1_0]
      refine J_iload_n C d_D_powerOfTwos_56 3 rfl rfl ?_
      refine J_iflt C d_D_powerOfTwos_57 (tgt := 137) (by decide) (by first | exact hwb _ _ | omega) (fun c_57 => ?_) (fun c_57 => ?_)
      · refine J_aload_n C d_D_powerOfTwos_137 0 rfl rfl ?_
        refine J_aload_n C d_D_powerOfTwos_138 0 rfl rfl ?_
        refine J_get_high C d_D_powerOfTwos_139 ?_
        refine J_callVv R_D (ex (xE X)) C (fun _ _ => recvD C) d_D_powerOfTwos_142 (c_cut (σ := τ) (xl X) (xE X) (xA X) (ka := 10) (by decide) (by decide) ht) ⟨⟨ml_D_139, ini_D, mc_D_cut⟩, co_D_cut, ⟨rfl, rfl⟩, by rw [hR]; decide⟩ im_D_cut se_D_cut rfl (by decide) (fun s142 h142 => ?_)
        refine J_wb (fun hwb => ?_)
        refine J_aload_n C d_D_powerOfTwos_145 0 rfl rfl ?_
        refine J_get_high C d_D_powerOfTwos_146 ?_
        refine J_iconst C d_D_powerOfTwos_149 0 (by decide) ?_
        refine J_aload_n C d_D_powerOfTwos_150 1 rfl rfl ?_
        refine J_iconst C d_D_powerOfTwos_151 0 (by decide) ?_
        refine J_bipush C d_D_powerOfTwos_152 16 (by decide) ?_
        refine J_copy C d_D_powerOfTwos_154 (by decide) (by omega) (by show _ ≤ 16; omega) (by omega) (by rw [hR]; decide) (by rw [hR]; decide) ?_
        refine J_wb (fun hwb => ?_)
        obtain ⟨g1, g2⟩ := h142
        refine k _ (fun q a1 a2 a3 a4 => by rw [up_n a1, g1 q a4]; exact hk q a2 a3 a4) ?_ _ _ d_D_powerOfTwos_157
        rw [up_s, V_cpy (Nat.le_refl 16), g2, h10, Nat.pow_zero, Nat.div_one, pow_mod_mod hdv, ← Nat.pow_mod]
      · omega
    | succ c ih =>
      intro hc τ hk h8 hz h10
      rw [pk_m1]
      have e2 : τ 2 = σ 2 := hk 2 (by decide) (by decide) (by decide)
      have eP : V (σ 2) 16 / 2 ^ c = 2 * (V (σ 2) 16 / 2 ^ (c + 1)) + V (σ 2) 16 / 2 ^ c % 2 := by
        rw [Nat.pow_succ, ← Nat.div_div_eq_div_mul]; omega
      refine J_iload_n C d_D_powerOfTwos_56 3 rfl rfl ?_
      refine J_iflt C d_D_powerOfTwos_57 (tgt := 137) (by decide) (by first | exact hwb _ _ | omega) (fun c_57 => ?_) (fun c_57 => ?_)
      · omega
      · refine J_aload_n C d_D_powerOfTwos_60 0 rfl rfl ?_
        refine J_get_high C d_D_powerOfTwos_61 ?_
        refine J_aload_n C d_D_powerOfTwos_64 0 rfl rfl ?_
        refine J_get_high C d_D_powerOfTwos_65 ?_
        refine J_iload_n C d_D_powerOfTwos_68 2 rfl rfl ?_
        refine J_aload_n C d_D_powerOfTwos_69 0 rfl rfl ?_
        refine J_get_product C d_D_powerOfTwos_70 ?_
        refine J_callSv C d_D_powerOfTwos_73 (c_times (σ := τ) (xl X) (xE X) (xA X) (ka := 10) (kb := 10) (n := n) (kt := 5) (by decide) (by decide) (by decide) (by decide) (by decide) (by decide) (by decide) (by omega)) ⟨⟨ml_D_92, ini_D, mc_D_times⟩, co_D_times, ⟨rfl, rfl⟩, by rw [hR]; decide⟩ st_D_times rfl (by decide) (fun s73 h73 => ?_)
        refine J_wb (fun hwb => ?_)
        obtain ⟨g1, g2, g3⟩ := h73
        rw [h10, sq_pow] at g3
        refine J_aload_n C d_D_powerOfTwos_76 0 rfl rfl ?_
        refine J_get_product C d_D_powerOfTwos_77 ?_
        refine J_iconst C d_D_powerOfTwos_80 0 (by decide) ?_
        refine J_aload_n C d_D_powerOfTwos_81 0 rfl rfl ?_
        refine J_get_high C d_D_powerOfTwos_82 ?_
        refine J_iconst C d_D_powerOfTwos_85 0 (by decide) ?_
        refine J_iload_n C d_D_powerOfTwos_86 2 rfl rfl ?_
        refine J_copy C d_D_powerOfTwos_87 (by decide) (by decide) (by omega) (by omega) (by rw [hR]; decide) (by rw [hR]; decide) ?_
        refine J_wb (fun hwb => ?_)
        have z10 : ∀ j, n ≤ j → j < 16 → s73 10 j = 0 := fun j a1 a2 => by rw [g1 10 (by decide)]; exact hz j a1 a2
        have q10 : V ((up s73 10 (va_cpy (s73 5) (s73 10) 0 0 n)) 10) 16 = (V (σ 1) 16 % 2 ^ tw) ^ (2 * (V (σ 2) 16 / 2 ^ (c + 1))) % 4294967296 ^ n := by rw [up_s, V_cpyn hn16 z10, g3]
        have q8 : V ((up s73 10 (va_cpy (s73 5) (s73 10) 0 0 n)) 8) 16 = V (σ 1) 16 % 2 ^ tw := by rw [up_n (by decide), g1 8 (by decide), h8]
        have qk : ∀ q, q ≠ 5 → q ≠ 8 → q ≠ 10 → (up s73 10 (va_cpy (s73 5) (s73 10) 0 0 n)) q = σ q := fun q a1 a2 a3 => by rw [up_n a3, g1 q a1]; exact hk q a1 a2 a3
        have qz : ∀ j, n ≤ j → j < 16 → (up s73 10 (va_cpy (s73 5) (s73 10) 0 0 n)) 10 j = 0 := fun j a1 a2 => by rw [up_s, cpy_ge a1]; exact z10 j a1 a2
        generalize (up s73 10 (va_cpy (s73 5) (s73 10) 0 0 n)) = ρ at q10 q8 qk qz hwb ⊢
        refine J_aload_n C d_D_powerOfTwos_90 0 rfl rfl ?_
        refine J_iload_n C d_D_powerOfTwos_91 3 rfl rfl ?_
        refine J_callVi R_D (ex (xE X)) C (fun _ _ => recvD C) d_D_powerOfTwos_92 (c_bit (σ := ρ) (xl X) (xE X) (xA X) (t := c) (by omega)) ⟨⟨ml_D_96, ini_D, mc_D_bit⟩, co_D_bit, ⟨rfl, rfl⟩, by rw [hR]; decide⟩ im_D_bit se_D_bit rfl (by decide) (fun n92 s92 h92 => ?_)
        refine J_wb (fun hwb => ?_)
        obtain ⟨rfl, e92⟩ := h92
        rw [qk 2 (by decide) (by decide) (by decide)] at e92
        have hb2 : n92 < 2 := by rw [e92]; exact Nat.mod_lt _ (by decide)
        refine J_ifne C d_D_powerOfTwos_95 (tgt := 101) (by decide) (by omega) (fun c_95 => ?_) (fun c_95 => ?_)
        · refine J_aload_n C d_D_powerOfTwos_101 0 rfl rfl ?_
          refine J_get_high C d_D_powerOfTwos_102 ?_
          refine J_aload_n C d_D_powerOfTwos_105 0 rfl rfl ?_
          refine J_get_square C d_D_powerOfTwos_106 ?_
          refine J_iload_n C d_D_powerOfTwos_109 2 rfl rfl ?_
          refine J_aload_n C d_D_powerOfTwos_110 0 rfl rfl ?_
          refine J_get_product C d_D_powerOfTwos_111 ?_
          refine J_callSv C d_D_powerOfTwos_114 (c_times (σ := ρ) (xl X) (xE X) (xA X) (ka := 10) (kb := 8) (n := n) (kt := 5) (by decide) (by decide) (by decide) (by decide) (by decide) (by decide) (by decide) (by omega)) ⟨⟨ml_D_92, ini_D, mc_D_times⟩, co_D_times, ⟨rfl, rfl⟩, by rw [hR]; decide⟩ st_D_times rfl (by decide) (fun s114 h114 => ?_)
          refine J_wb (fun hwb => ?_)
          obtain ⟨f1, f2, f3⟩ := h114
          rw [q10, q8, mul_pow_s] at f3
          have y10 : ∀ j, n ≤ j → j < 16 → s114 10 j = 0 := fun j a1 a2 => by rw [f1 10 (by decide)]; exact qz j a1 a2
          refine J_aload_n C d_D_powerOfTwos_117 0 rfl rfl ?_
          refine J_get_product C d_D_powerOfTwos_118 ?_
          refine J_iconst C d_D_powerOfTwos_121 0 (by decide) ?_
          refine J_aload_n C d_D_powerOfTwos_122 0 rfl rfl ?_
          refine J_get_high C d_D_powerOfTwos_123 ?_
          refine J_iconst C d_D_powerOfTwos_126 0 (by decide) ?_
          refine J_iload_n C d_D_powerOfTwos_127 2 rfl rfl ?_
          refine J_copy C d_D_powerOfTwos_128 (by decide) (by decide) (by omega) (by omega) (by rw [hR]; decide) (by rw [hR]; decide) ?_
          refine J_wb (fun hwb => ?_)
          refine J_iinc (lv' := [(0, _), (1, _), (2, _), (3, _)]) C d_D_powerOfTwos_131 rfl (dec1 _) (by decide) rfl rfl ?_
          refine J_goto C d_D_powerOfTwos_134 (tgt := 56) (by decide) ?_
          refine ih (by omega) _ (fun q a1 a2 a3 => by rw [up_n a3, f1 q a1]; exact qk q a1 a2 a3) (by rw [up_n (by decide), f1 8 (by decide), q8]) (fun j a1 a2 => by rw [up_s, cpy_ge a1]; exact y10 j a1 a2) ?_
          rw [up_s, V_cpyn hn16 y10, f3, eP, ← e92, show n92 = 1 by omega]
        · refine J_goto C d_D_powerOfTwos_98 (tgt := 131) (by decide) ?_
          refine J_iinc (lv' := [(0, _), (1, _), (2, _), (3, _)]) C d_D_powerOfTwos_131 rfl (dec1 _) (by decide) rfl rfl ?_
          refine J_goto C d_D_powerOfTwos_134 (tgt := 56) (by decide) ?_
          refine ih (by omega) _ qk q8 qz ?_
          rw [q10, eP, ← e92, c_95, Nat.add_zero (2 * (V (σ 2) 16 / 2 ^ (c + 1)))]
  refine J_aload_n C d_D_powerOfTwos_0 0 rfl rfl ?_
  refine J_get_twos C d_D_powerOfTwos_1 ?_
  refine J_bipush C d_D_powerOfTwos_4 31 (by decide) ?_
  refine J_iadd C d_D_powerOfTwos_6 ?_
  refine J_bipush C d_D_powerOfTwos_7 32 (by decide) ?_
  refine J_idiv C d_D_powerOfTwos_9 (by omega) (by decide) (by decide) ?_
  rw [← hn]
  refine J_istore_n (lv' := [(0, _), (1, _), (2, _)]) C d_D_powerOfTwos_10 2 rfl (by decide) rfl rfl ?_
  refine J_aload_n C d_D_powerOfTwos_11 0 rfl rfl ?_
  refine J_get_base C d_D_powerOfTwos_12 ?_
  refine J_iconst C d_D_powerOfTwos_15 0 (by decide) ?_
  refine J_aload_n C d_D_powerOfTwos_16 0 rfl rfl ?_
  refine J_get_square C d_D_powerOfTwos_17 ?_
  refine J_iconst C d_D_powerOfTwos_20 0 (by decide) ?_
  refine J_bipush C d_D_powerOfTwos_21 16 (by decide) ?_
  refine J_copy C d_D_powerOfTwos_23 (by decide) (by decide) (by show _ ≤ 16; omega) (by show _ ≤ 16; omega) (by rw [hR]; decide) (by rw [hR]; decide) ?_
  refine J_wb (fun hwb => ?_)
  refine J_aload_n C d_D_powerOfTwos_26 0 rfl rfl ?_
  refine J_aload_n C d_D_powerOfTwos_27 0 rfl rfl ?_
  refine J_get_square C d_D_powerOfTwos_28 ?_
  refine J_callVv R_D (ex (xE X)) C (fun _ _ => recvD C) d_D_powerOfTwos_31 (c_cut (xl X) (xE X) (xA X) (ka := 8) (by decide) (by decide) ht) ⟨⟨ml_D_139, ini_D, mc_D_cut⟩, co_D_cut, ⟨rfl, rfl⟩, by rw [hR]; decide⟩ im_D_cut se_D_cut rfl (by decide) (fun s31 h31 => ?_)
  refine J_wb (fun hwb => ?_)
  obtain ⟨g1, g2⟩ := h31
  rw [up_s, V_cpy (Nat.le_refl 16)] at g2
  refine J_aload_n C d_D_powerOfTwos_34 0 rfl rfl ?_
  refine J_get_high C d_D_powerOfTwos_35 ?_
  refine J_iconst C d_D_powerOfTwos_38 0 (by decide) ?_
  refine J_callSv C d_D_powerOfTwos_39 (c_fill2 (σ := s31) (xl X) (xE X) (xA X) (ka := 10) (v := 0) (by decide) (by decide)) ⟨⟨ml_D_122, ini_A, mc_A_fill2⟩, co_A_fill2, ⟨rfl, rfl⟩, by rw [hR]; decide⟩ st_A_fill2 rfl (by decide) (fun s39 h39 => ?_)
  refine J_wb (fun hwb => ?_)
  obtain ⟨f1, f2, f3⟩ := h39
  refine J_aload_n C d_D_powerOfTwos_42 0 rfl rfl ?_
  refine J_get_high C d_D_powerOfTwos_43 ?_
  refine J_iconst C d_D_powerOfTwos_46 0 (by decide) ?_
  refine J_iconst C d_D_powerOfTwos_47 1 (by decide) ?_
  refine J_iastore C d_D_powerOfTwos_48 (by decide) (by show _ < 16; omega) ?_
  refine J_wb (fun hwb => ?_)
  have qk : ∀ q, q ≠ 5 → q ≠ 8 → q ≠ 10 → (up s39 10 (uf (s39 10) 0 (1 % 4294967296))) q = σ q := fun q a1 a2 a3 => by rw [up_n a3, f1 q a3, g1 q a2, up_n a2]
  have q8 : V ((up s39 10 (uf (s39 10) 0 (1 % 4294967296))) 8) 16 = V (σ 1) 16 % 2 ^ tw := by rw [up_n (by decide), f1 8 (by decide), g2]
  have qz : ∀ j, n ≤ j → j < 16 → (up s39 10 (uf (s39 10) 0 (1 % 4294967296))) 10 j = 0 := fun j a1 a2 => by rw [up_s, uf_n (by omega)]; exact f2 j a2
  have q10 : V ((up s39 10 (uf (s39 10) 0 (1 % 4294967296))) 10) 16 = 1 := by rw [up_s]; exact V_one (n := 15) (fun j hj => f2 j hj)
  generalize (up s39 10 (uf (s39 10) 0 (1 % 4294967296))) = ρ at qk q8 qz q10 hwb ⊢
  refine J_aload_n C d_D_powerOfTwos_49 0 rfl rfl ?_
  refine J_callVi R_D (ex (xE X)) C (fun _ _ => recvD C) d_D_powerOfTwos_50 (c_bits (σ := ρ) (xl X) (xE X) (xA X)) ⟨⟨ml_D_135, ini_D, mc_D_bits⟩, co_D_bits, ⟨rfl, rfl⟩, by rw [hR]; decide⟩ im_D_bits se_D_bits rfl (by decide) (fun n50 s50 h50 => ?_)
  refine J_wb (fun hwb => ?_)
  obtain ⟨rfl, b1, b2⟩ := h50
  rw [qk 2 (by decide) (by decide) (by decide)] at b2
  refine J_iconst C d_D_powerOfTwos_53 1 (by decide) ?_
  refine J_isub1 C d_D_powerOfTwos_54 ?_
  refine J_istore_n (lv' := [(0, _), (1, _), (2, _), (3, _)]) C d_D_powerOfTwos_55 3 rfl (by decide) rfl rfl ?_
  refine loop n50 b1 _ qk q8 qz ?_
  rw [q10, Nat.div_eq_of_lt b2, Nat.pow_zero]
  have h2 : 4294967296 ^ 1 ≤ 4294967296 ^ n := Nat.pow_le_pow_right (by decide) hn1
  rw [Nat.pow_one] at h2
  exact (Nat.mod_eq_of_lt (by omega)).symm
theorem c_powerOfTwos (l : Launch) (E : En) (A : Nat → Prop) {kt : Nat} (hkt : kt < 35) (lt : 16 ≤ ln kt) (ht1 : 1 ≤ tw) (ht : tw < 512) : MV l y_D_powerOfTwos b_D_powerOfTwos 4 rm_D_powerOfTwos [.ref (ex E), .ref (ea E kt)] E A σ mn iv tw (fun u => (∀ q, q ≠ kt → q ≠ 5 → q ≠ 8 → q ≠ 10 → u q = σ q) ∧ V (u kt) 16 = V (σ 1) 16 ^ V (σ 2) 16 % 2 ^ tw) :=
  mk_v (by decide) (Nat.le_of_ble_eq_true rfl) (fun X C hR hE k => by subst hE; exact b_powerOfTwos C hR hkt lt ht1 ht (fun u h1 h2 => k u ⟨h1, h2⟩))
end TWOS
end
section
/-! both answers become one -/
theorem lb_mod (n : Nat) : lN (n % 18446744073709551616) = lN n := lb_cong (Nat.mod_mod _ _)
theorem nj_alg {O y p q w z a b M : Int} (i1 : M * a + p = O * y) (i2 : M * b + z = y * q) (i3 : q + p = 2 + w * M) : O * z - 1 = M * (O * (y * (a + w) - b)) - (O * y - 1) * (O * y - 1) := by grind
/-- Newton's step modulo 2^N -/
theorem nstepJ {O y p q w d e N : Nat} (h1 : e ≤ 2 * d) (h2 : e ≤ N) (hp : p = O * y % 2 ^ N) (hq : q + p = 2 + w * 2 ^ N) (h : ∃ c : Int, (O : Int) * y - 1 = 2 ^ d * c) : ∃ c : Int, (O : Int) * ((y * q % 2 ^ N : Nat) : Int) - 1 = 2 ^ e * c := by
  obtain ⟨c, hc⟩ := h
  have q1 := Nat.div_add_mod (O * y) (2 ^ N)
  have q2 := Nat.div_add_mod (y * q) (2 ^ N)
  rw [← hp] at q1
  generalize O * y / 2 ^ N = a at q1
  generalize y * q % 2 ^ N = z at q2 ⊢
  generalize y * q / 2 ^ N = b at q2
  have i1 : ((2 ^ N : Nat) : Int) * a + p = O * y := by rw [← Int.natCast_mul, ← Int.natCast_mul, ← Int.natCast_add, q1]
  have i2 : ((2 ^ N : Nat) : Int) * b + z = y * q := by rw [← Int.natCast_mul, ← Int.natCast_mul, ← Int.natCast_add, q2]
  have i3 : (q : Int) + p = 2 + w * ((2 ^ N : Nat) : Int) := by rw [← Int.natCast_mul, ← Int.natCast_add, hq, Int.natCast_add]; rfl
  have p1 : (2 : Int) ^ d * 2 ^ d = 2 ^ e * 2 ^ (2 * d - e) := by
    rw [← Int.pow_add, ← Int.pow_add]; congr 1; omega
  have p2 : ((2 ^ N : Nat) : Int) = 2 ^ e * 2 ^ (N - e) := by
    rw [← Int.pow_add, show e + (N - e) = N by omega, Int.natCast_pow]; rfl
  generalize ((2 ^ N : Nat) : Int) = M at i1 i2 i3 p2
  have e1 : (O : Int) * z - 1 = M * (O * (y * (a + w) - b)) - (2 ^ d * c) * (2 ^ d * c) := by
    rw [← hc]
    exact nj_alg i1 i2 i3
  refine ⟨2 ^ (N - e) * (O * (y * (a + w) - b)) - 2 ^ (2 * d - e) * c * c, ?_⟩
  rw [e1]
  have e2 : (2 : Int) ^ d * c * (2 ^ d * c) = (2 ^ d * 2 ^ d) * (c * c) := by grind
  rw [e2, p1]
  generalize hk : (O : Int) * (y * (a + w) - b) = k
  have e3 : M * k = 2 ^ e * 2 ^ (N - e) * k := by rw [← p2]
  rw [e3]
  grind
/-- the joined number modulo the power of 2 -/
theorem crt1 {A O c L y W w Bs t : Nat} (h1 : W + A = L + w * Bs) (hB : 2 ^ t ∣ Bs) (hc : c = W * y % 2 ^ t) (hy : ∃ z : Int, (O : Int) * y - 1 = 2 ^ t * z) (hL : L < 2 ^ t) : (A + O * c) % 2 ^ t = L := by
  obtain ⟨z, hz⟩ := hy
  obtain ⟨m, hm⟩ := hB
  have q2 := Nat.div_add_mod (W * y) (2 ^ t)
  rw [← hc] at q2
  generalize W * y / 2 ^ t = b at q2
  have i2 : ((2 ^ t : Nat) : Int) * b + c = W * y := by rw [← Int.natCast_mul, ← Int.natCast_mul, ← Int.natCast_add, q2]
  have i1 : (W : Int) + A = L + w * (((2 ^ t : Nat) : Int) * m) := by rw [← Int.natCast_mul, ← hm, ← Int.natCast_mul, ← Int.natCast_add, h1, Int.natCast_add]
  have p2 : (2 : Int) ^ t = ((2 ^ t : Nat) : Int) := by rw [Int.natCast_pow]; rfl
  rw [p2] at hz
  have e : ((A + O * c : Nat) : Int) = L + ((2 ^ t : Nat) : Int) * (w * m + W * z - O * b) := by
    rw [Int.natCast_add, Int.natCast_mul]
    generalize ((2 ^ t : Nat) : Int) = M at *
    grind
  have e2 : ((A + O * c : Nat) : Int) % ((2 ^ t : Nat) : Int) = L := by
    rw [e, Int.add_mul_emod_self_left]
    exact Int.emod_eq_of_lt (by omega) (by omega)
  rw [← Int.natCast_emod] at e2
  omega
theorem crt2 {Y Z O t : Nat} (ho : O % 2 = 1) (h1 : Y % O = Z % O) (h2 : Y % 2 ^ t = Z % 2 ^ t) (hY : Y < O * 2 ^ t) (hZ : Z < O * 2 ^ t) : Y = Z := by
  have cop : Nat.Coprime O (2 ^ t) := by
    apply Nat.Coprime.pow_right
    rw [Nat.Coprime, Nat.gcd_comm, Nat.gcd_rec, ho, Nat.gcd_one_left]
  have key : ∀ a b, a ≤ b → a % O = b % O → a % 2 ^ t = b % 2 ^ t → b < O * 2 ^ t → a = b := by
    intro a b hab e1 e2 hb
    have d1 : O ∣ b - a := Nat.dvd_of_mod_eq_zero (Nat.sub_mod_eq_zero_of_mod_eq e1.symm)
    have d2 : 2 ^ t ∣ b - a := Nat.dvd_of_mod_eq_zero (Nat.sub_mod_eq_zero_of_mod_eq e2.symm)
    have d3 := Nat.Coprime.mul_dvd_of_dvd_of_dvd cop d1 d2
    have := Nat.eq_zero_of_dvd_of_lt d3 (by omega)
    omega
  rcases Nat.le_total Y Z with h | h
  · exact key Y Z h h1 h2 hZ
  · exact (key Z Y h h1.symm h2.symm hY).symm
/-- the odd part's lowest word turned upside down: the odd part too, in 32 bits -/
theorem inv32 {f : Nat → Nat} {iv : Nat} (hiv : iv ≤ 4294967296) (h : (f 0 * iv + 1) % 4294967296 = 0) : ∃ c : Int, (V f 16 : Int) * (((4294967296 - iv) % 4294967296 : Nat) : Int) - 1 = 2 ^ 32 * c := by
  have e : V f 16 = f 0 + 4294967296 * vl 4294967296 (fun j => f (j + 1)) 15 := vl_head
  generalize vl 4294967296 (fun j => f (j + 1)) 15 = R at e
  generalize V f 16 = O at e ⊢
  obtain ⟨m, hm⟩ := Nat.dvd_of_mod_eq_zero h
  have hz : iv ≠ 0 := by
    rintro rfl
    omega
  rw [Nat.mod_eq_of_lt (show 4294967296 - iv < 4294967296 by omega)]
  obtain ⟨s, hs⟩ : ∃ s, 4294967296 - iv = s := ⟨_, rfl⟩
  have hs2 : s + iv = 4294967296 := by omega
  rw [hs]
  have i1 : (O : Int) = f 0 + 4294967296 * R := by omega
  have i2 : (f 0 : Int) * iv + 1 = 4294967296 * m := by rw [← Int.natCast_mul]; omega
  have i3 : (s : Int) + iv = 4294967296 := by omega
  refine ⟨f 0 - m + R * s, ?_⟩
  rw [show (2 : Int) ^ 32 = 4294967296 from rfl]
  grind
/-- the arrays that join keeps -/
def kj (q : Nat) : Prop := q = 0 ∨ q = 1 ∨ q = 2 ∨ q = 4 ∨ q = 6 ∨ 12 ≤ q
def two0 : Nat → Nat := uf (fun _ => 0) 0 2
theorem two0_V {n : Nat} (h : 1 ≤ n) : V two0 n = 2 := by
  obtain ⟨m, rfl⟩ : ∃ m, n = m + 1 := ⟨n - 1, by omega⟩
  exact V_one (fun j _ => rfl)
theorem jo_eq {a b : Nat} (h : a + 0 = b) : a = b := h
theorem jo_gt {a b c d W : Nat} (h1 : b + c < d) (h2 : a + W = b + c) : ¬ d < W := by omega
section JOIN
variable {X : Ctx} {σ : Nat → Nat → Nat} {mn iv tw : Nat}
set_option maxHeartbeats 2000000 in
theorem b_join (C : Cx X b_D_join 8 R_D) (hR : xR X = rm_D_join) (ht1 : 1 ≤ tw) (ht : tw < 512) (hiv : iv ≤ 4294967296) (hinv : (σ 4 0 * iv + 1) % 4294967296 = 0) (hA : V (σ 3) 16 < V (σ 4) 16) (hM : V (σ 4) 16 * 2 ^ tw < 4294967296 ^ 16)
    (k : ∀ u, (∀ q, kj q → u q = σ q) → V (u 3) 16 % V (σ 4) 16 = V (σ 3) 16 → V (u 3) 16 % 2 ^ tw = V (σ 1) 16 ^ V (σ 2) 16 % 2 ^ tw → V (u 3) 16 < V (σ 4) 16 * 2 ^ tw → Ret X b_D_join .return_ [] u mn iv tw) :
    J X 0 [(0, .ref (ex (xE X)))] [] σ mn iv tw := by
  obtain ⟨n, hn⟩ : ∃ n, n = (tw + 31) / 32 := ⟨_, rfl⟩
  have hn1 : 1 ≤ n := by omega
  have hn16 : n ≤ 16 := by omega
  have hdv : 2 ^ tw ∣ 4294967296 ^ n := by rw [pR]; exact Nat.pow_dvd_pow 2 (by omega)
  have hdv16 : 2 ^ tw ∣ 4294967296 ^ 16 := by rw [pR]; exact Nat.pow_dvd_pow 2 (by omega)
  have l5 : ln 5 = 32 := rfl
  have l7 : ln 7 = 16 := rfl
  have l8 : ln 8 = 16 := rfl
  have l11 : ln 11 = 16 := rfl
  -- the sum at the end
  have loopS : ∀ c, c < 2 ^ tw → (V (σ 3) 16 + V (σ 4) 16 * c) % 2 ^ tw = V (σ 1) 16 ^ V (σ 2) 16 % 2 ^ tw → ∀ d i w (τ ρ : Nat → Nat → Nat), i + d = 16 → w < 2 → (∀ q, q ≠ 3 → τ q = ρ q) → (∀ j, i ≤ j → τ 3 j = σ 3 j) → (∀ q, kj q → ρ q = σ q) → V (ρ 5) 16 = V (σ 4) 16 * c → V (τ 3) i + w * 4294967296 ^ i = V (σ 3) i + V (ρ 5) i →
      J X 263 [(0, .ref (ex (xE X))), (1, .int (nI n)), (2, .long (lN w)), (4, .int (nI i))] [] τ mn iv tw := by
    intro c hc hcm d
    induction d with
    | zero =>
      intro i w τ ρ hi hw h1 h2 h3 h5 h6
      obtain rfl : i = 16 := by omega
      refine J_iload C d_D_join_263 rfl ?_
      refine J_bipush C d_D_join_265 16 (by decide) ?_
      refine J_icmp_ge C d_D_join_267 (tgt := 318) (by decide) (by omega) (by omega) (fun c_267 => ?_) (fun c_267 => ?_)
      · have hlt : V (σ 3) 16 + V (σ 4) 16 * c < V (σ 4) 16 * 2 ^ tw := by
          have := Nat.mul_le_mul_left (V (σ 4) 16) (show c + 1 ≤ 2 ^ tw from hc)
          rw [Nat.mul_add, Nat.mul_one] at this
          omega
        have hw0 : w = 0 := by
          rcases (show w = 0 ∨ w = 1 by omega) with q | q
          · exact q
          · rw [q, Nat.one_mul, h5] at h6
            exact absurd hM (jo_gt hlt h6)
        have e3 : V (τ 3) 16 = V (σ 3) 16 + V (σ 4) 16 * c := by rw [hw0, Nat.zero_mul, h5] at h6; exact jo_eq h6
        refine k τ (fun q hq => by have hq' := hq; unfold kj at hq'; rw [h1 q (by omega)]; exact h3 q hq) ?_ (by rw [e3]; exact hcm) (by rw [e3]; exact hlt) _ _ d_D_join_318
        rw [e3, Nat.add_mul_mod_self_left, Nat.mod_eq_of_lt hA]
      · omega
    | succ d ih =>
      intro i w τ ρ hi hw h1 h2 h3 h5 h6
      refine J_wb (fun hwb => ?_)
      have hx := hwb 3 i
      have hy := hwb 5 i
      refine J_iload C d_D_join_263 rfl ?_
      refine J_bipush C d_D_join_265 16 (by decide) ?_
      refine J_icmp_ge C d_D_join_267 (tgt := 318) (by decide) (by omega) (by omega) (fun c_267 => ?_) (fun c_267 => ?_)
      · omega
      · refine J_lload_n C d_D_join_270 2 rfl rfl ?_
        refine J_aload_n C d_D_join_271 0 rfl rfl ?_
        refine J_get_answer C d_D_join_272 ?_
        refine J_iload C d_D_join_275 rfl ?_
        refine J_iaload C d_D_join_277 (by decide) (by show _ < 16; omega) ?_
        refine J_word C d_D_join_278 d_D_join_279 d_D_join_282 (by first | exact hwb _ _ | omega) ?_
        refine J_aload_n C d_D_join_283 0 rfl rfl ?_
        refine J_get_product C d_D_join_284 ?_
        refine J_iload C d_D_join_287 rfl ?_
        refine J_iaload C d_D_join_289 (by decide) (by show _ < 32; omega) ?_
        refine J_word C d_D_join_290 d_D_join_291 d_D_join_294 (by first | exact hwb _ _ | omega) ?_
        refine J_ladd C d_D_join_295 ?_
        refine J_ladd C d_D_join_296 ?_
        refine J_lstore_n (lv' := [(0, _), (1, _), (2, _), (4, _)]) C d_D_join_297 2 rfl (by decide) rfl rfl ?_
        refine J_aload_n C d_D_join_298 0 rfl rfl ?_
        refine J_get_answer C d_D_join_299 ?_
        refine J_iload C d_D_join_302 rfl ?_
        refine J_lload_n C d_D_join_304 2 rfl rfl ?_
        refine J_l2i C d_D_join_305 ?_
        refine J_iastore C d_D_join_306 (by decide) (by show _ < 16; omega) ?_
        refine J_wb (fun hwb => ?_)
        refine J_lload_n C d_D_join_307 2 rfl rfl ?_
        refine J_bipush C d_D_join_308 32 (by decide) ?_
        refine J_lushr C d_D_join_310 4294967296 rfl (by omega) (by decide) ?_
        refine J_lstore_n (lv' := [(0, _), (1, _), (2, _), (4, _)]) C d_D_join_311 2 rfl (by decide) rfl rfl ?_
        refine J_iinc (lv' := [(0, _), (1, _), (2, _), (4, _)]) C d_D_join_312 rfl (inc1 _) (by decide) rfl rfl ?_
        refine J_goto C d_D_join_315 (tgt := 263) (by decide) ?_
        refine ih (i + 1) _ _ ρ (by omega) (by omega) (fun q hq => by rw [up_n hq]; exact h1 q hq) (fun j hj => by rw [up_s, uf_n (by omega)]; exact h2 j (by omega)) h3 h5 ?_
        have e := cst (b := 4294967296) (d := σ 3 i + ρ 5 i) h6 (show (w + (τ 3 i + τ 5 i)) % 4294967296 + (w + (τ 3 i + τ 5 i)) / 4294967296 * 4294967296 = σ 3 i + ρ 5 i + w by rw [← h2 i (Nat.le_refl i), ← h1 5 (by decide)]; omega)
        unfold V at e ⊢
        rw [Nat.add_mul] at e
        rw [up_s, vl_uf_last, vl_s, vl_s, Nat.pow_succ]
        omega
  -- behind Newton's loop
  have seg : ∀ τ, (∀ q, kj q → τ q = σ q) → τ 3 = σ 3 → V (τ 9) 16 = V (σ 1) 16 ^ V (σ 2) 16 % 2 ^ tw → (∃ c : Int, (V (σ 4) 16 : Int) * V (τ 7) 16 - 1 = 2 ^ tw * c) → ∀ r : Nat,
      J X 181 [(0, .ref (ex (xE X))), (1, .int (nI n)), (2, .int (nI r))] [] τ mn iv tw := by
    intro τ hk h3 h9 h7 r
    refine J_aload_n C d_D_join_181 0 rfl rfl ?_
    refine J_get_low C d_D_join_182 ?_
    refine J_aload_n C d_D_join_185 0 rfl rfl ?_
    refine J_get_answer C d_D_join_186 ?_
    refine J_callSv C d_D_join_189 (c_subtract (σ := τ) (xl X) (xE X) (xA X) (ka := 9) (kb := 3) (by decide) (by decide) (by decide) (by decide) (by decide)) ⟨⟨ml_D_70, ini_D, mc_D_subtract⟩, co_D_subtract, ⟨rfl, rfl⟩, by rw [hR]; decide⟩ st_D_subtract rfl (by decide) (fun s189 h189 => ?_)
    refine J_wb (fun hwb => ?_)
    obtain ⟨g1, g2, w, g3, g4⟩ := h189
    rw [h3, h9] at g4
    refine J_aload_n C d_D_join_192 0 rfl rfl ?_
    refine J_get_low C d_D_join_193 ?_
    refine J_aload_n C d_D_join_196 0 rfl rfl ?_
    refine J_get_one C d_D_join_197 ?_
    refine J_iload_n C d_D_join_200 1 rfl rfl ?_
    refine J_aload_n C d_D_join_201 0 rfl rfl ?_
    refine J_get_product C d_D_join_202 ?_
    refine J_callSv C d_D_join_205 (c_times (σ := s189) (xl X) (xE X) (xA X) (ka := 9) (kb := 7) (n := n) (kt := 5) (by decide) (by decide) (by decide) (by decide) (by decide) (by decide) (by decide) (by omega)) ⟨⟨ml_D_92, ini_D, mc_D_times⟩, co_D_times, ⟨rfl, rfl⟩, by rw [hR]; decide⟩ st_D_times rfl (by decide) (fun s205 h205 => ?_)
    refine J_wb (fun hwb => ?_)
    obtain ⟨f1, f2, f3⟩ := h205
    refine J_aload_n C d_D_join_208 0 rfl rfl ?_
    refine J_get_product C d_D_join_209 ?_
    refine J_iconst C d_D_join_212 0 (by decide) ?_
    refine J_aload_n C d_D_join_213 0 rfl rfl ?_
    refine J_get_square C d_D_join_214 ?_
    refine J_iconst C d_D_join_217 0 (by decide) ?_
    refine J_iload_n C d_D_join_218 1 rfl rfl ?_
    refine J_copy C d_D_join_219 (by decide) (by decide) (by omega) (by omega) (by rw [hR]; decide) (by rw [hR]; decide) ?_
    refine J_wb (fun hwb => ?_)
    refine J_aload_n C d_D_join_222 0 rfl rfl ?_
    refine J_get_square C d_D_join_223 ?_
    refine J_iload_n C d_D_join_226 1 rfl rfl ?_
    refine J_bipush C d_D_join_227 16 (by decide) ?_
    refine J_iconst C d_D_join_229 0 (by decide) ?_
    refine J_callSv C d_D_join_230 (c_fill4 (xl X) (xE X) (xA X) (ka := 8) (a := n) (b := 16) (v := 0) (by decide) hn16 (by decide) (by decide)) ⟨⟨ml_D_56, ini_A, mc_A_fill4⟩, co_A_fill4, ⟨rfl, rfl⟩, by rw [hR]; decide⟩ st_A_fill4 rfl (by decide) (fun s230 h230 => ?_)
    refine J_wb (fun hwb => ?_)
    obtain ⟨p1, p2, p3⟩ := h230
    have e8 : V (s230 8) 16 = V (s205 5) n := by
      have e1 : V (s230 8) 16 = V (s230 8) n := vl_top hn16 (fun j a1 a2 => p2 j a1 a2)
      rw [e1]
      exact vl_congr (fun j hj => by rw [p3 j (Or.inl hj), up_s, cpy_lt hj])
    rw [f3, g1 7 (by decide)] at e8
    refine J_aload_n C d_D_join_233 0 rfl rfl ?_
    refine J_aload_n C d_D_join_234 0 rfl rfl ?_
    refine J_get_square C d_D_join_235 ?_
    refine J_callVv R_D (ex (xE X)) C (fun _ _ => recvD C) d_D_join_238 (c_cut (σ := s230) (xl X) (xE X) (xA X) (ka := 8) (by decide) (by decide) ht) ⟨⟨ml_D_139, ini_D, mc_D_cut⟩, co_D_cut, ⟨rfl, rfl⟩, by rw [hR]; decide⟩ im_D_cut se_D_cut rfl (by decide) (fun s238 h238 => ?_)
    refine J_wb (fun hwb => ?_)
    obtain ⟨o1, o2⟩ := h238
    rw [e8, Nat.mod_mod_of_dvd _ hdv] at o2
    have e4 : s238 4 = σ 4 := by rw [o1 4 (by decide), p1 4 (by decide), up_n (by decide), f1 4 (by decide), g1 4 (by decide)]; exact hk 4 (by unfold kj; omega)
    refine J_aload_n C d_D_join_241 0 rfl rfl ?_
    refine J_get_odd C d_D_join_242 ?_
    refine J_aload_n C d_D_join_245 0 rfl rfl ?_
    refine J_get_square C d_D_join_246 ?_
    refine J_bipush C d_D_join_249 16 (by decide) ?_
    refine J_aload_n C d_D_join_251 0 rfl rfl ?_
    refine J_get_product C d_D_join_252 ?_
    refine J_callSv C d_D_join_255 (c_times (σ := s238) (xl X) (xE X) (xA X) (ka := 4) (kb := 8) (n := 16) (kt := 5) (by decide) (by decide) (by decide) (by decide) (by decide) (by decide) (by decide) (by decide)) ⟨⟨ml_D_92, ini_D, mc_D_times⟩, co_D_times, ⟨rfl, rfl⟩, by rw [hR]; decide⟩ st_D_times rfl (by decide) (fun s255 h255 => ?_)
    refine J_wb (fun hwb => ?_)
    obtain ⟨t1, t2, t3⟩ := h255
    rw [e4, o2] at t3
    have hc : V (s189 9) 16 * V (τ 7) 16 % 2 ^ tw < 2 ^ tw := Nat.mod_lt _ (Nat.two_pow_pos tw)
    have hcm := crt1 g4 hdv16 rfl h7 (Nat.mod_lt _ (Nat.two_pow_pos tw))
    generalize V (s189 9) 16 * V (τ 7) 16 % 2 ^ tw = c at t3 hc hcm
    have hOc : V (σ 4) 16 * c < 4294967296 ^ 16 := Nat.lt_of_le_of_lt (Nat.mul_le_mul_left _ (Nat.le_of_lt hc)) hM
    rw [Nat.mod_eq_of_lt hOc] at t3
    refine J_lconst C d_D_join_258 0 rfl ?_
    refine J_lstore_n (lv' := [(0, _), (1, _), (2, _)]) C d_D_join_259 2 rfl (by decide) rfl rfl ?_
    refine J_iconst C d_D_join_260 0 (by decide) ?_
    refine J_istore (lv' := [(0, _), (1, _), (2, _), (4, _)]) C d_D_join_261 (by decide) rfl rfl ?_
    refine loopS c hc hcm 16 0 0 s255 s255 (by omega) (by decide) (fun _ _ => rfl) (fun j _ => ?_) (fun q hq => ?_) t3 ?_
    · rw [t1 3 (by decide), o1 3 (by decide), p1 3 (by decide), up_n (by decide), f1 3 (by decide), g1 3 (by decide), h3]
    · have hq' := hq; unfold kj at hq'
      rw [t1 q (by omega), o1 q (by omega), p1 q (by omega), up_n (by omega), f1 q (by omega), g1 q (by omega)]; exact hk q hq
    · rw [show V (s255 3) 0 = 0 from rfl, show V (σ 3) 0 = 0 from rfl, show V (s255 5) 0 = 0 from rfl, Nat.zero_mul]
  have loopN : ∀ d r τ, 512 ≤ r * 2 ^ d → 32 ≤ r → r ≤ 1024 → (∀ q, kj q → τ q = σ q) → τ 3 = σ 3 → V (τ 9) 16 = V (σ 1) 16 ^ V (σ 2) 16 % 2 ^ tw → (∀ j, n ≤ j → j < 16 → τ 7 j = 0) → (∃ c : Int, (V (σ 4) 16 : Int) * V (τ 7) 16 - 1 = 2 ^ (min r (32 * n)) * c) →
      J X 41 [(0, .ref (ex (xE X))), (1, .int (nI n)), (2, .int (nI r))] [] τ mn iv tw := by
    intro d
    induction d with
    | zero =>
      intro r τ hr hr1 hr2 hk h3 h9 hz h7
      rw [Nat.pow_zero, Nat.mul_one] at hr
      refine J_iload_n C d_D_join_41 2 rfl rfl ?_
      refine J_aload_n C d_D_join_42 0 rfl rfl ?_
      refine J_get_twos C d_D_join_43 ?_
      refine J_icmp_ge C d_D_join_46 (tgt := 181) (by decide) (by omega) (by omega) (fun c_46 => ?_) (fun c_46 => ?_)
      · refine seg τ hk h3 h9 ?_ r
        obtain ⟨c, hc⟩ := h7
        refine ⟨2 ^ (min r (32 * n) - tw) * c, ?_⟩
        rw [hc, ← Int.mul_assoc, ← Int.pow_add, show tw + (min r (32 * n) - tw) = min r (32 * n) by omega]
      · omega
    | succ d ih =>
      intro r τ hr hr1 hr2 hk h3 h9 hz h7
      refine J_iload_n C d_D_join_41 2 rfl rfl ?_
      refine J_aload_n C d_D_join_42 0 rfl rfl ?_
      refine J_get_twos C d_D_join_43 ?_
      refine J_icmp_ge C d_D_join_46 (tgt := 181) (by decide) (by omega) (by omega) (fun c_46 => ?_) (fun c_46 => ?_)
      · refine seg τ hk h3 h9 ?_ r
        obtain ⟨c, hc⟩ := h7
        refine ⟨2 ^ (min r (32 * n) - tw) * c, ?_⟩
        rw [hc, ← Int.mul_assoc, ← Int.pow_add, show tw + (min r (32 * n) - tw) = min r (32 * n) by omega]
      · refine J_aload_n C d_D_join_49 0 rfl rfl ?_
        refine J_get_odd C d_D_join_50 ?_
        refine J_aload_n C d_D_join_53 0 rfl rfl ?_
        refine J_get_one C d_D_join_54 ?_
        refine J_iload_n C d_D_join_57 1 rfl rfl ?_
        refine J_aload_n C d_D_join_58 0 rfl rfl ?_
        refine J_get_product C d_D_join_59 ?_
        refine J_callSv C d_D_join_62 (c_times (σ := τ) (xl X) (xE X) (xA X) (ka := 4) (kb := 7) (n := n) (kt := 5) (by decide) (by decide) (by decide) (by decide) (by decide) (by decide) (by decide) (by omega)) ⟨⟨ml_D_92, ini_D, mc_D_times⟩, co_D_times, ⟨rfl, rfl⟩, by rw [hR]; decide⟩ st_D_times rfl (by decide) (fun s62 h62 => ?_)
        refine J_wb (fun hwb => ?_)
        refine J_lconst C d_D_join_65 0 rfl ?_
        refine J_lstore_n (lv' := [(0, _), (1, _), (2, _), (3, _)]) C d_D_join_66 3 rfl (by decide) rfl rfl ?_
        refine J_iconst C d_D_join_67 0 (by decide) ?_
        refine J_istore (lv' := [(0, _), (1, _), (2, _), (3, _), (5, _)]) C d_D_join_68 (by decide) rfl rfl ?_
        obtain ⟨g1, g2, g3⟩ := h62
        rw [hk 4 (by unfold kj; omega)] at g3
        -- two less that
        have loopP : ∀ e i w ρ, i + e = n → w < 2 → (∀ q, q ≠ 11 → ρ q = s62 q) → V (ρ 11) i + V (s62 5) i = V two0 i + w * 4294967296 ^ i →
            J X 70 [(0, .ref (ex (xE X))), (1, .int (nI n)), (2, .int (nI r)), (3, .long (lN w)), (5, .int (nI i))] [] ρ mn iv tw := by
          intro e
          induction e with
          | zero =>
            intro i w ρ hi hw q1 q2
            obtain rfl : i = n := by omega
            rw [two0_V hn1] at q2
            refine J_iload C d_D_join_70 rfl ?_
            refine J_iload_n C d_D_join_72 1 rfl rfl ?_
            refine J_icmp_ge C d_D_join_73 (tgt := 133) (by decide) (by omega) (by omega) (fun c_73 => ?_) (fun c_73 => ?_)
            · refine J_aload_n C d_D_join_133 0 rfl rfl ?_
              refine J_get_plain C d_D_join_134 ?_
              refine J_iload_n C d_D_join_137 1 rfl rfl ?_
              refine J_bipush C d_D_join_138 16 (by decide) ?_
              refine J_iconst C d_D_join_140 0 (by decide) ?_
              refine J_callSv C d_D_join_141 (c_fill4 (σ := ρ) (xl X) (xE X) (xA X) (ka := 11) (a := i) (b := 16) (v := 0) (by decide) hn16 (by decide) (by decide)) ⟨⟨ml_D_56, ini_A, mc_A_fill4⟩, co_A_fill4, ⟨rfl, rfl⟩, by rw [hR]; decide⟩ st_A_fill4 rfl (by decide) (fun s141 h141 => ?_)
              refine J_wb (fun hwb => ?_)
              obtain ⟨p1, p2, p3⟩ := h141
              have e11 : V (s141 11) 16 = V (ρ 11) i := by
                have e1 : V (s141 11) 16 = V (s141 11) i := vl_top hn16 (fun j a1 a2 => p2 j a1 a2)
                rw [e1]
                exact vl_congr (fun j hj => p3 j (Or.inl hj))
              refine J_aload_n C d_D_join_144 0 rfl rfl ?_
              refine J_get_one C d_D_join_145 ?_
              refine J_aload_n C d_D_join_148 0 rfl rfl ?_
              refine J_get_plain C d_D_join_149 ?_
              refine J_iload_n C d_D_join_152 1 rfl rfl ?_
              refine J_aload_n C d_D_join_153 0 rfl rfl ?_
              refine J_get_product C d_D_join_154 ?_
              refine J_callSv C d_D_join_157 (c_times (σ := s141) (xl X) (xE X) (xA X) (ka := 7) (kb := 11) (n := i) (kt := 5) (by decide) (by decide) (by decide) (by decide) (by decide) (by decide) (by decide) (by omega)) ⟨⟨ml_D_92, ini_D, mc_D_times⟩, co_D_times, ⟨rfl, rfl⟩, by rw [hR]; decide⟩ st_D_times rfl (by decide) (fun s157 h157 => ?_)
              refine J_wb (fun hwb => ?_)
              obtain ⟨f1, f2, f3⟩ := h157
              have e7 : s141 7 = τ 7 := by rw [p1 7 (by decide), q1 7 (by decide), g1 7 (by decide)]
              rw [e11, e7] at f3
              refine J_aload_n C d_D_join_160 0 rfl rfl ?_
              refine J_get_product C d_D_join_161 ?_
              refine J_iconst C d_D_join_164 0 (by decide) ?_
              refine J_aload_n C d_D_join_165 0 rfl rfl ?_
              refine J_get_one C d_D_join_166 ?_
              refine J_iconst C d_D_join_169 0 (by decide) ?_
              refine J_iload_n C d_D_join_170 1 rfl rfl ?_
              refine J_copy C d_D_join_171 (by decide) (by decide) (by omega) (by omega) (by rw [hR]; decide) (by rw [hR]; decide) ?_
              refine J_wb (fun hwb => ?_)
              refine J_iload_n C d_D_join_174 2 rfl rfl ?_
              refine J_iconst C d_D_join_175 2 (by decide) ?_
              refine J_imul C d_D_join_176 ?_
              refine J_istore_n (lv' := [(0, _), (1, _), (2, _), (3, _), (5, _)]) C d_D_join_177 2 rfl (by decide) rfl rfl ?_
              refine J_goto C d_D_join_178 (tgt := 41) (by decide) ?_
              refine J_sub [0, 1, 2] rfl ?_
              have z7 : ∀ j, i ≤ j → j < 16 → s157 7 j = 0 := fun j a1 a2 => by rw [f1 7 (by decide), e7]; exact hz j a1 a2
              have hall : ∀ q, q ≠ 5 → q ≠ 7 → q ≠ 11 → (up s157 7 (va_cpy (s157 5) (s157 7) 0 0 i)) q = τ q := fun q a5 a7 a11 => by rw [up_n a7, f1 q a5, p1 q a11, q1 q a11, g1 q a5]
              refine ih (r * 2) _ (by rw [Nat.pow_succ] at hr; rw [Nat.mul_assoc, Nat.mul_comm 2]; exact hr) (by omega) (by omega) (fun q hq => by have hq' := hq; unfold kj at hq'; rw [hall q (by omega) (by omega) (by omega)]; exact hk q hq) (by rw [hall 3 (by decide) (by decide) (by decide), h3]) (by rw [hall 9 (by decide) (by decide) (by decide), h9]) (fun j a1 a2 => by rw [up_s, cpy_ge a1]; exact z7 j a1 a2) ?_
              rw [up_s, V_cpyn hn16 z7, f3, pR]
              rw [pR] at g3 q2
              exact nstepJ (d := min r (32 * i)) (by omega) (by omega) g3 q2 h7
            · omega
          | succ e ihe =>
            intro i w ρ hi hw q1 q2
            refine J_wb (fun hwb => ?_)
            have hx := hwb 5 i
            have seg86 : ∀ z, z < 3 → z = two0 i → J X 86 [(0, .ref (ex (xE X))), (1, .int (nI n)), (2, .int (nI r)), (3, .long (lN w)), (5, .int (nI i))] [.int (nI z)] ρ mn iv tw := by
              intro z hz3 hz0
              have fin : ∀ w', w' < 2 → (z + 18446744073709551616 - ρ 5 i + 18446744073709551616 - w) % 4294967296 + ρ 5 i + w = z + w' * 4294967296 → ∀ lv, lv = [(0, .ref (ex (xE X))), (1, .int (nI n)), (2, .int (nI r)), (3, .long (lN w)), (5, .int (nI i)), (6, .long (lN ((z + 18446744073709551616 - ρ 5 i + 18446744073709551616 - w) % 18446744073709551616)))] →
                  J X 126 lv [.long (lN w')] (up ρ 11 (uf (ρ 11) i ((z + 18446744073709551616 - ρ 5 i + 18446744073709551616 - w) % 4294967296))) mn iv tw := by
                intro w' hw' hv lv hlv
                subst hlv
                refine J_lstore_n (lv' := [(0, _), (1, _), (2, _), (3, _), (5, _), (6, _)]) C d_D_join_126 3 rfl (by decide) rfl rfl ?_
                refine J_iinc (lv' := [(0, _), (1, _), (2, _), (3, _), (5, _), (6, _)]) C d_D_join_127 rfl (inc1 _) (by decide) rfl rfl ?_
                refine J_goto C d_D_join_130 (tgt := 70) (by decide) ?_
                refine J_sub [0, 1, 2, 3, 4] rfl ?_
                refine ihe (i + 1) w' _ (by omega) hw' (fun q hq => by rw [up_n hq]; exact q1 q hq) ?_
                have e5 := bst (b := 4294967296) q2 (show (z + 18446744073709551616 - ρ 5 i + 18446744073709551616 - w) % 4294967296 + s62 5 i + w = two0 i + w' * 4294967296 by rw [← q1 5 (by decide), ← hz0]; exact hv)
                unfold V at e5 ⊢
                rw [up_s, vl_uf_last, vl_s, vl_s, Nat.pow_succ]
                exact e5
              refine J_i2l C d_D_join_86 (by omega) ?_
              refine J_aload_n C d_D_join_87 0 rfl rfl ?_
              refine J_get_product C d_D_join_88 ?_
              refine J_iload C d_D_join_91 rfl ?_
              refine J_iaload C d_D_join_93 (by decide) (by show _ < 32; omega) ?_
              refine J_word C d_D_join_94 d_D_join_95 d_D_join_98 (hwb _ _) ?_
              refine J_lsub C d_D_join_99 (by omega) ?_
              refine J_lload_n C d_D_join_100 3 rfl rfl ?_
              refine J_lsub C d_D_join_101 (by omega) ?_
              refine J_lstore (lv' := [(0, _), (1, _), (2, _), (3, _), (5, _), (6, _)]) C d_D_join_102 (by decide) rfl rfl ?_
              refine J_aload_n C d_D_join_104 0 rfl rfl ?_
              refine J_get_plain C d_D_join_105 ?_
              refine J_iload C d_D_join_108 rfl ?_
              refine J_lload C d_D_join_110 rfl ?_
              refine J_l2i C d_D_join_112 ?_
              refine J_iastore C d_D_join_113 (by decide) (by show _ < 16; omega) ?_
              refine J_lload C d_D_join_114 rfl ?_
              refine J_lconst C d_D_join_116 0 rfl ?_
              rw [← lb_mod (z + 18446744073709551616 - ρ 5 i + 18446744073709551616 - w)]
              refine J_lcmp0ge C d_D_join_117 d_D_join_118 (tgt := 125) (by decide) (by omega) (fun c_117 => ?_) (fun c_117 => ?_)
              · refine J_lconst C d_D_join_125 0 rfl ?_
                exact fin 0 (by decide) (by omega) _ rfl
              · refine J_lconst C d_D_join_121 1 rfl ?_
                refine J_goto C d_D_join_122 (tgt := 126) (by decide) ?_
                exact fin 1 (by decide) (by omega) _ rfl
            refine J_iload C d_D_join_70 rfl ?_
            refine J_iload_n C d_D_join_72 1 rfl rfl ?_
            refine J_icmp_ge C d_D_join_73 (tgt := 133) (by decide) (by omega) (by omega) (fun c_73 => ?_) (fun c_73 => ?_)
            · omega
            · refine J_iload C d_D_join_76 rfl ?_
              refine J_ifne C d_D_join_78 (tgt := 85) (by decide) (by first | exact hwb _ _ | omega) (fun c_78 => ?_) (fun c_78 => ?_)
              · refine J_iconst C d_D_join_85 0 (by decide) ?_
                exact seg86 0 (by decide) (by unfold two0; rw [uf_n (by omega)])
              · refine J_iconst C d_D_join_81 2 (by decide) ?_
                refine J_goto C d_D_join_82 (tgt := 86) (by decide) ?_
                exact seg86 2 (by decide) (by rw [c_78]; rfl)
        exact loopP n 0 0 s62 (by omega) (by decide) (fun _ _ => rfl) (by rw [show V (s62 11) 0 = 0 from rfl, show V (s62 5) 0 = 0 from rfl, show V two0 0 = 0 from rfl, Nat.zero_mul])
  refine J_aload_n C d_D_join_0 0 rfl rfl ?_
  refine J_get_twos C d_D_join_1 ?_
  refine J_bipush C d_D_join_4 31 (by decide) ?_
  refine J_iadd C d_D_join_6 ?_
  refine J_bipush C d_D_join_7 32 (by decide) ?_
  refine J_idiv C d_D_join_9 (by omega) (by decide) (by decide) ?_
  rw [← hn]
  refine J_istore_n (lv' := [(0, _), (1, _)]) C d_D_join_10 1 rfl (by decide) rfl rfl ?_
  refine J_aload_n C d_D_join_11 0 rfl rfl ?_
  refine J_aload_n C d_D_join_12 0 rfl rfl ?_
  refine J_get_low C d_D_join_13 ?_
  refine J_callVv R_D (ex (xE X)) C (fun _ _ => recvD C) d_D_join_16 (c_powerOfTwos (σ := σ) (xl X) (xE X) (xA X) (kt := 9) (by decide) (by decide) ht1 ht) ⟨⟨ml_D_107, ini_D, mc_D_powerOfTwos⟩, co_D_powerOfTwos, ⟨rfl, rfl⟩, by rw [hR]; decide⟩ im_D_powerOfTwos se_D_powerOfTwos rfl (by decide) (fun s16 h16 => ?_)
  refine J_wb (fun hwb => ?_)
  obtain ⟨g1, g2⟩ := h16
  refine J_aload_n C d_D_join_19 0 rfl rfl ?_
  refine J_get_one C d_D_join_20 ?_
  refine J_iconst C d_D_join_23 0 (by decide) ?_
  refine J_callSv C d_D_join_24 (c_fill2 (σ := s16) (xl X) (xE X) (xA X) (ka := 7) (v := 0) (by decide) (by decide)) ⟨⟨ml_D_122, ini_A, mc_A_fill2⟩, co_A_fill2, ⟨rfl, rfl⟩, by rw [hR]; decide⟩ st_A_fill2 rfl (by decide) (fun s24 h24 => ?_)
  refine J_wb (fun hwb => ?_)
  obtain ⟨f1, f2, f3⟩ := h24
  refine J_aload_n C d_D_join_27 0 rfl rfl ?_
  refine J_get_one C d_D_join_28 ?_
  refine J_iconst C d_D_join_31 0 (by decide) ?_
  refine J_aload_n C d_D_join_32 0 rfl rfl ?_
  refine J_get_inverse C d_D_join_33 ?_
  refine J_ineg C d_D_join_36 (by omega) ?_
  refine J_iastore C d_D_join_37 (by decide) (by show _ < 16; omega) ?_
  refine J_wb (fun hwb => ?_)
  refine J_bipush C d_D_join_38 32 (by decide) ?_
  refine J_istore_n (lv' := [(0, _), (1, _), (2, _)]) C d_D_join_40 2 rfl (by decide) rfl rfl ?_
  have q7 : V ((up s24 7 (uf (s24 7) 0 ((4294967296 - iv) % 4294967296))) 7) 16 = (4294967296 - iv) % 4294967296 := by rw [up_s]; exact V_one (n := 15) (fun j hj => f2 j hj)
  refine loopN 4 32 _ (by decide) (by decide) (by decide) (fun q hq => ?_) ?_ ?_ (fun j a1 a2 => by rw [up_s, uf_n (by omega)]; exact f2 j a2) ?_
  · have hq' := hq; unfold kj at hq'
    rw [up_n (by omega), f1 q (by omega), g1 q (by omega) (by omega) (by omega) (by omega)]
  · rw [up_n (by decide), f1 3 (by decide), g1 3 (by decide) (by decide) (by decide) (by decide)]
  · rw [up_n (by decide), f1 9 (by decide), g2]
  · rw [q7, show min 32 (32 * n) = 32 by omega]
    exact inv32 hiv hinv
theorem c_join (l : Launch) (E : En) (A : Nat → Prop) (ht1 : 1 ≤ tw) (ht : tw < 512) (hiv : iv ≤ 4294967296) (hinv : (σ 4 0 * iv + 1) % 4294967296 = 0) (hA : V (σ 3) 16 < V (σ 4) 16) (hM : V (σ 4) 16 * 2 ^ tw < 4294967296 ^ 16) : MV l y_D_join b_D_join 8 rm_D_join [.ref (ex E)] E A σ mn iv tw (fun u => (∀ q, kj q → u q = σ q) ∧ V (u 3) 16 % V (σ 4) 16 = V (σ 3) 16 ∧ V (u 3) 16 % 2 ^ tw = V (σ 1) 16 ^ V (σ 2) 16 % 2 ^ tw ∧ V (u 3) 16 < V (σ 4) 16 * 2 ^ tw) :=
  mk_v (by decide) (Nat.le_of_ble_eq_true rfl) (fun X C hR hE k => by subst hE; exact b_join C hR ht1 ht hiv hinv hA hM (fun u h1 h2 h3 h4 => k u ⟨h1, h2, h3, h4⟩))
end JOIN
end
section
/-! the desk's raise -/
/-- the arrays that raise may change -/
def rz (q : Nat) : Prop := 3 ≤ q ∧ q ≤ 28
theorem one_word {f : Nat → Nat} {m : Nat} (hm1 : 1 ≤ m) (hm : m ≤ 16) (h : V f 16 = 1) (hn : f (m - 1) ≠ 0) : m = 1 ∧ f 0 = 1 := by
  have h1 := vl_ge (b := 4294967296) (f := f) (j := m - 1) (n := 16) (by omega)
  have h2 : 4294967296 ^ (m - 1) ≤ f (m - 1) * 4294967296 ^ (m - 1) := Nat.le_mul_of_pos_left _ (by omega)
  have hm' : m = 1 := by
    rcases Nat.lt_or_ge m 2 with q | q
    · omega
    · have h3 : 4294967296 ^ 1 ≤ 4294967296 ^ (m - 1) := Nat.pow_le_pow_right (by decide) (by omega)
      rw [Nat.pow_one] at h3
      unfold V at h
      omega
  subst hm'
  have e : V f 16 = f 0 + 4294967296 * vl 4294967296 (fun j => f (j + 1)) 15 := vl_head
  generalize vl 4294967296 (fun j => f (j + 1)) 15 = R at e
  exact ⟨rfl, by omega⟩
theorem is_one {f : Nat → Nat} (hw : ∀ j, f j < 4294967296) (h : V f 16 < 4294967296 ^ 1) (h0 : f 0 = 1) : V f 16 = 1 := by
  have e : V f 16 = V f 1 := V_cut (by decide) h
  rw [e]
  have e2 : V f 1 = 0 + f 0 * 4294967296 ^ 0 := rfl
  rw [e2, h0, Nat.pow_zero]
section RAISE
variable {X : Ctx} {σ : Nat → Nat → Nat} {mn iv tw : Nat}
theorem b_raise (C : Cx X b_D_raise 1 R_D) (hR : xR X = rm_D_raise) (hM : 2 ≤ V (σ 0) 16)
    (k : ∀ u mn' iv' tw', (∀ q, ¬ rz q → u q = σ q) → V (u 3) 16 = V (σ 1) 16 ^ V (σ 2) 16 % V (σ 0) 16 → Ret X b_D_raise .return_ [] u mn' iv' tw') :
    J X 0 [(0, .ref (ex (xE X)))] [] σ mn iv tw := by
  refine J_wb (fun hw0 => ?_)
  have hM16 := V_lt hw0 0 16
  -- behind split
  have seg : ∀ τ m v t, (∀ q, q ≠ 4 → τ q = σ q) → t < 512 → V (τ 4) 16 * 2 ^ t = V (σ 0) 16 → V (τ 4) 16 % 2 = 1 → 1 ≤ m → m ≤ 16 → V (τ 4) 16 < 4294967296 ^ m → τ 4 (m - 1) ≠ 0 → v ≤ 4294967296 → (τ 4 0 * v + 1) % 4294967296 = 0 → J X 4 [(0, .ref (ex (xE X)))] [] τ m v t := by
    intro τ m v t h1 h2 h3 h4 h5 h6 h7 h8 h9 h10
    have odd : V (τ 4) 16 ≠ 1 → J X 31 [(0, .ref (ex (xE X)))] [] τ m v t := by
      intro ho1
      refine J_aload_n C d_D_raise_31 0 rfl rfl ?_
      refine J_callVv R_D (ex (xE X)) C (fun _ _ => recvD C) d_D_raise_32 (c_powerOfOdd (σ := τ) (xl X) (xE X) (xA X) h5 h6 h7 h4 ho1 h10) ⟨⟨ml_D_110, ini_D, mc_D_powerOfOdd⟩, co_D_powerOfOdd, ⟨rfl, rfl⟩, by rw [hR]; decide⟩ im_D_powerOfOdd se_D_powerOfOdd rfl (by decide) (fun s32 h32 => ?_)
      refine J_wb (fun hwb => ?_)
      obtain ⟨g1, g2⟩ := h32
      rw [h1 1 (by decide), h1 2 (by decide)] at g2
      have e4 : s32 4 = τ 4 := g1 4 (by unfold kp; omega)
      have e1 : s32 1 = σ 1 := by rw [g1 1 (by unfold kp; omega), h1 1 (by decide)]
      have e2 : s32 2 = σ 2 := by rw [g1 2 (by unfold kp; omega), h1 2 (by decide)]
      have gk : ∀ q, ¬ rz q → s32 q = σ q := fun q hq => by unfold rz at hq; rw [g1 q (by unfold kp; omega), h1 q (by omega)]
      have hO : 0 < V (τ 4) 16 := by rw [← Nat.pos_iff_ne_zero.symm]; intro h; rw [h] at h4; exact absurd h4 (by decide)
      refine J_aload_n C d_D_raise_35 0 rfl rfl ?_
      refine J_get_twos C d_D_raise_36 ?_
      refine J_ifle C d_D_raise_39 (tgt := 46) (by decide) (by omega) (fun c_39 => ?_) (fun c_39 => ?_)
      · refine k s32 m v t gk ?_ _ _ d_D_raise_46
        rw [g2, ← h3, c_39, Nat.pow_zero, Nat.mul_one]
      · refine J_aload_n C d_D_raise_42 0 rfl rfl ?_
        refine J_callVv R_D (ex (xE X)) C (fun _ _ => recvD C) d_D_raise_43 (c_join (σ := s32) (xl X) (xE X) (xA X) c_39 h2 h9 (by rw [e4]; exact h10) (by rw [e4, g2]; exact Nat.mod_lt _ hO) (by rw [e4, h3]; exact hM16)) ⟨⟨ml_D_116, ini_D, mc_D_join⟩, co_D_join, ⟨rfl, rfl⟩, by rw [hR]; decide⟩ im_D_join se_D_join rfl (by decide) (fun s43 h43 => ?_)
        refine J_wb (fun hwb => ?_)
        obtain ⟨f1, f2, f3, f4⟩ := h43
        refine k s43 m v t (fun q hq => by have hq' := hq; unfold rz at hq'; rw [f1 q (by unfold kj; omega)]; exact gk q hq) ?_ _ _ d_D_raise_46
        rw [e4] at f2 f4
        rw [g2] at f2
        rw [e1, e2] at f3
        rw [← h3]
        have d1 : V (τ 4) 16 ∣ V (τ 4) 16 * 2 ^ t := ⟨_, rfl⟩
        have d2 : 2 ^ t ∣ V (τ 4) 16 * 2 ^ t := ⟨_, Nat.mul_comm _ _⟩
        exact crt2 h4 (by rw [f2, Nat.mod_mod_of_dvd _ d1]) (by rw [f3, Nat.mod_mod_of_dvd _ d2]) f4 (Nat.mod_lt _ (Nat.mul_pos hO (Nat.two_pow_pos t)))
    refine J_wb (fun hwb => ?_)
    refine J_aload_n C d_D_raise_4 0 rfl rfl ?_
    refine J_get_many C d_D_raise_5 ?_
    refine J_iconst C d_D_raise_8 1 (by decide) ?_
    refine J_icmp_ne C d_D_raise_9 (tgt := 31) (by decide) (by omega) (by decide) (fun c_9 => ?_) (fun c_9 => ?_)
    · exact odd (fun h => c_9 (one_word h5 h6 h h8).1)
    · refine J_aload_n C d_D_raise_12 0 rfl rfl ?_
      refine J_get_odd C d_D_raise_13 ?_
      refine J_iconst C d_D_raise_16 0 (by decide) ?_
      refine J_iaload C d_D_raise_17 (by decide) (by show _ < 16; omega) ?_
      refine J_iconst C d_D_raise_18 1 (by decide) ?_
      refine J_icmp_ne C d_D_raise_19 (tgt := 31) (by decide) (by first | exact hwb _ _ | omega) (by first | exact hwb _ _ | omega) (fun c_19 => ?_) (fun c_19 => ?_)
      · exact odd (fun h => c_19 (one_word h5 h6 h h8).2)
      · subst c_9
        have hO1 : V (τ 4) 16 = 1 := is_one (fun j => hwb 4 j) h7 c_19
        rw [hO1, Nat.one_mul] at h3
        have ht1 : 1 ≤ t := by
          rcases Nat.eq_zero_or_pos t with q | q
          · rw [q, Nat.pow_zero] at h3; omega
          · exact q
        refine J_aload_n C d_D_raise_22 0 rfl rfl ?_
        refine J_aload_n C d_D_raise_23 0 rfl rfl ?_
        refine J_get_answer C d_D_raise_24 ?_
        refine J_callVv R_D (ex (xE X)) C (fun _ _ => recvD C) d_D_raise_27 (c_powerOfTwos (σ := τ) (xl X) (xE X) (xA X) (kt := 3) (by decide) (by decide) ht1 h2) ⟨⟨ml_D_107, ini_D, mc_D_powerOfTwos⟩, co_D_powerOfTwos, ⟨rfl, rfl⟩, by rw [hR]; decide⟩ im_D_powerOfTwos se_D_powerOfTwos rfl (by decide) (fun s27 h27 => ?_)
        refine J_wb (fun hwb => ?_)
        obtain ⟨g1, g2⟩ := h27
        refine k s27 _ v t (fun q hq => by unfold rz at hq; rw [g1 q (by omega) (by omega) (by omega) (by omega), h1 q (by omega)]) ?_ _ _ d_D_raise_30
        rw [g2, h1 1 (by decide), h1 2 (by decide), h3]
  refine J_aload_n C d_D_raise_0 0 rfl rfl ?_
  refine J_callVf R_D (ex (xE X)) C (fun _ _ => recvD C) d_D_raise_1 (c_split (σ := σ) (xl X) (xE X) (xA X) (by omega)) ⟨⟨ml_D_100, ini_D, mc_D_split⟩, co_D_split, ⟨rfl, rfl⟩, by rw [hR]; decide⟩ im_D_split se_D_split rfl (by decide) (fun s1 h1 => ?_)
  refine J_wb (fun hwb => ?_)
  obtain ⟨h1, h2, h3, h4, h5, h6, h7, h8, h9, h10⟩ := h1
  exact seg _ _ _ _ h1 h2 h3 h4 h5 h6 h7 h8 h9 h10
theorem c_raise (l : Launch) (E : En) (A : Nat → Prop) (hM : 2 ≤ V (σ 0) 16) : MF l y_D_raise b_D_raise 1 rm_D_raise [.ref (ex E)] E A σ mn iv tw (fun u => (∀ q, ¬ rz q → u.1 q = σ q) ∧ V (u.1 3) 16 = V (σ 1) 16 ^ V (σ 2) 16 % V (σ 0) 16) :=
  mk_f (by decide) (Nat.le_of_ble_eq_true rfl) (fun X C hR hE k => by subst hE; exact b_raise C hR hM (fun u a b c h1 h2 => k (u, a, b, c) ⟨h1, h2⟩))
end RAISE
end
section
/-! THE MODEL: lay, less, minus, fold -/
abbrev U (f : Nat → Nat) (n : Nat) : Nat := vl 65536 f n
def wsel (p q r s k : Nat) : Nat := if k = 0 then p else if k = 1 then q else if k = 2 then r else s
def lf (g : Nat → Nat) (pt p q r s : Nat) : Nat → Nat := fun j => if 8 * (pt % 4) ≤ j ∧ j < 8 * (pt % 4) + 8 then (if (j - 8 * (pt % 4)) % 2 = 0 then wsel p q r s ((j - 8 * (pt % 4)) / 2) % 65536 else wsel p q r s ((j - 8 * (pt % 4)) / 2) / 65536) else g j
theorem wsel_lt {p q r s k : Nat} (hp : p < 4294967296) (hq : q < 4294967296) (hr : r < 4294967296) (hs : s < 4294967296) : wsel p q r s k < 4294967296 := by
  unfold wsel
  repeat' split
  all_goals assumption
theorem lf_lt {g : Nat → Nat} {pt p q r s N : Nat} (hp : p < 4294967296) (hq : q < 4294967296) (hr : r < 4294967296) (hs : s < 4294967296) (hg : ∀ j, j < N → g j < 65536) : ∀ j, j < N → lf g pt p q r s j < 65536 := by
  intro j hj
  have h := wsel_lt (k := (j - 8 * (pt % 4)) / 2) hp hq hr hs
  unfold lf
  split
  · split <;> omega
  · exact hg j hj
/-- digits -/
def Dg (f : Nat → Nat) (n : Nat) : Prop := ∀ j, j < n → f j < 65536
theorem U_lt {f : Nat → Nat} {n : Nat} (h : Dg f n) : U f n < 65536 ^ n := vl_lt h
section MODEL
variable {X : Ctx} {σ : Nat → Nat → Nat} {mn iv tw : Nat}
theorem b_lay (C : Cx X b_M_lay 8 R_M) {ka pt p q r s : Nat} (ha : ka < 35) (la : 32 ≤ ln ka) (hpt : pt < 4294967296) (hp : p < 4294967296) (hq : q < 4294967296) (hr : r < 4294967296) (hs : s < 4294967296)
    (k : Ret X b_M_lay .return_ [] (up σ ka (lf (σ ka) pt p q r s)) mn iv tw) :
    J X 0 [(0, .ref (ea (xE X) ka)), (1, .int (nI pt)), (2, .int (nI p)), (3, .int (nI q)), (4, .int (nI r)), (5, .int (nI s))] [] σ mn iv tw := by
  have loop : ∀ d i f, i + d = 4 → (∀ j, f j = if 8 * (pt % 4) ≤ j ∧ j < 8 * (pt % 4) + 2 * i then lf (σ ka) pt p q r s j else σ ka j) →
      J X 3 [(0, .ref (ea (xE X) ka)), (1, .int (nI pt)), (2, .int (nI p)), (3, .int (nI q)), (4, .int (nI r)), (5, .int (nI s)), (6, .int (nI i))] [] (up σ ka f) mn iv tw := by
    intro d
    induction d with
    | zero =>
      intro i f hi hf
      obtain rfl : i = 4 := by omega
      refine J_iload C d_M_lay_3 rfl ?_
      refine J_iconst C d_M_lay_5 4 (by decide) ?_
      refine J_icmp_ge C d_M_lay_6 (tgt := 87) (by decide) (by omega) (by omega) (fun c_6 => ?_) (fun c_6 => ?_)
      · have e : f = lf (σ ka) pt p q r s := by
          funext j
          rw [hf j]
          split
          · rfl
          · next h => unfold lf; rw [if_neg h]
        rw [e]
        exact k _ _ d_M_lay_87
      · omega
    | succ d ih =>
      intro i f hi hf
      have hw := wsel_lt (k := i) hp hq hr hs
      have seg : ∀ w, w = wsel p q r s i → J X 41 [(0, .ref (ea (xE X) ka)), (1, .int (nI pt)), (2, .int (nI p)), (3, .int (nI q)), (4, .int (nI r)), (5, .int (nI s)), (6, .int (nI i))] [.int (nI w)] (up σ ka f) mn iv tw := by
        intro w hw'
        rw [← hw'] at hw
        refine J_istore (lv' := [(0, _), (1, _), (2, _), (3, _), (4, _), (5, _), (6, _), (7, _)]) C d_M_lay_41 (by decide) rfl rfl ?_
        refine J_aload_n C d_M_lay_43 0 rfl rfl ?_
        refine J_bipush C d_M_lay_44 8 (by decide) ?_
        refine J_iload_n C d_M_lay_46 1 rfl rfl ?_
        refine J_iconst C d_M_lay_47 3 (by decide) ?_
        refine J_iand C d_M_lay_48 2 4 rfl hpt (by decide) rfl ?_
        refine J_imul C d_M_lay_49 ?_
        refine J_iconst C d_M_lay_50 2 (by decide) ?_
        refine J_iload C d_M_lay_51 rfl ?_
        refine J_imul C d_M_lay_53 ?_
        refine J_iadd C d_M_lay_54 ?_
        refine J_iload C d_M_lay_55 rfl ?_
        refine J_ldc C d_M_lay_57 ?_
        refine J_iand C d_M_lay_59 16 65536 rfl (by first | exact hwb _ _ | omega) (by decide) rfl ?_
        refine J_iastore C d_M_lay_60 (by omega) (by omega) ?_
        refine J_wb (fun hwb => ?_)
        refine J_aload_n C d_M_lay_61 0 rfl rfl ?_
        refine J_bipush C d_M_lay_62 8 (by decide) ?_
        refine J_iload_n C d_M_lay_64 1 rfl rfl ?_
        refine J_iconst C d_M_lay_65 3 (by decide) ?_
        refine J_iand C d_M_lay_66 2 4 rfl hpt (by decide) rfl ?_
        refine J_imul C d_M_lay_67 ?_
        refine J_iconst C d_M_lay_68 2 (by decide) ?_
        refine J_iload C d_M_lay_69 rfl ?_
        refine J_imul C d_M_lay_71 ?_
        refine J_iadd C d_M_lay_72 ?_
        refine J_iconst C d_M_lay_73 1 (by decide) ?_
        refine J_iadd C d_M_lay_74 ?_
        refine J_iload C d_M_lay_75 rfl ?_
        refine J_bipush C d_M_lay_77 16 (by decide) ?_
        refine J_iushr C d_M_lay_79 65536 rfl (by first | exact hwb _ _ | omega) (by decide) ?_
        refine J_iastore C d_M_lay_80 (by omega) (by omega) ?_
        refine J_wb (fun hwb => ?_)
        refine J_iinc (lv' := [(0, _), (1, _), (2, _), (3, _), (4, _), (5, _), (6, _), (7, _)]) C d_M_lay_81 rfl (inc1 _) (by decide) rfl rfl ?_
        refine J_goto C d_M_lay_84 (tgt := 3) (by decide) ?_
        refine J_sub [0, 1, 2, 3, 4, 5, 6] rfl ?_
        simp only [up_s, up_up]
        refine ih (i + 1) _ (by omega) (fun j => ?_)
        unfold uf
        by_cases h1 : j = 8 * (pt % 4) + 2 * i + 1
        · rw [if_pos h1, if_pos ⟨by omega, by omega⟩]
          unfold lf
          rw [if_pos ⟨by omega, by omega⟩, if_neg (by omega), show (j - 8 * (pt % 4)) / 2 = i by omega, ← hw']
          omega
        · rw [if_neg h1]
          by_cases h2 : j = 8 * (pt % 4) + 2 * i
          · rw [if_pos h2, if_pos ⟨by omega, by omega⟩]
            unfold lf
            rw [if_pos ⟨by omega, by omega⟩, if_pos (by omega), show (j - 8 * (pt % 4)) / 2 = i by omega, ← hw']
            omega
          · rw [if_neg h2, hf j]
            by_cases h3 : 8 * (pt % 4) ≤ j ∧ j < 8 * (pt % 4) + 2 * i
            · rw [if_pos h3, if_pos ⟨h3.1, by omega⟩]
            · rw [if_neg h3, if_neg (fun h => h3 ⟨h.1, by omega⟩)]
      refine J_iload C d_M_lay_3 rfl ?_
      refine J_iconst C d_M_lay_5 4 (by decide) ?_
      refine J_icmp_ge C d_M_lay_6 (tgt := 87) (by decide) (by omega) (by omega) (fun c_6 => ?_) (fun c_6 => ?_)
      · omega
      · refine J_iload C d_M_lay_9 rfl ?_
        refine J_ifne C d_M_lay_11 (tgt := 18) (by decide) (by first | exact hwb _ _ | omega) (fun c_11 => ?_) (fun c_11 => ?_)
        · refine J_iload C d_M_lay_18 rfl ?_
          refine J_iconst C d_M_lay_20 1 (by decide) ?_
          refine J_icmp_ne C d_M_lay_21 (tgt := 28) (by decide) (by first | exact hwb _ _ | omega) (by first | exact hwb _ _ | omega) (fun c_21 => ?_) (fun c_21 => ?_)
          · refine J_iload C d_M_lay_28 rfl ?_
            refine J_iconst C d_M_lay_30 2 (by decide) ?_
            refine J_icmp_ne C d_M_lay_31 (tgt := 39) (by decide) (by first | exact hwb _ _ | omega) (by first | exact hwb _ _ | omega) (fun c_31 => ?_) (fun c_31 => ?_)
            · refine J_iload C d_M_lay_39 rfl ?_
              exact seg s (by unfold wsel; rw [if_neg (by omega), if_neg (by omega), if_neg (by omega)])
            · refine J_iload C d_M_lay_34 rfl ?_
              refine J_goto C d_M_lay_36 (tgt := 41) (by decide) ?_
              exact seg r (by unfold wsel; rw [if_neg (by omega), if_neg (by omega), if_pos (by omega)])
          · refine J_iload_n C d_M_lay_24 3 rfl rfl ?_
            refine J_goto C d_M_lay_25 (tgt := 41) (by decide) ?_
            exact seg q (by unfold wsel; rw [if_neg (by omega), if_pos (by omega)])
        · refine J_iload_n C d_M_lay_14 2 rfl rfl ?_
          refine J_goto C d_M_lay_15 (tgt := 41) (by decide) ?_
          exact seg p (by unfold wsel; rw [if_pos (by omega)])
  refine J_iconst C d_M_lay_0 0 (by decide) ?_
  refine J_istore (lv' := [(0, _), (1, _), (2, _), (3, _), (4, _), (5, _), (6, _)]) C d_M_lay_1 (by decide) rfl rfl ?_
  have h := loop 4 0 (σ ka) (by omega) (fun j => by rw [if_neg (by omega)])
  rw [up_id] at h
  exact h
theorem c_lay (l : Launch) (E : En) (A : Nat → Prop) {ka pt p q r s : Nat} (ha : ka < 35) (la : 32 ≤ ln ka) (hpt : pt < 4294967296) (hp : p < 4294967296) (hq : q < 4294967296) (hr : r < 4294967296) (hs : s < 4294967296) : MV l y_M_lay b_M_lay 8 rm_M_lay [.ref (ea E ka), .int (nI pt), .int (nI p), .int (nI q), .int (nI r), .int (nI s)] E A σ mn iv tw (fun u => up σ ka (lf (σ ka) pt p q r s) = u) :=
  mk_v (by decide) (Nat.le_of_ble_eq_true rfl) (fun X C hR hE k => by subst hE; exact b_lay C ha la hpt hp hq hr hs (k _ rfl))
theorem b_less (C : Cx X b_M_less 3 R_M) {ka : Nat} (ha : ka < 35) (la : 33 ≤ ln ka) (hx : Dg (σ ka) 33) (hm : Dg (σ 29) 33)
    (k : ∀ n, n < 2 → (n = 0 ↔ U (σ 29) 33 ≤ U (σ ka) 33) → Ret X b_M_less .ireturn [.int (nI n)] σ mn iv tw) :
    J X 0 [(0, .ref (em (xE X))), (1, .ref (ea (xE X) ka))] [] σ mn iv tw := by
  have seg : ∀ i, i < 33 → (∀ j, i < j → j < 33 → σ ka j = σ 29 j) → (i = 0 ∨ σ ka i ≠ σ 29 i) → J X 26 [(0, .ref (em (xE X))), (1, .ref (ea (xE X) ka)), (2, .int (nI i))] [] σ mn iv tw := by
    intro i hi he hd
    have b1 := hx i hi
    have b2 := hm i hi
    refine J_aload_n C d_M_less_26 1 rfl rfl ?_
    refine J_iload_n C d_M_less_27 2 rfl rfl ?_
    refine J_iaload C d_M_less_28 (by omega) (by omega) ?_
    refine J_aload_n C d_M_less_29 0 rfl rfl ?_
    refine J_getM_m C d_M_less_30 ?_
    refine J_iload_n C d_M_less_33 2 rfl rfl ?_
    refine J_iaload C d_M_less_34 (by decide) (by show _ < 33; omega) ?_
    refine J_icmp_ge C d_M_less_35 (tgt := 42) (by decide) (by omega) (by omega) (fun c_35 => ?_) (fun c_35 => ?_)
    · refine J_iconst C d_M_less_42 0 (by decide) ?_
      refine k 0 (by decide) ⟨fun _ => ?_, fun _ => rfl⟩ _ _ d_M_less_43
      rcases Nat.lt_or_ge (σ 29 i) (σ ka i) with q | q
      · exact Nat.le_of_lt (vl_cmp (b := 65536) (fun j hj => hm j (by omega)) q hi (fun j h1 h2 => (he j h1 h2).symm))
      · have e0 : i = 0 := by omega
        subst e0
        exact Nat.le_of_eq (vl_congr (fun j hj => by
          rcases Nat.eq_zero_or_pos j with z | z
          · rw [z]; omega
          · exact (he j z hj).symm))
    · refine J_iconst C d_M_less_38 1 (by decide) ?_
      refine J_goto C d_M_less_39 (tgt := 43) (by decide) ?_
      have := vl_cmp (b := 65536) (fun j hj => hx j (by omega)) c_35 hi he
      exact k 1 (by decide) ⟨fun h => by omega, fun h => by unfold U at h; omega⟩ _ _ d_M_less_43
  have loop : ∀ i, i < 33 → (∀ j, i < j → j < 33 → σ ka j = σ 29 j) → J X 3 [(0, .ref (em (xE X))), (1, .ref (ea (xE X) ka)), (2, .int (nI i))] [] σ mn iv tw := by
    intro i
    induction i with
    | zero =>
      intro hi he
      refine J_iload_n C d_M_less_3 2 rfl rfl ?_
      refine J_ifle C d_M_less_4 (tgt := 26) (by decide) (by omega) (fun c_4 => ?_) (fun c_4 => ?_)
      · exact seg 0 hi he (Or.inl rfl)
      · omega
    | succ i ih =>
      intro hi he
      have b1 := hx (i + 1) hi
      have b2 := hm (i + 1) hi
      refine J_iload_n C d_M_less_3 2 rfl rfl ?_
      refine J_ifle C d_M_less_4 (tgt := 26) (by decide) (by omega) (fun c_4 => ?_) (fun c_4 => ?_)
      · omega
      · refine J_aload_n C d_M_less_7 1 rfl rfl ?_
        refine J_iload_n C d_M_less_8 2 rfl rfl ?_
        refine J_iaload C d_M_less_9 (by omega) (by omega) ?_
        refine J_aload_n C d_M_less_10 0 rfl rfl ?_
        refine J_getM_m C d_M_less_11 ?_
        refine J_iload_n C d_M_less_14 2 rfl rfl ?_
        refine J_iaload C d_M_less_15 (by decide) (by show _ < 33; omega) ?_
        refine J_icmp_ne C d_M_less_16 (tgt := 26) (by decide) (by first | exact hwb _ _ | omega) (by first | exact hwb _ _ | omega) (fun c_16 => ?_) (fun c_16 => ?_)
        · exact seg (i + 1) hi he (Or.inr c_16)
        · refine J_iload_n C d_M_less_19 2 rfl rfl ?_
          refine J_iconst C d_M_less_20 1 (by decide) ?_
          refine J_isub C d_M_less_21 (by omega) ?_
          refine J_istore_n (lv' := [(0, _), (1, _), (2, _)]) C d_M_less_22 2 rfl (by decide) rfl rfl ?_
          refine J_goto C d_M_less_23 (tgt := 3) (by decide) ?_
          refine ih (by omega) (fun j h1 h2 => ?_)
          rcases Nat.lt_or_ge (i + 1) j with q | q
          · exact he j q h2
          · rw [show j = i + 1 by omega]; exact c_16
  refine J_bipush C d_M_less_0 32 (by decide) ?_
  refine J_istore_n (lv' := [(0, _), (1, _), (2, _)]) C d_M_less_2 2 rfl (by decide) rfl rfl ?_
  exact loop 32 (by decide) (fun j h1 h2 => by omega)
theorem c_less (l : Launch) (E : En) (A : Nat → Prop) {ka : Nat} (ha : ka < 35) (la : 33 ≤ ln ka) (hx : Dg (σ ka) 33) (hm : Dg (σ 29) 33) : MI .boolean l y_M_less b_M_less 3 rm_M_less [.ref (em E), .ref (ea E ka)] E A σ mn iv tw (fun n u => σ = u ∧ n < 2 ∧ (n = 0 ↔ U (σ 29) 33 ≤ U (σ ka) 33)) :=
  mk_z (by decide) (Nat.le_of_ble_eq_true rfl) (fun n u h => h.2.1) (fun X C hR hE k => by subst hE; exact b_less C ha la hx hm (fun n h1 h2 => k n σ ⟨rfl, h1, h2⟩))
theorem b_minus (C : Cx X b_M_minus 5 R_M) {ka : Nat} (ha : ka < 35) (hab : ka ≠ 29) (la : 33 ≤ ln ka) (hx : Dg (σ ka) 33) (hm : Dg (σ 29) 33)
    (k : ∀ w u, w < 2 → (∀ q, q ≠ ka → u q = σ q) → Dg (u ka) 33 → U (u ka) 33 + U (σ 29) 33 = U (σ ka) 33 + w * 65536 ^ 33 → Ret X b_M_minus .return_ [] u mn iv tw) :
    J X 0 [(0, .ref (em (xE X))), (1, .ref (ea (xE X) ka))] [] σ mn iv tw := by
  have loop : ∀ d i w τ, i + d = 33 → w < 2 → (∀ q, q ≠ ka → τ q = σ q) → (∀ j, i ≤ j → τ ka j = σ ka j) → Dg (τ ka) i → U (τ ka) i + U (σ 29) i = U (σ ka) i + w * 65536 ^ i →
      J X 4 [(0, .ref (em (xE X))), (1, .ref (ea (xE X) ka)), (2, .int (nI (w * 4294967295))), (3, .int (nI i))] [] τ mn iv tw := by
    intro d
    induction d with
    | zero =>
      intro i w τ hi hw h1 h2 hD h3
      obtain rfl : i = 33 := by omega
      refine J_iload_n C d_M_minus_4 3 rfl rfl ?_
      refine J_bipush C d_M_minus_5 33 (by decide) ?_
      refine J_icmp_ge C d_M_minus_7 (tgt := 44) (by decide) (by omega) (by omega) (fun c_7 => ?_) (fun c_7 => ?_)
      · exact k w τ hw h1 hD h3 _ _ d_M_minus_44
      · omega
    | succ d ih =>
      intro i w τ hi hw h1 h2 hD h3
      have b1 := hx i (by omega)
      have b2 := hm i (by omega)
      have e1 := h2 i (Nat.le_refl i)
      have e2 : τ 29 i = σ 29 i := by rw [h1 29 (Ne.symm hab)]
      refine J_iload_n C d_M_minus_4 3 rfl rfl ?_
      refine J_bipush C d_M_minus_5 33 (by decide) ?_
      refine J_icmp_ge C d_M_minus_7 (tgt := 44) (by decide) (by omega) (by omega) (fun c_7 => ?_) (fun c_7 => ?_)
      · omega
      · refine J_aload_n C d_M_minus_10 1 rfl rfl ?_
        refine J_iload_n C d_M_minus_11 3 rfl rfl ?_
        refine J_iaload C d_M_minus_12 (by omega) (by omega) ?_
        refine J_aload_n C d_M_minus_13 0 rfl rfl ?_
        refine J_getM_m C d_M_minus_14 ?_
        refine J_iload_n C d_M_minus_17 3 rfl rfl ?_
        refine J_iaload C d_M_minus_18 (by decide) (by show _ < 33; omega) ?_
        refine J_isubm C d_M_minus_19 (by omega) ?_
        refine J_iload_n C d_M_minus_20 2 rfl rfl ?_
        refine J_iadd C d_M_minus_21 ?_
        rw [← nb_mod (τ ka i + 4294967296 - τ 29 i + w * 4294967295)]
        refine J_istore (lv' := [(0, _), (1, _), (2, _), (3, _), (4, _)]) C d_M_minus_22 (by decide) rfl rfl ?_
        refine J_aload_n C d_M_minus_24 1 rfl rfl ?_
        refine J_iload_n C d_M_minus_25 3 rfl rfl ?_
        refine J_iload C d_M_minus_26 rfl ?_
        refine J_ldc C d_M_minus_28 ?_
        refine J_iand C d_M_minus_30 16 65536 rfl (Nat.mod_lt _ (by decide)) (by decide) rfl ?_
        refine J_iastore C d_M_minus_31 (by omega) (by omega) ?_
        refine J_wb (fun hwb => ?_)
        refine J_iload C d_M_minus_32 rfl ?_
        refine J_bipush C d_M_minus_34 16 (by decide) ?_
        refine J_isar C d_M_minus_36 (Nat.mod_lt _ (by decide)) ?_
        refine J_istore_n (lv' := [(0, _), (1, _), (2, _), (3, _), (4, _)]) C d_M_minus_37 2 rfl (by decide) rfl rfl ?_
        refine J_iinc (lv' := [(0, _), (1, _), (2, _), (3, _), (4, _)]) C d_M_minus_38 rfl (inc1 _) (by decide) rfl rfl ?_
        refine J_goto C d_M_minus_41 (tgt := 4) (by decide) ?_
        refine J_sub [0, 1, 2, 3] rfl ?_
        obtain ⟨w', hw', hs, hv⟩ : ∃ w', w' < 2 ∧ sar ((τ ka i + 4294967296 - τ 29 i + w * 4294967295) % 4294967296) = w' * 4294967295 ∧ (τ ka i + 4294967296 - τ 29 i + w * 4294967295) % 4294967296 % 65536 % 4294967296 + σ 29 i + w = σ ka i + w' * 65536 := by
          rw [e1, e2]
          rcases Nat.lt_or_ge (σ ka i) (σ 29 i + w) with q | q
          · refine ⟨1, by decide, ?_, by omega⟩
            unfold sar
            rw [if_neg (by omega)]
            omega
          · refine ⟨0, by decide, ?_, by omega⟩
            unfold sar
            rw [if_pos (by omega)]
            omega
        rw [hs]
        refine ih (i + 1) w' _ (by omega) hw' (fun q hq => by rw [up_n hq]; exact h1 q hq) (fun j hj => by rw [up_s, uf_n (by omega)]; exact h2 j (by omega)) (fun j hj => ?_) ?_
        · rw [up_s]
          rcases Nat.lt_or_ge j i with q | q
          · rw [uf_n (by omega)]; exact hD j q
          · rw [show j = i by omega, uf_s]; omega
        · have e := bst (b := 65536) h3 hv
          unfold U at e ⊢
          rw [up_s, vl_uf_last, vl_s, vl_s, Nat.pow_succ]
          exact e
  refine J_iconst C d_M_minus_0 0 (by decide) ?_
  refine J_istore_n (lv' := [(0, _), (1, _), (2, _)]) C d_M_minus_1 2 rfl (by decide) rfl rfl ?_
  refine J_iconst C d_M_minus_2 0 (by decide) ?_
  refine J_istore_n (lv' := [(0, _), (1, _), (2, _), (3, _)]) C d_M_minus_3 3 rfl (by decide) rfl rfl ?_
  exact loop 33 0 0 σ (by omega) (by decide) (fun _ _ => rfl) (fun _ _ => rfl) (fun j hj => by omega) (by rw [show U (σ ka) 0 = 0 from rfl, show U (σ 29) 0 = 0 from rfl, Nat.zero_mul])
theorem c_minus (l : Launch) (E : En) (A : Nat → Prop) {ka : Nat} (ha : ka < 35) (hab : ka ≠ 29) (la : 33 ≤ ln ka) (hx : Dg (σ ka) 33) (hm : Dg (σ 29) 33) : MV l y_M_minus b_M_minus 5 rm_M_minus [.ref (em E), .ref (ea E ka)] E A σ mn iv tw (fun u => (∀ q, q ≠ ka → u q = σ q) ∧ Dg (u ka) 33 ∧ ∃ w, w < 2 ∧ U (u ka) 33 + U (σ 29) 33 = U (σ ka) 33 + w * 65536 ^ 33) :=
  mk_v (by decide) (Nat.le_of_ble_eq_true rfl) (fun X C hR hE k => by subst hE; exact b_minus C ha hab la hx hm (fun w u h1 h2 h3 h4 => k u ⟨h2, h3, w, h1, h4⟩))
end MODEL
end
section
/-! THE MODEL: fold, times -/
theorem bitW {w : Nat} {f : Nat → Nat} {n t : Nat} (hw : 0 < w) (hf : ∀ j, j < n → f j < 2 ^ w) (ht : t / w < n) : vl (2 ^ w) f n / 2 ^ t % 2 = f (t / w) / 2 ^ (t % w) % 2 := by
  have h := bitV (w := w) (f := fun j => if j < n then f j else 0) (n := n) (t := t) hw (fun j => by split; exact hf j (by assumption); exact Nat.two_pow_pos w) ht
  rw [if_pos ht, vl_congr (g := f) (fun j hj => if_pos hj)] at h
  exact h
theorem U33 {f : Nat → Nat} (h : U f 33 < 65536 ^ 32) : U f 33 = U f 32 := vl_top (by decide) (fun j h1 h2 => vl_hi0 (by decide) h j h1 h2)
theorem o_zero {V' o W y M : Nat} (e : V' + o * W = y) (hy : y < 2 * M) (hM : 2 * M ≤ W) (ho : o < 2) : o = 0 := by
  rcases (show o = 0 ∨ o = 1 by omega) with rfl | rfl
  · rfl
  · omega
theorem red0 {y M W V' : Nat} (hy : y < 2 * M) (hMW : M < W) (e : V' = y) : (V' < M → V' = y % M) ∧ ∀ V'' w, M ≤ V' → V'' < W → w < 2 → V'' + M = V' + w * W → V'' = y % M := by
  rw [mod2 hy]
  constructor
  · intro h
    rw [if_pos (by omega)]
    exact e
  · intro V'' w h1 h2 h3 h4
    rw [if_neg (by omega)]
    rcases (show w = 0 ∨ w = 1 by omega) with rfl | rfl <;> omega
theorem W33 {M : Nat} (h : M < 65536 ^ 32) : 2 * M ≤ 65536 ^ 33 ∧ M < 65536 ^ 33 := by
  have e : (65536 : Nat) ^ 33 = 65536 ^ 32 * 65536 := Nat.pow_succ 65536 32
  rw [e]
  generalize (65536 : Nat) ^ 32 = Z at h
  omega
section MFOLD
variable {X : Ctx} {σ : Nat → Nat → Nat} {mn iv tw : Nat}
theorem b_fold (C : Cx X b_M_fold 6 R_M) (hR : xR X = rm_M_fold) {ka : Nat} (ha : ka < 35) (la : ln ka = 33) (h29 : ka ≠ 29) (h33 : ka ≠ 33) (hx : Dg (σ ka) 32) (hm : Dg (σ 29) 33) (hM0 : 0 < U (σ 29) 33) (hM : U (σ 29) 33 < 65536 ^ 32)
    (k : ∀ u, (∀ q, q ≠ ka → q ≠ 33 → u q = σ q) → Dg (u ka) 33 → U (u ka) 33 = U (σ ka) 32 % U (σ 29) 33 → Ret X b_M_fold .return_ [] u mn iv tw) :
    J X 0 [(0, .ref (em (xE X))), (1, .ref (ea (xE X) ka))] [] σ mn iv tw := by
  obtain ⟨hW2, hW1⟩ := W33 hM
  have copy : ∀ τ : Nat → Nat → Nat, (∀ q, q ≠ 33 → τ q = σ q) → Dg (τ 33) 33 → U (τ 33) 33 = U (σ ka) 32 % U (σ 29) 33 → ∀ d i (ρ : Nat → Nat → Nat), i + d = 33 → (∀ q, q ≠ ka → ρ q = τ q) → (∀ j, j < i → ρ ka j = τ 33 j) →
      J X 116 [(0, .ref (em (xE X))), (1, .ref (ea (xE X) ka)), (2, .int (nI i))] [] ρ mn iv tw := by
    intro τ h1 h2 h3 d
    induction d with
    | zero =>
      intro i ρ hi g1 g2
      obtain rfl : i = 33 := by omega
      refine J_iload_n C d_M_fold_116 2 rfl rfl ?_
      refine J_bipush C d_M_fold_117 33 (by decide) ?_
      refine J_icmp_ge C d_M_fold_119 (tgt := 137) (by decide) (by omega) (by omega) (fun c_119 => ?_) (fun c_119 => ?_)
      · exact k ρ (fun q a1 a2 => by rw [g1 q a1, h1 q a2]) (fun j hj => by rw [g2 j hj]; exact h2 j hj) (by rw [← h3]; exact vl_congr g2) _ _ d_M_fold_137
      · omega
    | succ d ih =>
      intro i ρ hi g1 g2
      have e33 : ρ 33 = τ 33 := g1 33 (Ne.symm h33)
      have b1 := h2 i (by omega)
      refine J_iload_n C d_M_fold_116 2 rfl rfl ?_
      refine J_bipush C d_M_fold_117 33 (by decide) ?_
      refine J_icmp_ge C d_M_fold_119 (tgt := 137) (by decide) (by omega) (by omega) (fun c_119 => ?_) (fun c_119 => ?_)
      · omega
      · refine J_aload_n C d_M_fold_122 1 rfl rfl ?_
        refine J_iload_n C d_M_fold_123 2 rfl rfl ?_
        refine J_aload_n C d_M_fold_124 0 rfl rfl ?_
        refine J_getM_t C d_M_fold_125 ?_
        refine J_iload_n C d_M_fold_128 2 rfl rfl ?_
        refine J_iaload C d_M_fold_129 (by decide) (by show _ < 33; omega) ?_
        refine J_iastore C d_M_fold_130 (by omega) (by omega) ?_
        refine J_wb (fun hwb => ?_)
        refine J_iinc (lv' := [(0, _), (1, _), (2, _)]) C d_M_fold_131 rfl (inc1 _) (by decide) rfl rfl ?_
        refine J_goto C d_M_fold_134 (tgt := 116) (by decide) ?_
        refine ih (i + 1) _ (by omega) (fun q hq => by rw [up_n hq]; exact g1 q hq) (fun j hj => ?_)
        rw [up_s]
        rcases Nat.lt_or_ge j i with q | q
        · rw [uf_n (by omega)]; exact g2 j q
        · rw [show j = i by omega, uf_s, e33]; omega
  have main : ∀ c, c ≤ 512 → ∀ τ, (∀ q, q ≠ 33 → τ q = σ q) → Dg (τ 33) 33 → U (τ 33) 33 = U (σ ka) 32 / 2 ^ c % U (σ 29) 33 →
      J X 25 [(0, .ref (em (xE X))), (1, .ref (ea (xE X) ka)), (2, .int (nI c + (-1)))] [] τ mn iv tw := by
    intro c
    induction c with
    | zero =>
      intro _ τ h1 h2 h3
      rw [m1_0]
      refine J_iload_n C d_M_fold_25 2 rfl rfl ?_
      refine J_iflt C d_M_fold_26 (tgt := 114) (by decide) (by first | exact hwb _ _ | omega) (fun c_26 => ?_) (fun c_26 => ?_)
      · refine J_iconst C d_M_fold_114 0 (by decide) ?_
        refine J_istore_n (lv' := [(0, _), (1, _), (2, _)]) C d_M_fold_115 2 rfl (by decide) rfl rfl ?_
        exact copy τ h1 h2 (by rw [h3, Nat.pow_zero, Nat.div_one]) 33 0 τ (by omega) (fun _ _ => rfl) (fun j hj => by omega)
      · omega
    | succ c ih =>
      intro hc τ h1 h2 h3
      rw [pk_m1]
      have eb : U (σ ka) 32 / 2 ^ c % 2 = σ ka (c / 16) / 2 ^ (c % 16) % 2 := bitW (w := 16) (by decide) hx (by omega)
      have eY : 2 * (U (σ ka) 32 / 2 ^ (c + 1)) + U (σ ka) 32 / 2 ^ c % 2 = U (σ ka) 32 / 2 ^ c := by
        rw [Nat.pow_succ, ← Nat.div_div_eq_div_mul]; omega
      have hb2 : U (σ ka) 32 / 2 ^ c % 2 < 2 := Nat.mod_lt _ (by decide)
      have hr : U (τ 33) 33 < U (σ 29) 33 := by rw [h3]; exact Nat.mod_lt _ hM0
      have eT : (2 * U (τ 33) 33 + U (σ ka) 32 / 2 ^ c % 2) % U (σ 29) 33 = U (σ ka) 32 / 2 ^ c % U (σ 29) 33 := by rw [h3, ← mod_2T, eY]
      have dbl : ∀ d i cr ρ, i + d = 33 → cr < 2 → (∀ q, q ≠ 33 → ρ q = σ q) → (∀ j, i ≤ j → ρ 33 j = τ 33 j) → Dg (ρ 33) i → U (ρ 33) i + cr * 65536 ^ i = 2 * U (τ 33) i + U (σ ka) 32 / 2 ^ c % 2 →
          J X 45 [(0, .ref (em (xE X))), (1, .ref (ea (xE X) ka)), (2, .int (nI c)), (3, .int (nI cr)), (4, .int (nI i))] [] ρ mn iv tw := by
        intro d
        induction d with
        | zero =>
          intro i cr ρ hi hcr g1 g2 gD g3
          obtain rfl : i = 33 := by omega
          have e29 : ρ 29 = σ 29 := g1 29 (by decide)
          have hy : 2 * U (τ 33) 33 + U (σ ka) 32 / 2 ^ c % 2 < 2 * U (σ 29) 33 := by omega
          have ho := o_zero g3 hy hW2 hcr
          rw [ho, Nat.zero_mul] at g3
          have red := red0 hy hW1 (jo_eq g3)
          rw [eT] at red
          refine J_iload C d_M_fold_45 rfl ?_
          refine J_bipush C d_M_fold_47 33 (by decide) ?_
          refine J_icmp_ge C d_M_fold_49 (tgt := 89) (by decide) (by omega) (by omega) (fun c_49 => ?_) (fun c_49 => ?_)
          · refine J_aload_n C d_M_fold_89 0 rfl rfl ?_
            refine J_aload_n C d_M_fold_90 0 rfl rfl ?_
            refine J_getM_t C d_M_fold_91 ?_
            refine J_callVi R_M (em (xE X)) C (fun _ _ => recvM C) d_M_fold_94 (c_less (σ := ρ) (xl X) (xE X) (xA X) (ka := 33) (by decide) (by decide) gD (by rw [e29]; exact hm)) ⟨⟨ml_M_37, ini_M, mc_M_less⟩, co_M_less, ⟨rfl, rfl⟩, by rw [hR]; decide⟩ im_M_less se_M_less rfl (by decide) (fun n94 s94 h94 => ?_)
            refine J_wb (fun hwb => ?_)
            obtain ⟨rfl, p1, p2⟩ := h94
            rw [e29] at p2
            refine J_ifne C d_M_fold_97 (tgt := 108) (by decide) (by omega) (fun c_97 => ?_) (fun c_97 => ?_)
            · refine J_iinc (lv' := [(0, _), (1, _), (2, _), (3, _), (4, _)]) C d_M_fold_108 rfl (dec1 _) (by decide) rfl rfl ?_
              refine J_goto C d_M_fold_111 (tgt := 25) (by decide) ?_
              refine J_sub [0, 1, 2] rfl ?_
              exact ih (by omega) ρ g1 gD (red.1 (Nat.lt_of_not_le fun h => c_97 (p2.mpr h)))
            · refine J_aload_n C d_M_fold_100 0 rfl rfl ?_
              refine J_aload_n C d_M_fold_101 0 rfl rfl ?_
              refine J_getM_t C d_M_fold_102 ?_
              refine J_callVv R_M (em (xE X)) C (fun _ _ => recvM C) d_M_fold_105 (c_minus (σ := ρ) (xl X) (xE X) (xA X) (ka := 33) (by decide) (by decide) (by decide) gD (by rw [e29]; exact hm)) ⟨⟨ml_M_41, ini_M, mc_M_minus⟩, co_M_minus, ⟨rfl, rfl⟩, by rw [hR]; decide⟩ im_M_minus se_M_minus rfl (by decide) (fun s105 h105 => ?_)
              refine J_wb (fun hwb => ?_)
              refine J_iinc (lv' := [(0, _), (1, _), (2, _), (3, _), (4, _)]) C d_M_fold_108 rfl (dec1 _) (by decide) rfl rfl ?_
              refine J_goto C d_M_fold_111 (tgt := 25) (by decide) ?_
              refine J_sub [0, 1, 2] rfl ?_
              obtain ⟨f1, f2, w, f3, f4⟩ := h105
              rw [e29] at f4
              exact ih (by omega) s105 (fun q hq => by rw [f1 q hq]; exact g1 q hq) f2 (red.2 _ w (p2.mp c_97) (U_lt f2) f3 f4)
          · omega
        | succ d ihd =>
          intro i cr ρ hi hcr g1 g2 gD g3
          have b1 := h2 i (by omega)
          have e1 := g2 i (Nat.le_refl i)
          refine J_iload C d_M_fold_45 rfl ?_
          refine J_bipush C d_M_fold_47 33 (by decide) ?_
          refine J_icmp_ge C d_M_fold_49 (tgt := 89) (by decide) (by omega) (by omega) (fun c_49 => ?_) (fun c_49 => ?_)
          · omega
          · refine J_iconst C d_M_fold_52 2 (by decide) ?_
            refine J_aload_n C d_M_fold_53 0 rfl rfl ?_
            refine J_getM_t C d_M_fold_54 ?_
            refine J_iload C d_M_fold_57 rfl ?_
            refine J_iaload C d_M_fold_59 (by decide) (by show _ < 33; omega) ?_
            refine J_imul C d_M_fold_60 ?_
            refine J_iload_n C d_M_fold_61 3 rfl rfl ?_
            refine J_iadd C d_M_fold_62 ?_
            refine J_istore (lv' := [(0, _), (1, _), (2, _), (3, _), (4, _), (5, _)]) C d_M_fold_63 (by decide) rfl rfl ?_
            refine J_aload_n C d_M_fold_65 0 rfl rfl ?_
            refine J_getM_t C d_M_fold_66 ?_
            refine J_iload C d_M_fold_69 rfl ?_
            refine J_iload C d_M_fold_71 rfl ?_
            refine J_ldc C d_M_fold_73 ?_
            refine J_iand C d_M_fold_75 16 65536 rfl (by omega) (by decide) rfl ?_
            refine J_iastore C d_M_fold_76 (by decide) (by show _ < 33; omega) ?_
            refine J_wb (fun hwb => ?_)
            refine J_iload C d_M_fold_77 rfl ?_
            refine J_bipush C d_M_fold_79 16 (by decide) ?_
            refine J_ishr C d_M_fold_81 65536 rfl (by omega) (by decide) ?_
            refine J_istore_n (lv' := [(0, _), (1, _), (2, _), (3, _), (4, _), (5, _)]) C d_M_fold_82 3 rfl (by decide) rfl rfl ?_
            refine J_iinc (lv' := [(0, _), (1, _), (2, _), (3, _), (4, _), (5, _)]) C d_M_fold_83 rfl (inc1 _) (by decide) rfl rfl ?_
            refine J_goto C d_M_fold_86 (tgt := 45) (by decide) ?_
            refine J_sub [0, 1, 2, 3, 4] rfl ?_
            have hv : (2 * ρ 33 i + cr) % 65536 % 4294967296 + (2 * ρ 33 i + cr) / 65536 * 65536 = 2 * τ 33 i + cr := by rw [e1]; omega
            refine ihd (i + 1) _ _ (by omega) (by omega) (fun q hq => by rw [up_n hq]; exact g1 q hq) (fun j hj => by rw [up_s, uf_n (by omega)]; exact g2 j (by omega)) (fun j hj => ?_) ?_
            · rw [up_s]
              rcases Nat.lt_or_ge j i with q | q
              · rw [uf_n (by omega)]; exact gD j q
              · rw [show j = i by omega, uf_s]; omega
            · have e := cst (b := 65536) (d := 2 * τ 33 i) g3 hv
              unfold U at e ⊢
              rw [up_s, vl_uf_last, vl_s, Nat.pow_succ, e, Nat.mul_assoc, Nat.mul_add]
              exact Nat.add_right_comm _ _ _
      have e0 : τ ka (c / 16) = σ ka (c / 16) := by rw [h1 ka h33]
      have b0 := hx (c / 16) (by omega)
      refine J_iload_n C d_M_fold_25 2 rfl rfl ?_
      refine J_iflt C d_M_fold_26 (tgt := 114) (by decide) (by first | exact hwb _ _ | omega) (fun c_26 => ?_) (fun c_26 => ?_)
      · omega
      · refine J_aload_n C d_M_fold_29 1 rfl rfl ?_
        refine J_iload_n C d_M_fold_30 2 rfl rfl ?_
        refine J_iconst C d_M_fold_31 4 (by decide) ?_
        refine J_ishr C d_M_fold_32 16 rfl (by omega) (by decide) ?_
        refine J_iaload C d_M_fold_33 (by omega) (by omega) ?_
        refine J_iload_n C d_M_fold_34 2 rfl rfl ?_
        refine J_bipush C d_M_fold_35 15 (by decide) ?_
        refine J_iand C d_M_fold_37 4 16 rfl (by first | exact hwb _ _ | omega) (by decide) rfl ?_
        refine J_ishr C d_M_fold_38 _ rfl (by rw [e0]; omega) (by omega) ?_
        refine J_iconst C d_M_fold_39 1 (by decide) ?_
        refine J_iand C d_M_fold_40 1 2 rfl (Nat.lt_of_le_of_lt (Nat.div_le_self _ _) (by rw [e0]; omega)) (by decide) rfl ?_
        refine J_istore_n (lv' := [(0, _), (1, _), (2, _), (3, _)]) C d_M_fold_41 3 rfl (by decide) rfl rfl ?_
        refine J_iconst C d_M_fold_42 0 (by decide) ?_
        refine J_istore (lv' := [(0, _), (1, _), (2, _), (3, _), (4, _)]) C d_M_fold_43 (by decide) rfl rfl ?_
        rw [e0, ← eb]
        exact dbl 33 0 _ τ (by omega) hb2 h1 (fun _ _ => rfl) (fun j hj => by omega) (by rw [show U (τ 33) 0 = 0 from rfl, Nat.pow_zero, Nat.mul_one])
  have zero : ∀ d i τ, i + d = 33 → (∀ q, q ≠ 33 → τ q = σ q) → (∀ j, j < i → τ 33 j = 0) → J X 2 [(0, .ref (em (xE X))), (1, .ref (ea (xE X) ka)), (2, .int (nI i))] [] τ mn iv tw := by
    intro d
    induction d with
    | zero =>
      intro i τ hi g1 g2
      obtain rfl : i = 33 := by omega
      refine J_iload_n C d_M_fold_2 2 rfl rfl ?_
      refine J_bipush C d_M_fold_3 33 (by decide) ?_
      refine J_icmp_ge C d_M_fold_5 (tgt := 21) (by decide) (by omega) (by omega) (fun c_5 => ?_) (fun c_5 => ?_)
      · refine J_sipush C d_M_fold_21 511 (by decide) ?_
        refine J_istore_n (lv' := [(0, _), (1, _), (2, _)]) C d_M_fold_24 2 rfl (by decide) rfl rfl ?_
        refine main 512 (Nat.le_refl _) τ g1 (fun j hj => by rw [g2 j hj]; decide) ?_
        have hlt : U (σ ka) 32 < 2 ^ 512 := by
          have := U_lt hx
          rw [show (65536 : Nat) = 2 ^ 16 from rfl, ← Nat.pow_mul] at this
          exact this
        rw [Nat.div_eq_of_lt hlt, Nat.zero_mod]
        exact vl_zero g2
      · omega
    | succ d ih =>
      intro i τ hi g1 g2
      refine J_iload_n C d_M_fold_2 2 rfl rfl ?_
      refine J_bipush C d_M_fold_3 33 (by decide) ?_
      refine J_icmp_ge C d_M_fold_5 (tgt := 21) (by decide) (by omega) (by omega) (fun c_5 => ?_) (fun c_5 => ?_)
      · omega
      · refine J_aload_n C d_M_fold_8 0 rfl rfl ?_
        refine J_getM_t C d_M_fold_9 ?_
        refine J_iload_n C d_M_fold_12 2 rfl rfl ?_
        refine J_iconst C d_M_fold_13 0 (by decide) ?_
        refine J_iastore C d_M_fold_14 (by decide) (by show _ < 33; omega) ?_
        refine J_wb (fun hwb => ?_)
        refine J_iinc (lv' := [(0, _), (1, _), (2, _)]) C d_M_fold_15 rfl (inc1 _) (by decide) rfl rfl ?_
        refine J_goto C d_M_fold_18 (tgt := 2) (by decide) ?_
        refine ih (i + 1) _ (by omega) (fun q hq => by rw [up_n hq]; exact g1 q hq) (fun j hj => ?_)
        rw [up_s]
        rcases Nat.lt_or_ge j i with q | q
        · rw [uf_n (by omega)]; exact g2 j q
        · rw [show j = i by omega, uf_s]
  refine J_iconst C d_M_fold_0 0 (by decide) ?_
  refine J_istore_n (lv' := [(0, _), (1, _), (2, _)]) C d_M_fold_1 2 rfl (by decide) rfl rfl ?_
  exact zero 33 0 σ (by omega) (fun _ _ => rfl) (fun j hj => by omega)
theorem c_fold (l : Launch) (E : En) (A : Nat → Prop) {ka : Nat} (ha : ka < 35) (la : ln ka = 33) (h29 : ka ≠ 29) (h33 : ka ≠ 33) (hx : Dg (σ ka) 32) (hm : Dg (σ 29) 33) (hM0 : 0 < U (σ 29) 33) (hM : U (σ 29) 33 < 65536 ^ 32) : MV l y_M_fold b_M_fold 6 rm_M_fold [.ref (em E), .ref (ea E ka)] E A σ mn iv tw (fun u => (∀ q, q ≠ ka → q ≠ 33 → u q = σ q) ∧ Dg (u ka) 33 ∧ U (u ka) 33 = U (σ ka) 32 % U (σ 29) 33) :=
  mk_v (by decide) (Nat.le_of_ble_eq_true rfl) (fun X C hR hE k => by subst hE; exact b_fold C hR ha la h29 h33 hx hm hM0 hM (fun u h1 h2 h3 => k u ⟨h1, h2, h3⟩))
end MFOLD
end
section
/-! THE MODEL: times -/
theorem mm_2 {x y M : Nat} : 2 * (x * y % M) % M = x * (2 * y) % M := by
  rw [Nat.mul_mod_mod]
  congr 1
  grind
theorem mm_a {x y M : Nat} : (x * y % M + x) % M = x * (y + 1) % M := by
  rw [Nat.mod_add_mod, Nat.mul_succ]
section MTIMES
variable {X : Ctx} {σ : Nat → Nat → Nat} {mn iv tw : Nat}
set_option maxHeartbeats 1000000 in
theorem b_mtimes (C : Cx X b_M_times 7 R_M) (hR : xR X = rm_M_times) {ka kb : Nat} (ha : ka < 35) (hb : kb < 35) (la : ln ka = 33) (lb : 32 ≤ ln kb) (h29 : ka ≠ 29) (h33 : ka ≠ 33) (hb33 : kb ≠ 33) (hx : Dg (σ ka) 33) (hy : Dg (σ kb) 32) (hm : Dg (σ 29) 33) (hxM : U (σ ka) 33 < U (σ 29) 33) (hM : U (σ 29) 33 < 65536 ^ 32)
    (k : ∀ u, (∀ q, q ≠ ka → q ≠ 33 → u q = σ q) → Dg (u ka) 33 → U (u ka) 33 = U (σ ka) 33 * U (σ kb) 32 % U (σ 29) 33 → Ret X b_M_times .return_ [] u mn iv tw) :
    J X 0 [(0, .ref (em (xE X))), (1, .ref (ea (xE X) ka)), (2, .ref (ea (xE X) kb))] [] σ mn iv tw := by
  obtain ⟨hW2, hW1⟩ := W33 hM
  have hM0 : 0 < U (σ 29) 33 := Nat.lt_of_le_of_lt (Nat.zero_le _) hxM
  have copy : ∀ τ : Nat → Nat → Nat, (∀ q, q ≠ 33 → τ q = σ q) → Dg (τ 33) 33 → U (τ 33) 33 = U (σ ka) 33 * U (σ kb) 32 % U (σ 29) 33 → ∀ d i (ρ : Nat → Nat → Nat), i + d = 33 → (∀ q, q ≠ ka → ρ q = τ q) → (∀ j, j < i → ρ ka j = τ 33 j) →
      J X 197 [(0, .ref (em (xE X))), (1, .ref (ea (xE X) ka)), (2, .ref (ea (xE X) kb)), (3, .int (nI i))] [] ρ mn iv tw := by
    intro τ h1 h2 h3 d
    induction d with
    | zero =>
      intro i ρ hi g1 g2
      obtain rfl : i = 33 := by omega
      refine J_iload_n C d_M_times_197 3 rfl rfl ?_
      refine J_bipush C d_M_times_198 33 (by decide) ?_
      refine J_icmp_ge C d_M_times_200 (tgt := 218) (by decide) (by omega) (by omega) (fun c_200 => ?_) (fun c_200 => ?_)
      · exact k ρ (fun q a1 a2 => by rw [g1 q a1, h1 q a2]) (fun j hj => by rw [g2 j hj]; exact h2 j hj) (by rw [← h3]; exact vl_congr g2) _ _ d_M_times_218
      · omega
    | succ d ih =>
      intro i ρ hi g1 g2
      have e33 : ρ 33 = τ 33 := g1 33 (Ne.symm h33)
      have b1 := h2 i (by omega)
      refine J_iload_n C d_M_times_197 3 rfl rfl ?_
      refine J_bipush C d_M_times_198 33 (by decide) ?_
      refine J_icmp_ge C d_M_times_200 (tgt := 218) (by decide) (by omega) (by omega) (fun c_200 => ?_) (fun c_200 => ?_)
      · omega
      · refine J_aload_n C d_M_times_203 1 rfl rfl ?_
        refine J_iload_n C d_M_times_204 3 rfl rfl ?_
        refine J_aload_n C d_M_times_205 0 rfl rfl ?_
        refine J_getM_t C d_M_times_206 ?_
        refine J_iload_n C d_M_times_209 3 rfl rfl ?_
        refine J_iaload C d_M_times_210 (by decide) (by show _ < 33; omega) ?_
        refine J_iastore C d_M_times_211 (by omega) (by omega) ?_
        refine J_wb (fun hwb => ?_)
        refine J_iinc (lv' := [(0, _), (1, _), (2, _), (3, _)]) C d_M_times_212 rfl (inc1 _) (by decide) rfl rfl ?_
        refine J_goto C d_M_times_215 (tgt := 197) (by decide) ?_
        refine ih (i + 1) _ (by omega) (fun q hq => by rw [up_n hq]; exact g1 q hq) (fun j hj => ?_)
        rw [up_s]
        rcases Nat.lt_or_ge j i with q | q
        · rw [uf_n (by omega)]; exact g2 j q
        · rw [show j = i by omega, uf_s, e33]; omega
  have main : ∀ c, c ≤ 512 → ∀ τ, (∀ q, q ≠ 33 → τ q = σ q) → Dg (τ 33) 33 → U (τ 33) 33 = U (σ ka) 33 * (U (σ kb) 32 / 2 ^ c) % U (σ 29) 33 →
      J X 25 [(0, .ref (em (xE X))), (1, .ref (ea (xE X) ka)), (2, .ref (ea (xE X) kb)), (3, .int (nI c + (-1)))] [] τ mn iv tw := by
    intro c
    induction c with
    | zero =>
      intro _ τ h1 h2 h3
      rw [m1_0]
      refine J_iload_n C d_M_times_25 3 rfl rfl ?_
      refine J_iflt C d_M_times_26 (tgt := 195) (by decide) (by first | exact hwb _ _ | omega) (fun c_26 => ?_) (fun c_26 => ?_)
      · refine J_iconst C d_M_times_195 0 (by decide) ?_
        refine J_istore_n (lv' := [(0, _), (1, _), (2, _), (3, _)]) C d_M_times_196 3 rfl (by decide) rfl rfl ?_
        exact copy τ h1 h2 (by rw [h3, Nat.pow_zero, Nat.div_one]) 33 0 τ (by omega) (fun _ _ => rfl) (fun j hj => by omega)
      · omega
    | succ c ih =>
      intro hc τ h1 h2 h3
      rw [pk_m1]
      have eb : U (σ kb) 32 / 2 ^ c % 2 = σ kb (c / 16) / 2 ^ (c % 16) % 2 := bitW (w := 16) (by decide) hy (by omega)
      have eY : 2 * (U (σ kb) 32 / 2 ^ (c + 1)) + U (σ kb) 32 / 2 ^ c % 2 = U (σ kb) 32 / 2 ^ c := by
        rw [Nat.pow_succ, ← Nat.div_div_eq_div_mul]; omega
      have hb2 : U (σ kb) 32 / 2 ^ c % 2 < 2 := Nat.mod_lt _ (by decide)
      have hr : U (τ 33) 33 < U (σ 29) 33 := by rw [h3]; exact Nat.mod_lt _ hM0
      -- behind the step
      have seg189 : ∀ ρ, (∀ q, q ≠ 33 → ρ q = σ q) → Dg (ρ 33) 33 → U (ρ 33) 33 = U (σ ka) 33 * (U (σ kb) 32 / 2 ^ c) % U (σ 29) 33 → J X 189 [(0, .ref (em (xE X))), (1, .ref (ea (xE X) ka)), (2, .ref (ea (xE X) kb)), (3, .int (nI c))] [] ρ mn iv tw := by
        intro ρ g1 g2 g3
        refine J_iinc (lv' := [(0, _), (1, _), (2, _), (3, _)]) C d_M_times_189 rfl (dec1 _) (by decide) rfl rfl ?_
        refine J_goto C d_M_times_192 (tgt := 25) (by decide) ?_
        exact ih (by omega) ρ g1 g2 g3
      -- the bit
      have seg100 : ∀ ρ, (∀ q, q ≠ 33 → ρ q = σ q) → Dg (ρ 33) 33 → U (ρ 33) 33 = U (σ ka) 33 * (2 * (U (σ kb) 32 / 2 ^ (c + 1))) % U (σ 29) 33 → J X 100 [(0, .ref (em (xE X))), (1, .ref (ea (xE X) ka)), (2, .ref (ea (xE X) kb)), (3, .int (nI c))] [] ρ mn iv tw := by
        intro ρ g1 g2 g3
        have e0 : ρ kb (c / 16) = σ kb (c / 16) := by rw [g1 kb hb33]
        have ea0 : ρ ka = σ ka := g1 ka h33
        have b0 := hy (c / 16) (by omega)
        have hrr : U (ρ 33) 33 < U (σ 29) 33 := by rw [g3]; exact Nat.mod_lt _ hM0
        have add : U (σ kb) 32 / 2 ^ c % 2 = 1 → ∀ d i cr ρ', i + d = 33 → cr < 2 → (∀ q, q ≠ 33 → ρ' q = σ q) → (∀ j, i ≤ j → ρ' 33 j = ρ 33 j) → Dg (ρ' 33) i → U (ρ' 33) i + cr * 65536 ^ i = U (ρ 33) i + U (σ ka) i →
            J X 121 [(0, .ref (em (xE X))), (1, .ref (ea (xE X) ka)), (2, .ref (ea (xE X) kb)), (3, .int (nI c)), (4, .int (nI cr)), (5, .int (nI i))] [] ρ' mn iv tw := by
          intro hbit d
          induction d with
          | zero =>
            intro i cr ρ' hi hcr q1 q2 qD q3
            obtain rfl : i = 33 := by omega
            have e29 : ρ' 29 = σ 29 := q1 29 (by decide)
            have hy2 : U (ρ 33) 33 + U (σ ka) 33 < 2 * U (σ 29) 33 := by omega
            have ho := o_zero q3 hy2 hW2 hcr
            rw [ho, Nat.zero_mul] at q3
            have red := red0 hy2 hW1 (jo_eq q3)
            have eT : (U (ρ 33) 33 + U (σ ka) 33) % U (σ 29) 33 = U (σ ka) 33 * (U (σ kb) 32 / 2 ^ c) % U (σ 29) 33 := by
              rw [g3, mm_a, ← eY, hbit]
            rw [eT] at red
            refine J_iload C d_M_times_121 rfl ?_
            refine J_bipush C d_M_times_123 33 (by decide) ?_
            refine J_icmp_ge C d_M_times_125 (tgt := 170) (by decide) (by omega) (by omega) (fun c_125 => ?_) (fun c_125 => ?_)
            · refine J_aload_n C d_M_times_170 0 rfl rfl ?_
              refine J_aload_n C d_M_times_171 0 rfl rfl ?_
              refine J_getM_t C d_M_times_172 ?_
              refine J_callVi R_M (em (xE X)) C (fun _ _ => recvM C) d_M_times_175 (c_less (σ := ρ') (xl X) (xE X) (xA X) (ka := 33) (by decide) (by decide) qD (by rw [e29]; exact hm)) ⟨⟨ml_M_37, ini_M, mc_M_less⟩, co_M_less, ⟨rfl, rfl⟩, by rw [hR]; decide⟩ im_M_less se_M_less rfl (by decide) (fun n175 s175 h175 => ?_)
              refine J_wb (fun hwb => ?_)
              obtain ⟨rfl, p1, p2⟩ := h175
              rw [e29] at p2
              refine J_ifne C d_M_times_178 (tgt := 189) (by decide) (by omega) (fun c_178 => ?_) (fun c_178 => ?_)
              · refine J_sub [0, 1, 2, 3] rfl ?_
                exact seg189 ρ' q1 qD (red.1 (Nat.lt_of_not_le fun h => c_178 (p2.mpr h)))
              · refine J_aload_n C d_M_times_181 0 rfl rfl ?_
                refine J_aload_n C d_M_times_182 0 rfl rfl ?_
                refine J_getM_t C d_M_times_183 ?_
                refine J_callVv R_M (em (xE X)) C (fun _ _ => recvM C) d_M_times_186 (c_minus (σ := ρ') (xl X) (xE X) (xA X) (ka := 33) (by decide) (by decide) (by decide) qD (by rw [e29]; exact hm)) ⟨⟨ml_M_41, ini_M, mc_M_minus⟩, co_M_minus, ⟨rfl, rfl⟩, by rw [hR]; decide⟩ im_M_minus se_M_minus rfl (by decide) (fun s186 h186 => ?_)
                refine J_wb (fun hwb => ?_)
                refine J_sub [0, 1, 2, 3] rfl ?_
                obtain ⟨f1, f2, w, f3, f4⟩ := h186
                rw [e29] at f4
                exact seg189 s186 (fun q hq => by rw [f1 q hq]; exact q1 q hq) f2 (red.2 _ w (p2.mp c_178) (U_lt f2) f3 f4)
            · omega
          | succ d ihd =>
            intro i cr ρ' hi hcr q1 q2 qD q3
            have b1 := g2 i (by omega)
            have b2 := hx i (by omega)
            have e1 := q2 i (Nat.le_refl i)
            have e2 : ρ' ka i = σ ka i := by rw [q1 ka h33]
            refine J_iload C d_M_times_121 rfl ?_
            refine J_bipush C d_M_times_123 33 (by decide) ?_
            refine J_icmp_ge C d_M_times_125 (tgt := 170) (by decide) (by omega) (by omega) (fun c_125 => ?_) (fun c_125 => ?_)
            · omega
            · refine J_aload_n C d_M_times_128 0 rfl rfl ?_
              refine J_getM_t C d_M_times_129 ?_
              refine J_iload C d_M_times_132 rfl ?_
              refine J_iaload C d_M_times_134 (by decide) (by show _ < 33; omega) ?_
              refine J_aload_n C d_M_times_135 1 rfl rfl ?_
              refine J_iload C d_M_times_136 rfl ?_
              refine J_iaload C d_M_times_138 (by omega) (by omega) ?_
              refine J_iadd C d_M_times_139 ?_
              refine J_iload C d_M_times_140 rfl ?_
              refine J_iadd C d_M_times_142 ?_
              refine J_istore (lv' := [(0, _), (1, _), (2, _), (3, _), (4, _), (5, _), (6, _)]) C d_M_times_143 (by decide) rfl rfl ?_
              refine J_aload_n C d_M_times_145 0 rfl rfl ?_
              refine J_getM_t C d_M_times_146 ?_
              refine J_iload C d_M_times_149 rfl ?_
              refine J_iload C d_M_times_151 rfl ?_
              refine J_ldc C d_M_times_153 ?_
              refine J_iand C d_M_times_155 16 65536 rfl (by omega) (by decide) rfl ?_
              refine J_iastore C d_M_times_156 (by decide) (by show _ < 33; omega) ?_
              refine J_wb (fun hwb => ?_)
              refine J_iload C d_M_times_157 rfl ?_
              refine J_bipush C d_M_times_159 16 (by decide) ?_
              refine J_ishr C d_M_times_161 65536 rfl (by omega) (by decide) ?_
              refine J_istore (lv' := [(0, _), (1, _), (2, _), (3, _), (4, _), (5, _), (6, _)]) C d_M_times_162 (by decide) rfl rfl ?_
              refine J_iinc (lv' := [(0, _), (1, _), (2, _), (3, _), (4, _), (5, _), (6, _)]) C d_M_times_164 rfl (inc1 _) (by decide) rfl rfl ?_
              refine J_goto C d_M_times_167 (tgt := 121) (by decide) ?_
              refine J_sub [0, 1, 2, 3, 4, 5] rfl ?_
              have hv : (ρ' 33 i + ρ' ka i + cr) % 65536 % 4294967296 + (ρ' 33 i + ρ' ka i + cr) / 65536 * 65536 = ρ 33 i + σ ka i + cr := by rw [e1, e2]; omega
              refine ihd (i + 1) _ _ (by omega) (by omega) (fun q hq => by rw [up_n hq]; exact q1 q hq) (fun j hj => by rw [up_s, uf_n (by omega)]; exact q2 j (by omega)) (fun j hj => ?_) ?_
              · rw [up_s]
                rcases Nat.lt_or_ge j i with q | q
                · rw [uf_n (by omega)]; exact qD j q
                · rw [show j = i by omega, uf_s]; omega
              · have e := cst (b := 65536) (d := ρ 33 i + σ ka i) q3 hv
                unfold U at e ⊢
                rw [up_s, vl_uf_last, vl_s, vl_s, Nat.pow_succ, e, Nat.add_mul]
                exact Nat.add_add_add_comm _ _ _ _
        refine J_aload_n C d_M_times_100 2 rfl rfl ?_
        refine J_iload_n C d_M_times_101 3 rfl rfl ?_
        refine J_iconst C d_M_times_102 4 (by decide) ?_
        refine J_ishr C d_M_times_103 16 rfl (by omega) (by decide) ?_
        refine J_iaload C d_M_times_104 (by omega) (by omega) ?_
        refine J_iload_n C d_M_times_105 3 rfl rfl ?_
        refine J_bipush C d_M_times_106 15 (by decide) ?_
        refine J_iand C d_M_times_108 4 16 rfl (by first | exact hwb _ _ | omega) (by decide) rfl ?_
        refine J_ishr C d_M_times_109 _ rfl (by rw [e0]; omega) (by omega) ?_
        refine J_iconst C d_M_times_110 1 (by decide) ?_
        refine J_iand C d_M_times_111 1 2 rfl (Nat.lt_of_le_of_lt (Nat.div_le_self _ _) (by rw [e0]; omega)) (by decide) rfl ?_
        rw [e0, ← eb]
        refine J_ifeq C d_M_times_112 (tgt := 189) (by decide) (by omega) (fun c_112 => ?_) (fun c_112 => ?_)
        · exact seg189 ρ g1 g2 (by rw [g3, ← eY, c_112, Nat.add_zero (2 * (U (σ kb) 32 / 2 ^ (c + 1)))])
        · refine J_iconst C d_M_times_115 0 (by decide) ?_
          refine J_istore (lv' := [(0, _), (1, _), (2, _), (3, _), (4, _)]) C d_M_times_116 (by decide) rfl rfl ?_
          refine J_iconst C d_M_times_118 0 (by decide) ?_
          refine J_istore (lv' := [(0, _), (1, _), (2, _), (3, _), (4, _), (5, _)]) C d_M_times_119 (by decide) rfl rfl ?_
          exact add (by omega) 33 0 0 ρ (by omega) (by decide) g1 (fun _ _ => rfl) (fun j hj => by omega) (by rw [show U (ρ 33) 0 = 0 from rfl, show U (σ ka) 0 = 0 from rfl, Nat.zero_mul])
      have dbl : ∀ d i cr ρ, i + d = 33 → cr < 2 → (∀ q, q ≠ 33 → ρ q = σ q) → (∀ j, i ≤ j → ρ 33 j = τ 33 j) → Dg (ρ 33) i → U (ρ 33) i + cr * 65536 ^ i = 2 * U (τ 33) i →
          J X 35 [(0, .ref (em (xE X))), (1, .ref (ea (xE X) ka)), (2, .ref (ea (xE X) kb)), (3, .int (nI c)), (4, .int (nI cr)), (5, .int (nI i))] [] ρ mn iv tw := by
        intro d
        induction d with
        | zero =>
          intro i cr ρ hi hcr g1 g2 gD g3
          obtain rfl : i = 33 := by omega
          have e29 : ρ 29 = σ 29 := g1 29 (by decide)
          have hy2 : 2 * U (τ 33) 33 < 2 * U (σ 29) 33 := by omega
          have ho := o_zero g3 hy2 hW2 hcr
          rw [ho, Nat.zero_mul] at g3
          have red := red0 hy2 hW1 (jo_eq g3)
          rw [show 2 * U (τ 33) 33 % U (σ 29) 33 = U (σ ka) 33 * (2 * (U (σ kb) 32 / 2 ^ (c + 1))) % U (σ 29) 33 by rw [h3, mm_2]] at red
          refine J_iload C d_M_times_35 rfl ?_
          refine J_bipush C d_M_times_37 33 (by decide) ?_
          refine J_icmp_ge C d_M_times_39 (tgt := 81) (by decide) (by omega) (by omega) (fun c_39 => ?_) (fun c_39 => ?_)
          · refine J_aload_n C d_M_times_81 0 rfl rfl ?_
            refine J_aload_n C d_M_times_82 0 rfl rfl ?_
            refine J_getM_t C d_M_times_83 ?_
            refine J_callVi R_M (em (xE X)) C (fun _ _ => recvM C) d_M_times_86 (c_less (σ := ρ) (xl X) (xE X) (xA X) (ka := 33) (by decide) (by decide) gD (by rw [e29]; exact hm)) ⟨⟨ml_M_37, ini_M, mc_M_less⟩, co_M_less, ⟨rfl, rfl⟩, by rw [hR]; decide⟩ im_M_less se_M_less rfl (by decide) (fun n86 s86 h86 => ?_)
            refine J_wb (fun hwb => ?_)
            obtain ⟨rfl, p1, p2⟩ := h86
            rw [e29] at p2
            refine J_ifne C d_M_times_89 (tgt := 100) (by decide) (by omega) (fun c_89 => ?_) (fun c_89 => ?_)
            · refine J_sub [0, 1, 2, 3] rfl ?_
              exact seg100 ρ g1 gD (red.1 (Nat.lt_of_not_le fun h => c_89 (p2.mpr h)))
            · refine J_aload_n C d_M_times_92 0 rfl rfl ?_
              refine J_aload_n C d_M_times_93 0 rfl rfl ?_
              refine J_getM_t C d_M_times_94 ?_
              refine J_callVv R_M (em (xE X)) C (fun _ _ => recvM C) d_M_times_97 (c_minus (σ := ρ) (xl X) (xE X) (xA X) (ka := 33) (by decide) (by decide) (by decide) gD (by rw [e29]; exact hm)) ⟨⟨ml_M_41, ini_M, mc_M_minus⟩, co_M_minus, ⟨rfl, rfl⟩, by rw [hR]; decide⟩ im_M_minus se_M_minus rfl (by decide) (fun s97 h97 => ?_)
              refine J_wb (fun hwb => ?_)
              refine J_sub [0, 1, 2, 3] rfl ?_
              obtain ⟨f1, f2, w, f3, f4⟩ := h97
              rw [e29] at f4
              exact seg100 s97 (fun q hq => by rw [f1 q hq]; exact g1 q hq) f2 (red.2 _ w (p2.mp c_89) (U_lt f2) f3 f4)
          · omega
        | succ d ihd =>
          intro i cr ρ hi hcr g1 g2 gD g3
          have b1 := h2 i (by omega)
          have e1 := g2 i (Nat.le_refl i)
          refine J_iload C d_M_times_35 rfl ?_
          refine J_bipush C d_M_times_37 33 (by decide) ?_
          refine J_icmp_ge C d_M_times_39 (tgt := 81) (by decide) (by omega) (by omega) (fun c_39 => ?_) (fun c_39 => ?_)
          · omega
          · refine J_iconst C d_M_times_42 2 (by decide) ?_
            refine J_aload_n C d_M_times_43 0 rfl rfl ?_
            refine J_getM_t C d_M_times_44 ?_
            refine J_iload C d_M_times_47 rfl ?_
            refine J_iaload C d_M_times_49 (by decide) (by show _ < 33; omega) ?_
            refine J_imul C d_M_times_50 ?_
            refine J_iload C d_M_times_51 rfl ?_
            refine J_iadd C d_M_times_53 ?_
            refine J_istore (lv' := [(0, _), (1, _), (2, _), (3, _), (4, _), (5, _), (6, _)]) C d_M_times_54 (by decide) rfl rfl ?_
            refine J_aload_n C d_M_times_56 0 rfl rfl ?_
            refine J_getM_t C d_M_times_57 ?_
            refine J_iload C d_M_times_60 rfl ?_
            refine J_iload C d_M_times_62 rfl ?_
            refine J_ldc C d_M_times_64 ?_
            refine J_iand C d_M_times_66 16 65536 rfl (by omega) (by decide) rfl ?_
            refine J_iastore C d_M_times_67 (by decide) (by show _ < 33; omega) ?_
            refine J_wb (fun hwb => ?_)
            refine J_iload C d_M_times_68 rfl ?_
            refine J_bipush C d_M_times_70 16 (by decide) ?_
            refine J_ishr C d_M_times_72 65536 rfl (by omega) (by decide) ?_
            refine J_istore (lv' := [(0, _), (1, _), (2, _), (3, _), (4, _), (5, _), (6, _)]) C d_M_times_73 (by decide) rfl rfl ?_
            refine J_iinc (lv' := [(0, _), (1, _), (2, _), (3, _), (4, _), (5, _), (6, _)]) C d_M_times_75 rfl (inc1 _) (by decide) rfl rfl ?_
            refine J_goto C d_M_times_78 (tgt := 35) (by decide) ?_
            refine J_sub [0, 1, 2, 3, 4, 5] rfl ?_
            have hv : (2 * ρ 33 i + cr) % 65536 % 4294967296 + (2 * ρ 33 i + cr) / 65536 * 65536 = 2 * τ 33 i + cr := by rw [e1]; omega
            refine ihd (i + 1) _ _ (by omega) (by omega) (fun q hq => by rw [up_n hq]; exact g1 q hq) (fun j hj => by rw [up_s, uf_n (by omega)]; exact g2 j (by omega)) (fun j hj => ?_) ?_
            · rw [up_s]
              rcases Nat.lt_or_ge j i with q | q
              · rw [uf_n (by omega)]; exact gD j q
              · rw [show j = i by omega, uf_s]; omega
            · have e := cst (b := 65536) (d := 2 * τ 33 i) g3 hv
              unfold U at e ⊢
              rw [up_s, vl_uf_last, vl_s, Nat.pow_succ, e, Nat.mul_assoc, Nat.mul_add]
      refine J_iload_n C d_M_times_25 3 rfl rfl ?_
      refine J_iflt C d_M_times_26 (tgt := 195) (by decide) (by first | exact hwb _ _ | omega) (fun c_26 => ?_) (fun c_26 => ?_)
      · omega
      · refine J_iconst C d_M_times_29 0 (by decide) ?_
        refine J_istore (lv' := [(0, _), (1, _), (2, _), (3, _), (4, _)]) C d_M_times_30 (by decide) rfl rfl ?_
        refine J_iconst C d_M_times_32 0 (by decide) ?_
        refine J_istore (lv' := [(0, _), (1, _), (2, _), (3, _), (4, _), (5, _)]) C d_M_times_33 (by decide) rfl rfl ?_
        exact dbl 33 0 0 τ (by omega) (by decide) h1 (fun _ _ => rfl) (fun j hj => by omega) (by rw [show U (τ 33) 0 = 0 from rfl, Nat.zero_mul])
  have zero : ∀ d i τ, i + d = 33 → (∀ q, q ≠ 33 → τ q = σ q) → (∀ j, j < i → τ 33 j = 0) → J X 2 [(0, .ref (em (xE X))), (1, .ref (ea (xE X) ka)), (2, .ref (ea (xE X) kb)), (3, .int (nI i))] [] τ mn iv tw := by
    intro d
    induction d with
    | zero =>
      intro i τ hi g1 g2
      obtain rfl : i = 33 := by omega
      refine J_iload_n C d_M_times_2 3 rfl rfl ?_
      refine J_bipush C d_M_times_3 33 (by decide) ?_
      refine J_icmp_ge C d_M_times_5 (tgt := 21) (by decide) (by omega) (by omega) (fun c_5 => ?_) (fun c_5 => ?_)
      · refine J_sipush C d_M_times_21 511 (by decide) ?_
        refine J_istore_n (lv' := [(0, _), (1, _), (2, _), (3, _)]) C d_M_times_24 3 rfl (by decide) rfl rfl ?_
        refine main 512 (Nat.le_refl _) τ g1 (fun j hj => by rw [g2 j hj]; decide) ?_
        have hlt : U (σ kb) 32 < 2 ^ 512 := by
          have := U_lt hy
          rw [show (65536 : Nat) = 2 ^ 16 from rfl, ← Nat.pow_mul] at this
          exact this
        rw [Nat.div_eq_of_lt hlt, Nat.mul_zero, Nat.zero_mod]
        exact vl_zero g2
      · omega
    | succ d ih =>
      intro i τ hi g1 g2
      refine J_iload_n C d_M_times_2 3 rfl rfl ?_
      refine J_bipush C d_M_times_3 33 (by decide) ?_
      refine J_icmp_ge C d_M_times_5 (tgt := 21) (by decide) (by omega) (by omega) (fun c_5 => ?_) (fun c_5 => ?_)
      · omega
      · refine J_aload_n C d_M_times_8 0 rfl rfl ?_
        refine J_getM_t C d_M_times_9 ?_
        refine J_iload_n C d_M_times_12 3 rfl rfl ?_
        refine J_iconst C d_M_times_13 0 (by decide) ?_
        refine J_iastore C d_M_times_14 (by decide) (by show _ < 33; omega) ?_
        refine J_wb (fun hwb => ?_)
        refine J_iinc (lv' := [(0, _), (1, _), (2, _), (3, _)]) C d_M_times_15 rfl (inc1 _) (by decide) rfl rfl ?_
        refine J_goto C d_M_times_18 (tgt := 2) (by decide) ?_
        refine ih (i + 1) _ (by omega) (fun q hq => by rw [up_n hq]; exact g1 q hq) (fun j hj => ?_)
        rw [up_s]
        rcases Nat.lt_or_ge j i with q | q
        · rw [uf_n (by omega)]; exact g2 j q
        · rw [show j = i by omega, uf_s]
  refine J_iconst C d_M_times_0 0 (by decide) ?_
  refine J_istore_n (lv' := [(0, _), (1, _), (2, _), (3, _)]) C d_M_times_1 3 rfl (by decide) rfl rfl ?_
  exact zero 33 0 σ (by omega) (fun _ _ => rfl) (fun j hj => by omega)
theorem c_mtimes (l : Launch) (E : En) (A : Nat → Prop) {ka kb : Nat} (ha : ka < 35) (hb : kb < 35) (la : ln ka = 33) (lb : 32 ≤ ln kb) (h29 : ka ≠ 29) (h33 : ka ≠ 33) (hb33 : kb ≠ 33) (hx : Dg (σ ka) 33) (hy : Dg (σ kb) 32) (hm : Dg (σ 29) 33) (hxM : U (σ ka) 33 < U (σ 29) 33) (hM : U (σ 29) 33 < 65536 ^ 32) : MV l y_M_times b_M_times 7 rm_M_times [.ref (em E), .ref (ea E ka), .ref (ea E kb)] E A σ mn iv tw (fun u => (∀ q, q ≠ ka → q ≠ 33 → u q = σ q) ∧ Dg (u ka) 33 ∧ U (u ka) 33 = U (σ ka) 33 * U (σ kb) 32 % U (σ 29) 33) :=
  mk_v (by decide) (Nat.le_of_ble_eq_true rfl) (fun X C hR hE k => by subst hE; exact b_mtimes C hR ha hb la lb h29 h33 hb33 hx hy hm hxM hM (fun u h1 h2 h3 => k u ⟨h1, h2, h3⟩))
end MTIMES
end
section
/-! THE MODEL's face -/
def fixu (f : Nat → Nat) : Nat → Nat := if U f 32 < 2 then uf f 0 2 else f
theorem fixu_Dg {f : Nat → Nat} {n : Nat} (h : Dg f n) : Dg (fixu f) n := by
  intro j hj
  unfold fixu
  split
  · unfold uf
    split
    · decide
    · exact h j hj
  · exact h j hj
theorem fixu_32 {f : Nat → Nat} (h : f 32 = 0) : fixu f 32 = 0 := by
  unfold fixu
  split
  · rw [uf_n (by decide), h]
  · exact h
theorem fixu_ge (f : Nat → Nat) : 2 ≤ U (fixu f) 32 := by
  unfold fixu
  split
  · have h := vl_ge (b := 65536) (f := uf f 0 2) (j := 0) (n := 32) (by decide)
    rw [uf_s] at h
    exact h
  · omega
theorem lf_32 {g : Nat → Nat} {pt p q r s : Nat} (h : g 32 = 0) : lf g pt p q r s 32 = 0 := by
  unfold lf
  rw [if_neg (by omega)]
  exact h
/-- 33 digits, the highest 0 -/
theorem U_32 {f : Nat → Nat} (h : f 32 = 0) : U f 33 = U f 32 := by
  have e : U f 33 = U f 32 + f 32 * 65536 ^ 32 := vl_s _ _ _
  rw [e, h, Nat.zero_mul, Nat.add_zero (U f 32)]
theorem U_33lt {f : Nat → Nat} (h : f 32 = 0) (hd : Dg f 33) : U f 33 < 65536 ^ 32 := by
  rw [U_32 h]
  exact vl_lt (fun j hj => hd j (by omega))
theorem V_oneU {f : Nat → Nat} {v n : Nat} (h : ∀ j, j < n + 1 → f j = 0) : U (uf f 0 v) (n + 1) = v := by
  have e := vl_uf (b := 65536) (f := f) (p := 0) (v := v) (n := n + 1) (by omega)
  rw [h 0 (by omega), vl_zero h, Nat.pow_zero] at e
  unfold U
  omega
section MFACE
variable {X : Ctx} {σ : Nat → Nat → Nat} {mn iv tw : Nat}
set_option maxHeartbeats 1000000 in
theorem b_mraise (C : Cx X b_M_raise 3 R_M) (hR : xR X = rm_M_raise) (ha : Dg (σ 30) 33) (he : Dg (σ 31) 32) (hm : Dg (σ 29) 33) (hM2 : 2 ≤ U (σ 29) 33) (hM : U (σ 29) 33 < 65536 ^ 32) (haM : U (σ 30) 33 < U (σ 29) 33)
    (k : ∀ u, (∀ q, q ≠ 32 → q ≠ 33 → q ≠ 34 → u q = σ q) → Dg (u 32) 33 → U (u 32) 33 = U (σ 30) 33 ^ U (σ 31) 32 % U (σ 29) 33 → Ret X b_M_raise .return_ [] u mn iv tw) :
    J X 0 [(0, .ref (em (xE X)))] [] σ mn iv tw := by
  have copy : ∀ τ : Nat → Nat → Nat, (∀ q, q ≠ 33 → q ≠ 34 → τ q = σ q) → Dg (τ 34) 33 → U (τ 34) 33 = U (σ 30) 33 ^ U (σ 31) 32 % U (σ 29) 33 → ∀ d i (ρ : Nat → Nat → Nat), i + d = 33 → (∀ q, q ≠ 32 → ρ q = τ q) → (∀ j, j < i → ρ 32 j = τ 34 j) →
      ∀ x1 : Int32, J X 115 [(0, .ref (em (xE X))), (1, .int x1), (2, .int (nI i))] [] ρ mn iv tw := by
    intro τ h1 h2 h3 d
    induction d with
    | zero =>
      intro i ρ hi g1 g2 x1
      obtain rfl : i = 33 := by omega
      refine J_iload_n C d_M_raise_115 2 rfl rfl ?_
      refine J_bipush C d_M_raise_116 33 (by decide) ?_
      refine J_icmp_ge C d_M_raise_118 (tgt := 139) (by decide) (by omega) (by omega) (fun c_118 => ?_) (fun c_118 => ?_)
      · exact k ρ (fun q a1 a2 a3 => by rw [g1 q a1, h1 q a2 a3]) (fun j hj => by rw [g2 j hj]; exact h2 j hj) (by rw [← h3]; exact vl_congr g2) _ _ d_M_raise_139
      · omega
    | succ d ih =>
      intro i ρ hi g1 g2 x1
      have e33 : ρ 34 = τ 34 := g1 34 (by decide)
      have b1 := h2 i (by omega)
      refine J_iload_n C d_M_raise_115 2 rfl rfl ?_
      refine J_bipush C d_M_raise_116 33 (by decide) ?_
      refine J_icmp_ge C d_M_raise_118 (tgt := 139) (by decide) (by omega) (by omega) (fun c_118 => ?_) (fun c_118 => ?_)
      · omega
      · refine J_aload_n C d_M_raise_121 0 rfl rfl ?_
        refine J_getM_z C d_M_raise_122 ?_
        refine J_iload_n C d_M_raise_125 2 rfl rfl ?_
        refine J_aload_n C d_M_raise_126 0 rfl rfl ?_
        refine J_getM_u C d_M_raise_127 ?_
        refine J_iload_n C d_M_raise_130 2 rfl rfl ?_
        refine J_iaload C d_M_raise_131 (by decide) (by show _ < 33; omega) ?_
        refine J_iastore C d_M_raise_132 (by decide) (by show _ < 33; omega) ?_
        refine J_wb (fun hwb => ?_)
        refine J_iinc (lv' := [(0, _), (1, _), (2, _)]) C d_M_raise_133 rfl (inc1 _) (by decide) rfl rfl ?_
        refine J_goto C d_M_raise_136 (tgt := 115) (by decide) ?_
        refine ih (i + 1) _ (by omega) (fun q hq => by rw [up_n hq]; exact g1 q hq) (fun j hj => ?_) x1
        rw [up_s]
        rcases Nat.lt_or_ge j i with q | q
        · rw [uf_n (by omega)]; exact g2 j q
        · rw [show j = i by omega, uf_s, e33]; omega
  have main : ∀ c, c ≤ 512 → ∀ τ, (∀ q, q ≠ 33 → q ≠ 34 → τ q = σ q) → Dg (τ 34) 33 → U (τ 34) 33 = U (σ 30) 33 ^ (U (σ 31) 32 / 2 ^ c) % U (σ 29) 33 →
      J X 61 [(0, .ref (em (xE X))), (1, .int (nI c + (-1)))] [] τ mn iv tw := by
    intro c
    induction c with
    | zero =>
      intro _ τ h1 h2 h3
      rw [m1_0]
      refine J_iload_n C d_M_raise_61 1 rfl rfl ?_
      refine J_iflt C d_M_raise_62 (tgt := 113) (by decide) (by first | exact hwb _ _ | omega) (fun c_62 => ?_) (fun c_62 => ?_)
      · refine J_iconst C d_M_raise_113 0 (by decide) ?_
        refine J_istore_n (lv' := [(0, _), (1, _), (2, _)]) C d_M_raise_114 2 rfl (by decide) rfl rfl ?_
        exact copy τ h1 h2 (by rw [h3, Nat.pow_zero, Nat.div_one]) 33 0 τ (by omega) (fun _ _ => rfl) (fun j hj => by omega) _
      · omega
    | succ c ih =>
      intro hc τ h1 h2 h3
      rw [pk_m1]
      have eb : U (σ 31) 32 / 2 ^ c % 2 = σ 31 (c / 16) / 2 ^ (c % 16) % 2 := bitW (w := 16) (by decide) he (by omega)
      have eE : 2 * (U (σ 31) 32 / 2 ^ (c + 1)) + U (σ 31) 32 / 2 ^ c % 2 = U (σ 31) 32 / 2 ^ c := by
        rw [Nat.pow_succ, ← Nat.div_div_eq_div_mul]; omega
      have hb2 : U (σ 31) 32 / 2 ^ c % 2 < 2 := Nat.mod_lt _ (by decide)
      have e29 : τ 29 = σ 29 := h1 29 (by decide) (by decide)
      have hM0 : 0 < U (σ 29) 33 := by omega
      have hr : U (τ 34) 33 < U (τ 29) 33 := by rw [h3, e29]; exact Nat.mod_lt _ hM0
      have b0 := he (c / 16) (by omega)
      refine J_iload_n C d_M_raise_61 1 rfl rfl ?_
      refine J_iflt C d_M_raise_62 (tgt := 113) (by decide) (by first | exact hwb _ _ | omega) (fun c_62 => ?_) (fun c_62 => ?_)
      · omega
      · refine J_aload_n C d_M_raise_65 0 rfl rfl ?_
        refine J_aload_n C d_M_raise_66 0 rfl rfl ?_
        refine J_getM_u C d_M_raise_67 ?_
        refine J_aload_n C d_M_raise_70 0 rfl rfl ?_
        refine J_getM_u C d_M_raise_71 ?_
        refine J_callVv R_M (em (xE X)) C (fun _ _ => recvM C) d_M_raise_74 (c_mtimes (σ := τ) (xl X) (xE X) (xA X) (ka := 34) (kb := 34) (by decide) (by decide) rfl (by decide) (by decide) (by decide) (by decide) h2 (fun j hj => h2 j (by omega)) (by rw [e29]; exact hm) hr (by rw [e29]; exact hM)) ⟨⟨ml_M_44, ini_M, mc_M_times⟩, co_M_times, ⟨rfl, rfl⟩, by rw [hR]; decide⟩ im_M_times se_M_times rfl (by decide) (fun s74 h74 => ?_)
        refine J_wb (fun hwb => ?_)
        obtain ⟨g1, g2, g3⟩ := h74
        rw [← U33 (Nat.lt_trans hr (by rw [e29]; exact hM)), e29, h3, sq_pow] at g3
        have e31 : s74 31 (c / 16) = σ 31 (c / 16) := by rw [g1 31 (by decide) (by decide), h1 31 (by decide) (by decide)]
        have e29' : s74 29 = σ 29 := by rw [g1 29 (by decide) (by decide), e29]
        have e30' : s74 30 = σ 30 := by rw [g1 30 (by decide) (by decide), h1 30 (by decide) (by decide)]
        refine J_aload_n C d_M_raise_77 0 rfl rfl ?_
        refine J_getM_e C d_M_raise_78 ?_
        refine J_iload_n C d_M_raise_81 1 rfl rfl ?_
        refine J_iconst C d_M_raise_82 4 (by decide) ?_
        refine J_ishr C d_M_raise_83 16 rfl (by omega) (by decide) ?_
        refine J_iaload C d_M_raise_84 (by decide) (by show _ < 32; omega) ?_
        refine J_iload_n C d_M_raise_85 1 rfl rfl ?_
        refine J_bipush C d_M_raise_86 15 (by decide) ?_
        refine J_iand C d_M_raise_88 4 16 rfl (by first | exact hwb _ _ | omega) (by decide) rfl ?_
        refine J_ishr C d_M_raise_89 _ rfl (by rw [e31]; omega) (by omega) ?_
        refine J_iconst C d_M_raise_90 1 (by decide) ?_
        refine J_iand C d_M_raise_91 1 2 rfl (Nat.lt_of_le_of_lt (Nat.div_le_self _ _) (by rw [e31]; omega)) (by decide) rfl ?_
        rw [e31, ← eb]
        refine J_ifeq C d_M_raise_92 (tgt := 107) (by decide) (by omega) (fun c_92 => ?_) (fun c_92 => ?_)
        · refine J_iinc (lv' := [(0, _), (1, _)]) C d_M_raise_107 rfl (dec1 _) (by decide) rfl rfl ?_
          refine J_goto C d_M_raise_110 (tgt := 61) (by decide) ?_
          refine ih (by omega) s74 (fun q a1 a2 => by rw [g1 q a2 a1]; exact h1 q a1 a2) g2 ?_
          rw [g3, ← eE, c_92, Nat.add_zero (2 * (U (σ 31) 32 / 2 ^ (c + 1)))]
        · refine J_aload_n C d_M_raise_95 0 rfl rfl ?_
          refine J_aload_n C d_M_raise_96 0 rfl rfl ?_
          refine J_getM_u C d_M_raise_97 ?_
          refine J_aload_n C d_M_raise_100 0 rfl rfl ?_
          refine J_getM_a C d_M_raise_101 ?_
          refine J_callVv R_M (em (xE X)) C (fun _ _ => recvM C) d_M_raise_104 (c_mtimes (σ := s74) (xl X) (xE X) (xA X) (ka := 34) (kb := 30) (by decide) (by decide) rfl (by decide) (by decide) (by decide) (by decide) g2 (by rw [e30']; exact fun j hj => ha j (by omega)) (by rw [e29']; exact hm) (by rw [g3, e29']; exact Nat.mod_lt _ hM0) (by rw [e29']; exact hM)) ⟨⟨ml_M_44, ini_M, mc_M_times⟩, co_M_times, ⟨rfl, rfl⟩, by rw [hR]; decide⟩ im_M_times se_M_times rfl (by decide) (fun s104 h104 => ?_)
          refine J_wb (fun hwb => ?_)
          refine J_iinc (lv' := [(0, _), (1, _)]) C d_M_raise_107 rfl (dec1 _) (by decide) rfl rfl ?_
          refine J_goto C d_M_raise_110 (tgt := 61) (by decide) ?_
          obtain ⟨f1, f2, f3⟩ := h104
          refine ih (by omega) s104 (fun q a1 a2 => by rw [f1 q a2 a1, g1 q a2 a1]; exact h1 q a1 a2) f2 ?_
          rw [f3, e30', ← U33 (Nat.lt_trans haM hM), e29', g3, mul_pow_s, ← eE, show U (σ 31) 32 / 2 ^ c % 2 = 1 by omega]
  have scan : ∀ c, c ≤ 512 → U (σ 31) 32 < 2 ^ c → ∀ τ, (∀ q, q ≠ 33 → q ≠ 34 → τ q = σ q) → Dg (τ 34) 33 → U (τ 34) 33 = 1 →
      J X 32 [(0, .ref (em (xE X))), (1, .int (nI c + (-1)))] [] τ mn iv tw := by
    intro c
    induction c with
    | zero =>
      intro _ hE τ h1 h2 h3
      rw [m1_0]
      refine J_iload_n C d_M_raise_32 1 rfl rfl ?_
      refine J_iflt C d_M_raise_33 (tgt := 61) (by decide) (by first | exact hwb _ _ | omega) (fun c_33 => ?_) (fun c_33 => ?_)
      · have h := main 0 (by decide) τ h1 h2 (by rw [h3, Nat.div_eq_of_lt hE, Nat.pow_zero]; exact (Nat.mod_eq_of_lt hM2).symm)
        rw [m1_0] at h
        exact h
      · omega
    | succ c ih =>
      intro hc hE τ h1 h2 h3
      have eb : U (σ 31) 32 / 2 ^ c % 2 = σ 31 (c / 16) / 2 ^ (c % 16) % 2 := bitW (w := 16) (by decide) he (by omega)
      have hb2 : U (σ 31) 32 / 2 ^ c % 2 < 2 := Nat.mod_lt _ (by decide)
      have e31 : τ 31 (c / 16) = σ 31 (c / 16) := by rw [h1 31 (by decide) (by decide)]
      have b0 := he (c / 16) (by omega)
      have hmain := main (c + 1) hc τ h1 h2 (by rw [h3, Nat.div_eq_of_lt hE, Nat.pow_zero]; exact (Nat.mod_eq_of_lt hM2).symm)
      rw [pk_m1] at hmain ⊢
      refine J_iload_n C d_M_raise_32 1 rfl rfl ?_
      refine J_iflt C d_M_raise_33 (tgt := 61) (by decide) (by first | exact hwb _ _ | omega) (fun c_33 => ?_) (fun c_33 => ?_)
      · omega
      · refine J_aload_n C d_M_raise_36 0 rfl rfl ?_
        refine J_getM_e C d_M_raise_37 ?_
        refine J_iload_n C d_M_raise_40 1 rfl rfl ?_
        refine J_iconst C d_M_raise_41 4 (by decide) ?_
        refine J_ishr C d_M_raise_42 16 rfl (by omega) (by decide) ?_
        refine J_iaload C d_M_raise_43 (by decide) (by show _ < 32; omega) ?_
        refine J_iload_n C d_M_raise_44 1 rfl rfl ?_
        refine J_bipush C d_M_raise_45 15 (by decide) ?_
        refine J_iand C d_M_raise_47 4 16 rfl (by first | exact hwb _ _ | omega) (by decide) rfl ?_
        refine J_ishr C d_M_raise_48 _ rfl (by rw [e31]; omega) (by omega) ?_
        refine J_iconst C d_M_raise_49 1 (by decide) ?_
        refine J_iand C d_M_raise_50 1 2 rfl (Nat.lt_of_le_of_lt (Nat.div_le_self _ _) (by rw [e31]; omega)) (by decide) rfl ?_
        rw [e31, ← eb]
        refine J_ifne C d_M_raise_51 (tgt := 61) (by decide) (by omega) (fun c_51 => ?_) (fun c_51 => ?_)
        · exact hmain
        · refine J_iload_n C d_M_raise_54 1 rfl rfl ?_
          refine J_iconst C d_M_raise_55 1 (by decide) ?_
          refine J_isub1 C d_M_raise_56 ?_
          refine J_istore_n (lv' := [(0, _), (1, _)]) C d_M_raise_57 1 rfl (by decide) rfl rfl ?_
          refine J_goto C d_M_raise_58 (tgt := 32) (by decide) ?_
          exact ih (by omega) (low_bit hE c_51) τ h1 h2 h3
  have zero : ∀ d i τ, i + d = 33 → (∀ q, q ≠ 33 → q ≠ 34 → τ q = σ q) → (∀ j, j < i → τ 34 j = 0) → J X 2 [(0, .ref (em (xE X))), (1, .int (nI i))] [] τ mn iv tw := by
    intro d
    induction d with
    | zero =>
      intro i τ hi g1 g2
      obtain rfl : i = 33 := by omega
      refine J_iload_n C d_M_raise_2 1 rfl rfl ?_
      refine J_bipush C d_M_raise_3 33 (by decide) ?_
      refine J_icmp_ge C d_M_raise_5 (tgt := 21) (by decide) (by omega) (by omega) (fun c_5 => ?_) (fun c_5 => ?_)
      · refine J_aload_n C d_M_raise_21 0 rfl rfl ?_
        refine J_getM_u C d_M_raise_22 ?_
        refine J_iconst C d_M_raise_25 0 (by decide) ?_
        refine J_iconst C d_M_raise_26 1 (by decide) ?_
        refine J_iastore C d_M_raise_27 (by decide) (by show _ < 33; omega) ?_
        refine J_wb (fun hwb => ?_)
        refine J_sipush C d_M_raise_28 511 (by decide) ?_
        refine J_istore_n (lv' := [(0, _), (1, _)]) C d_M_raise_31 1 rfl (by decide) rfl rfl ?_
        have hlt : U (σ 31) 32 < 2 ^ 512 := by
          have := U_lt he
          rw [show (65536 : Nat) = 2 ^ 16 from rfl, ← Nat.pow_mul] at this
          exact this
        refine scan 512 (Nat.le_refl _) hlt _ (fun q a1 a2 => by rw [up_n a2]; exact g1 q a1 a2) (fun j hj => ?_) (by rw [up_s]; exact V_oneU (n := 32) g2)
        rw [up_s]
        unfold uf
        split
        · decide
        · rw [g2 j hj]; decide
      · omega
    | succ d ih =>
      intro i τ hi g1 g2
      refine J_iload_n C d_M_raise_2 1 rfl rfl ?_
      refine J_bipush C d_M_raise_3 33 (by decide) ?_
      refine J_icmp_ge C d_M_raise_5 (tgt := 21) (by decide) (by omega) (by omega) (fun c_5 => ?_) (fun c_5 => ?_)
      · omega
      · refine J_aload_n C d_M_raise_8 0 rfl rfl ?_
        refine J_getM_u C d_M_raise_9 ?_
        refine J_iload_n C d_M_raise_12 1 rfl rfl ?_
        refine J_iconst C d_M_raise_13 0 (by decide) ?_
        refine J_iastore C d_M_raise_14 (by decide) (by show _ < 33; omega) ?_
        refine J_wb (fun hwb => ?_)
        refine J_iinc (lv' := [(0, _), (1, _)]) C d_M_raise_15 rfl (inc1 _) (by decide) rfl rfl ?_
        refine J_goto C d_M_raise_18 (tgt := 2) (by decide) ?_
        refine ih (i + 1) _ (by omega) (fun q a1 a2 => by rw [up_n a2]; exact g1 q a1 a2) (fun j hj => ?_)
        rw [up_s]
        rcases Nat.lt_or_ge j i with q | q
        · rw [uf_n (by omega)]; exact g2 j q
        · rw [show j = i by omega, uf_s]
  refine J_iconst C d_M_raise_0 0 (by decide) ?_
  refine J_istore_n (lv' := [(0, _), (1, _)]) C d_M_raise_1 1 rfl (by decide) rfl rfl ?_
  exact zero 33 0 σ (by omega) (fun _ _ _ => rfl) (fun j hj => by omega)
theorem c_mraise (l : Launch) (E : En) (A : Nat → Prop) (ha : Dg (σ 30) 33) (he : Dg (σ 31) 32) (hm : Dg (σ 29) 33) (hM2 : 2 ≤ U (σ 29) 33) (hM : U (σ 29) 33 < 65536 ^ 32) (haM : U (σ 30) 33 < U (σ 29) 33) : MV l y_M_raise b_M_raise 3 rm_M_raise [.ref (em E)] E A σ mn iv tw (fun u => (∀ q, q ≠ 32 → q ≠ 33 → q ≠ 34 → u q = σ q) ∧ Dg (u 32) 33 ∧ U (u 32) 33 = U (σ 30) 33 ^ U (σ 31) 32 % U (σ 29) 33) :=
  mk_v (by decide) (Nat.le_of_ble_eq_true rfl) (fun X C hR hE k => by subst hE; exact b_mraise C hR ha he hm hM2 hM haM (fun u h1 h2 h3 => k u ⟨h1, h2, h3⟩))
theorem b_mmultiply (C : Cx X b_M_multiply 1 R_M) (hR : xR X = rm_M_multiply) (ha : Dg (σ 30) 33) (hz : Dg (σ 32) 33) (hm : Dg (σ 29) 33) (hM : U (σ 29) 33 < 65536 ^ 32) (haM : U (σ 30) 33 < U (σ 29) 33) (hzM : U (σ 32) 33 < U (σ 29) 33)
    (k : ∀ u, (∀ q, q ≠ 32 → q ≠ 33 → u q = σ q) → Dg (u 32) 33 → U (u 32) 33 = U (σ 32) 33 * U (σ 30) 33 % U (σ 29) 33 → Ret X b_M_multiply .return_ [] u mn iv tw) :
    J X 0 [(0, .ref (em (xE X)))] [] σ mn iv tw := by
  refine J_aload_n C d_M_multiply_0 0 rfl rfl ?_
  refine J_aload_n C d_M_multiply_1 0 rfl rfl ?_
  refine J_getM_z C d_M_multiply_2 ?_
  refine J_aload_n C d_M_multiply_5 0 rfl rfl ?_
  refine J_getM_a C d_M_multiply_6 ?_
  refine J_callVv R_M (em (xE X)) C (fun _ _ => recvM C) d_M_multiply_9 (c_mtimes (σ := σ) (xl X) (xE X) (xA X) (ka := 32) (kb := 30) (by decide) (by decide) rfl (by decide) (by decide) (by decide) (by decide) hz (fun j hj => ha j (by omega)) hm hzM hM) ⟨⟨ml_M_44, ini_M, mc_M_times⟩, co_M_times, ⟨rfl, rfl⟩, by rw [hR]; decide⟩ im_M_times se_M_times rfl (by decide) (fun s9 h9 => ?_)
  refine J_wb (fun hwb => ?_)
  obtain ⟨g1, g2, g3⟩ := h9
  rw [← U33 (Nat.lt_trans haM hM)] at g3
  exact k s9 g1 g2 g3 _ _ d_M_multiply_12
theorem c_mmultiply (l : Launch) (E : En) (A : Nat → Prop) (ha : Dg (σ 30) 33) (hz : Dg (σ 32) 33) (hm : Dg (σ 29) 33) (hM : U (σ 29) 33 < 65536 ^ 32) (haM : U (σ 30) 33 < U (σ 29) 33) (hzM : U (σ 32) 33 < U (σ 29) 33) : MV l y_M_multiply b_M_multiply 1 rm_M_multiply [.ref (em E)] E A σ mn iv tw (fun u => (∀ q, q ≠ 32 → q ≠ 33 → u q = σ q) ∧ Dg (u 32) 33 ∧ U (u 32) 33 = U (σ 32) 33 * U (σ 30) 33 % U (σ 29) 33) :=
  mk_v (by decide) (Nat.le_of_ble_eq_true rfl) (fun X C hR hE k => by subst hE; exact b_mmultiply C hR ha hz hm hM haM hzM (fun u h1 h2 h3 => k u ⟨h1, h2, h3⟩))
theorem b_mkeep (C : Cx X b_M_keep 2 R_M) (k : ∀ u, (∀ q, q ≠ 30 → u q = σ q) → (∀ j, j < 33 → u 30 j = σ 32 j) → Ret X b_M_keep .return_ [] u mn iv tw) : J X 0 [(0, .ref (em (xE X)))] [] σ mn iv tw := by
  have loop : ∀ d i τ, i + d = 33 → (∀ q, q ≠ 30 → τ q = σ q) → (∀ j, j < i → τ 30 j = σ 32 j) → J X 2 [(0, .ref (em (xE X))), (1, .int (nI i))] [] τ mn iv tw := by
    intro d
    induction d with
    | zero =>
      intro i τ hi g1 g2
      obtain rfl : i = 33 := by omega
      refine J_iload_n C d_M_keep_2 1 rfl rfl ?_
      refine J_bipush C d_M_keep_3 33 (by decide) ?_
      refine J_icmp_ge C d_M_keep_5 (tgt := 26) (by decide) (by omega) (by omega) (fun c_5 => ?_) (fun c_5 => ?_)
      · exact k τ g1 g2 _ _ d_M_keep_26
      · omega
    | succ d ih =>
      intro i τ hi g1 g2
      refine J_wb (fun hwb => ?_)
      have b1 := hwb 32 i
      refine J_iload_n C d_M_keep_2 1 rfl rfl ?_
      refine J_bipush C d_M_keep_3 33 (by decide) ?_
      refine J_icmp_ge C d_M_keep_5 (tgt := 26) (by decide) (by omega) (by omega) (fun c_5 => ?_) (fun c_5 => ?_)
      · omega
      · refine J_aload_n C d_M_keep_8 0 rfl rfl ?_
        refine J_getM_a C d_M_keep_9 ?_
        refine J_iload_n C d_M_keep_12 1 rfl rfl ?_
        refine J_aload_n C d_M_keep_13 0 rfl rfl ?_
        refine J_getM_z C d_M_keep_14 ?_
        refine J_iload_n C d_M_keep_17 1 rfl rfl ?_
        refine J_iaload C d_M_keep_18 (by decide) (by show _ < 33; omega) ?_
        refine J_iastore C d_M_keep_19 (by decide) (by show _ < 33; omega) ?_
        refine J_wb (fun hwb => ?_)
        refine J_iinc (lv' := [(0, _), (1, _)]) C d_M_keep_20 rfl (inc1 _) (by decide) rfl rfl ?_
        refine J_goto C d_M_keep_23 (tgt := 2) (by decide) ?_
        refine ih (i + 1) _ (by omega) (fun q hq => by rw [up_n hq]; exact g1 q hq) (fun j hj => ?_)
        rw [up_s]
        rcases Nat.lt_or_ge j i with q | q
        · rw [uf_n (by omega)]; exact g2 j q
        · rw [show j = i by omega, uf_s, Nat.mod_eq_of_lt b1, g1 32 (by decide)]
  refine J_iconst C d_M_keep_0 0 (by decide) ?_
  refine J_istore_n (lv' := [(0, _), (1, _)]) C d_M_keep_1 1 rfl (by decide) rfl rfl ?_
  exact loop 33 0 σ (by omega) (fun _ _ => rfl) (fun j hj => by omega)
theorem c_mkeep (l : Launch) (E : En) (A : Nat → Prop) : MV l y_M_keep b_M_keep 2 rm_M_keep [.ref (em E)] E A σ mn iv tw (fun u => (∀ q, q ≠ 30 → u q = σ q) ∧ (∀ j, j < 33 → u 30 j = σ 32 j)) :=
  mk_v (by decide) (Nat.le_of_ble_eq_true rfl) (fun X C hR hE k => by subst hE; exact b_mkeep C (fun u h1 h2 => k u ⟨h1, h2⟩))
theorem b_manswer (C : Cx X b_M_answer 3 R_M) {a : Nat} (ha : a < 4294967296) (hz : Dg (σ 32) 33) (k : Ret X b_M_answer .ireturn [.int (nI (σ 32 (2 * (a % 16)) + σ 32 (2 * (a % 16) + 1) * 65536))] σ mn iv tw) : J X 0 [(0, .ref (em (xE X))), (1, .int (nI a))] [] σ mn iv tw := by
  refine J_iconst C d_M_answer_0 2 (by decide) ?_
  refine J_iload_n C d_M_answer_1 1 rfl rfl ?_
  refine J_bipush C d_M_answer_2 15 (by decide) ?_
  refine J_iand C d_M_answer_4 4 16 rfl ha (by decide) rfl ?_
  refine J_imul C d_M_answer_5 ?_
  refine J_istore_n (lv' := [(0, _), (1, _), (2, _)]) C d_M_answer_6 2 rfl (by decide) rfl rfl ?_
  refine J_aload_n C d_M_answer_7 0 rfl rfl ?_
  refine J_getM_z C d_M_answer_8 ?_
  refine J_iload_n C d_M_answer_11 2 rfl rfl ?_
  refine J_iaload C d_M_answer_12 (by decide) (by show _ < 33; omega) ?_
  refine J_aload_n C d_M_answer_13 0 rfl rfl ?_
  refine J_getM_z C d_M_answer_14 ?_
  refine J_iload_n C d_M_answer_17 2 rfl rfl ?_
  refine J_iconst C d_M_answer_18 1 (by decide) ?_
  refine J_iadd C d_M_answer_19 ?_
  refine J_iaload C d_M_answer_20 (by decide) (by show _ < 33; omega) ?_
  refine J_bipush C d_M_answer_21 16 (by decide) ?_
  refine J_ishl C d_M_answer_23 65536 rfl (by decide) ?_
  refine J_ior16 C d_M_answer_24 (hz _ (by omega)) ?_
  exact k _ _ d_M_answer_25
theorem c_manswer (l : Launch) (E : En) (A : Nat → Prop) {a : Nat} (ha : a < 4294967296) (hz : Dg (σ 32) 33) : MI .int l y_M_answer b_M_answer 3 rm_M_answer [.ref (em E), .int (nI a)] E A σ mn iv tw (fun n u => σ = u ∧ n = σ 32 (2 * (a % 16)) + σ 32 (2 * (a % 16) + 1) * 65536) :=
  mk_i (by decide) (Nat.le_of_ble_eq_true rfl) (fun X C hR hE k => by subst hE; exact b_manswer C ha hz (k _ _ ⟨rfl, rfl⟩))
theorem b_mfactor (C : Cx X b_M_factor 3 R_M) {a : Nat} (ha : a < 4294967296) (hz : Dg (σ 30) 33) (k : Ret X b_M_factor .ireturn [.int (nI (σ 30 (2 * (a % 16)) + σ 30 (2 * (a % 16) + 1) * 65536))] σ mn iv tw) : J X 0 [(0, .ref (em (xE X))), (1, .int (nI a))] [] σ mn iv tw := by
  refine J_iconst C d_M_factor_0 2 (by decide) ?_
  refine J_iload_n C d_M_factor_1 1 rfl rfl ?_
  refine J_bipush C d_M_factor_2 15 (by decide) ?_
  refine J_iand C d_M_factor_4 4 16 rfl ha (by decide) rfl ?_
  refine J_imul C d_M_factor_5 ?_
  refine J_istore_n (lv' := [(0, _), (1, _), (2, _)]) C d_M_factor_6 2 rfl (by decide) rfl rfl ?_
  refine J_aload_n C d_M_factor_7 0 rfl rfl ?_
  refine J_getM_a C d_M_factor_8 ?_
  refine J_iload_n C d_M_factor_11 2 rfl rfl ?_
  refine J_iaload C d_M_factor_12 (by decide) (by show _ < 33; omega) ?_
  refine J_aload_n C d_M_factor_13 0 rfl rfl ?_
  refine J_getM_a C d_M_factor_14 ?_
  refine J_iload_n C d_M_factor_17 2 rfl rfl ?_
  refine J_iconst C d_M_factor_18 1 (by decide) ?_
  refine J_iadd C d_M_factor_19 ?_
  refine J_iaload C d_M_factor_20 (by decide) (by show _ < 33; omega) ?_
  refine J_bipush C d_M_factor_21 16 (by decide) ?_
  refine J_ishl C d_M_factor_23 65536 rfl (by decide) ?_
  refine J_ior16 C d_M_factor_24 (hz _ (by omega)) ?_
  exact k _ _ d_M_factor_25
theorem c_mfactor (l : Launch) (E : En) (A : Nat → Prop) {a : Nat} (ha : a < 4294967296) (hz : Dg (σ 30) 33) : MI .int l y_M_factor b_M_factor 3 rm_M_factor [.ref (em E), .int (nI a)] E A σ mn iv tw (fun n u => σ = u ∧ n = σ 30 (2 * (a % 16)) + σ 30 (2 * (a % 16) + 1) * 65536) :=
  mk_i (by decide) (Nat.le_of_ble_eq_true rfl) (fun X C hR hE k => by subst hE; exact b_mfactor C ha hz (k _ _ ⟨rfl, rfl⟩))
theorem b_mmodulus (C : Cx X b_M_modulus 8 R_M) (hR : xR X = rm_M_modulus) {pt p q r s : Nat} (hpt : pt < 4294967296) (hp : p < 4294967296) (hq : q < 4294967296) (hr : r < 4294967296) (hs : s < 4294967296) (hm : Dg (σ 29) 33) (h32 : σ 29 32 = 0) (ha : Dg (σ 30) 33) (hz : Dg (σ 32) 33)
    (k : ∀ u, u 29 = fixu (lf (σ 29) pt p q r s) → Dg (u 30) 33 → Dg (u 32) 33 → U (u 30) 33 = U (σ 30) 32 % U (u 29) 33 → U (u 32) 33 = U (σ 32) 32 % U (u 29) 33 → (∀ q, q ≠ 29 → q ≠ 30 → q ≠ 32 → q ≠ 33 → u q = σ q) → Ret X b_M_modulus .return_ [] u mn iv tw) :
    J X 0 [(0, .ref (em (xE X))), (1, .int (nI pt)), (2, .int (nI p)), (3, .int (nI q)), (4, .int (nI r)), (5, .int (nI s))] [] σ mn iv tw := by
  have hD : Dg (lf (σ 29) pt p q r s) 33 := lf_lt hp hq hr hs hm
  have h0 : lf (σ 29) pt p q r s 32 = 0 := lf_32 h32
  generalize hf : lf (σ 29) pt p q r s = f at hD h0 k
  have hDf := fixu_Dg hD
  have h0f := fixu_32 h0
  have hMlt := U_33lt h0f hDf
  have hMge : 0 < U (fixu f) 33 := by rw [U_32 h0f]; have := fixu_ge f; omega
  have fin : ∀ lv, lvg lv 0 = some (.ref (em (xE X))) → J X 81 lv [] (up σ 29 (fixu f)) mn iv tw := by
    intro lv l0
    refine J_aload_n C d_M_modulus_81 0 rfl l0 ?_
    refine J_aload_n C d_M_modulus_82 0 rfl l0 ?_
    refine J_getM_a C d_M_modulus_83 ?_
    refine J_callVv R_M (em (xE X)) C (fun _ _ => recvM C) d_M_modulus_86 (c_fold (σ := up σ 29 (fixu f)) (xl X) (xE X) (xA X) (ka := 30) (by decide) rfl (by decide) (by decide) (by rw [up_n (by decide)]; exact fun j hj => ha j (by omega)) (by rw [up_s]; exact hDf) (by rw [up_s]; exact hMge) (by rw [up_s]; exact hMlt)) ⟨⟨ml_M_33, ini_M, mc_M_fold⟩, co_M_fold, ⟨rfl, rfl⟩, by rw [hR]; decide⟩ im_M_fold se_M_fold rfl (by decide) (fun s86 h86 => ?_)
    refine J_wb (fun hwb => ?_)
    obtain ⟨g1, g2, g3⟩ := h86
    have e29 : s86 29 = fixu f := by rw [g1 29 (by decide) (by decide), up_s]
    have e32 : s86 32 = σ 32 := by rw [g1 32 (by decide) (by decide), up_n (by decide)]
    refine J_aload_n C d_M_modulus_89 0 rfl l0 ?_
    refine J_aload_n C d_M_modulus_90 0 rfl l0 ?_
    refine J_getM_z C d_M_modulus_91 ?_
    refine J_callVv R_M (em (xE X)) C (fun _ _ => recvM C) d_M_modulus_94 (c_fold (σ := s86) (xl X) (xE X) (xA X) (ka := 32) (by decide) rfl (by decide) (by decide) (by rw [e32]; exact fun j hj => hz j (by omega)) (by rw [e29]; exact hDf) (by rw [e29]; exact hMge) (by rw [e29]; exact hMlt)) ⟨⟨ml_M_33, ini_M, mc_M_fold⟩, co_M_fold, ⟨rfl, rfl⟩, by rw [hR]; decide⟩ im_M_fold se_M_fold rfl (by decide) (fun s94 h94 => ?_)
    refine J_wb (fun hwb => ?_)
    obtain ⟨f1, f2, f3⟩ := h94
    have e29' : s94 29 = fixu f := by rw [f1 29 (by decide) (by decide), e29]
    refine k s94 e29' (by rw [f1 30 (by decide) (by decide)]; exact g2) f2 ?_ ?_ ?_ _ _ d_M_modulus_97
    · rw [f1 30 (by decide) (by decide), g3, e29', up_s, up_n (by decide)]
    · rw [f3, e29', e29, e32]
    · intro q a1 a2 a3 a4
      rw [f1 q a3 a4, g1 q a2 a4, up_n a1]
  have loop : ∀ d i w, i + d = 32 → 1 ≤ i → w < 2 → (w = 0 ↔ f 0 < 2 ∧ ∀ j, 1 ≤ j → j < i → f j = 0) →
      J X 34 [(0, .ref (em (xE X))), (1, .int (nI pt)), (2, .int (nI p)), (3, .int (nI q)), (4, .int (nI r)), (5, .int (nI s)), (6, .int (nI w)), (7, .int (nI i))] [] (up σ 29 f) mn iv tw := by
    intro d
    induction d with
    | zero =>
      intro i w hi h1 hw h2
      obtain rfl : i = 32 := by omega
      have hsm := vl_small (b := 65536) (f := f) (n := 31) (by decide)
      refine J_iload C d_M_modulus_34 rfl ?_
      refine J_bipush C d_M_modulus_36 32 (by decide) ?_
      refine J_icmp_ge C d_M_modulus_38 (tgt := 69) (by decide) (by omega) (by omega) (fun c_38 => ?_) (fun c_38 => ?_)
      · refine J_iload C d_M_modulus_69 rfl ?_
        refine J_ifne C d_M_modulus_71 (tgt := 81) (by decide) (by first | exact hwb _ _ | omega) (fun c_71 => ?_) (fun c_71 => ?_)
        · have e : fixu f = f := if_neg (fun h => c_71 (h2.mpr (hsm.mp h)))
          have h := fin [(0, .ref (em (xE X))), (1, .int (nI pt)), (2, .int (nI p)), (3, .int (nI q)), (4, .int (nI r)), (5, .int (nI s)), (6, .int (nI w)), (7, .int (nI 32))] rfl
          rw [e] at h
          exact h
        · refine J_aload_n C d_M_modulus_74 0 rfl rfl ?_
          refine J_getM_m C d_M_modulus_75 ?_
          refine J_iconst C d_M_modulus_78 0 (by decide) ?_
          refine J_iconst C d_M_modulus_79 2 (by decide) ?_
          refine J_iastore C d_M_modulus_80 (by decide) (by show _ < 33; omega) ?_
          refine J_wb (fun hwb => ?_)
          have e : fixu f = uf f 0 2 := if_pos (hsm.mpr (h2.mp c_71))
          have h := fin [(0, .ref (em (xE X))), (1, .int (nI pt)), (2, .int (nI p)), (3, .int (nI q)), (4, .int (nI r)), (5, .int (nI s)), (6, .int (nI w)), (7, .int (nI 32))] rfl
          rw [e] at h
          rw [up_s, up_up]
          exact h
      · omega
    | succ d ih =>
      intro i w hi h1 hw h2
      have b1 := hD i (by omega)
      refine J_iload C d_M_modulus_34 rfl ?_
      refine J_bipush C d_M_modulus_36 32 (by decide) ?_
      refine J_icmp_ge C d_M_modulus_38 (tgt := 69) (by decide) (by omega) (by omega) (fun c_38 => ?_) (fun c_38 => ?_)
      · omega
      · refine J_iload C d_M_modulus_41 rfl ?_
        refine J_ifne C d_M_modulus_43 (tgt := 56) (by decide) (by first | exact hwb _ _ | omega) (fun c_43 => ?_) (fun c_43 => ?_)
        · refine J_iconst C d_M_modulus_56 1 (by decide) ?_
          refine J_goto C d_M_modulus_57 (tgt := 61) (by decide) ?_
          refine J_istore (lv' := [(0, _), (1, _), (2, _), (3, _), (4, _), (5, _), (6, _), (7, _)]) C d_M_modulus_61 (by decide) rfl rfl ?_
          refine J_iinc (lv' := [(0, _), (1, _), (2, _), (3, _), (4, _), (5, _), (6, _), (7, _)]) C d_M_modulus_63 rfl (inc1 _) (by decide) rfl rfl ?_
          refine J_goto C d_M_modulus_66 (tgt := 34) (by decide) ?_
          refine ih (i + 1) 1 (by omega) (by omega) (by decide) ⟨fun h => by omega, fun h => absurd (h2.mpr ⟨h.1, fun j a1 a2 => h.2 j a1 (by omega)⟩) c_43⟩
        · refine J_aload_n C d_M_modulus_46 0 rfl rfl ?_
          refine J_getM_m C d_M_modulus_47 ?_
          refine J_iload C d_M_modulus_50 rfl ?_
          refine J_iaload C d_M_modulus_52 (by decide) (by show _ < 33; omega) ?_
          refine J_ifeq C d_M_modulus_53 (tgt := 60) (by decide) (by rw [up_s]; omega) (fun c_53 => ?_) (fun c_53 => ?_)
          · refine J_iconst C d_M_modulus_60 0 (by decide) ?_
            refine J_istore (lv' := [(0, _), (1, _), (2, _), (3, _), (4, _), (5, _), (6, _), (7, _)]) C d_M_modulus_61 (by decide) rfl rfl ?_
            refine J_iinc (lv' := [(0, _), (1, _), (2, _), (3, _), (4, _), (5, _), (6, _), (7, _)]) C d_M_modulus_63 rfl (inc1 _) (by decide) rfl rfl ?_
            refine J_goto C d_M_modulus_66 (tgt := 34) (by decide) ?_
            rw [up_s] at c_53
            refine ih (i + 1) 0 (by omega) (by omega) (by decide) ⟨fun _ => ⟨(h2.mp c_43).1, fun j a1 a2 => ?_⟩, fun _ => rfl⟩
            rcases Nat.lt_or_ge j i with q | q
            · exact (h2.mp c_43).2 j a1 q
            · rw [show j = i by omega]; exact c_53
          · refine J_iconst C d_M_modulus_56 1 (by decide) ?_
            refine J_goto C d_M_modulus_57 (tgt := 61) (by decide) ?_
            refine J_istore (lv' := [(0, _), (1, _), (2, _), (3, _), (4, _), (5, _), (6, _), (7, _)]) C d_M_modulus_61 (by decide) rfl rfl ?_
            refine J_iinc (lv' := [(0, _), (1, _), (2, _), (3, _), (4, _), (5, _), (6, _), (7, _)]) C d_M_modulus_63 rfl (inc1 _) (by decide) rfl rfl ?_
            refine J_goto C d_M_modulus_66 (tgt := 34) (by decide) ?_
            rw [up_s] at c_53
            refine ih (i + 1) 1 (by omega) (by omega) (by decide) ⟨fun h => by omega, fun h => absurd (h.2 i h1 (by omega)) c_53⟩
  have b0 := hD 0 (by decide)
  refine J_aload_n C d_M_modulus_0 0 rfl rfl ?_
  refine J_getM_m C d_M_modulus_1 ?_
  refine J_iload_n C d_M_modulus_4 1 rfl rfl ?_
  refine J_iload_n C d_M_modulus_5 2 rfl rfl ?_
  refine J_iload_n C d_M_modulus_6 3 rfl rfl ?_
  refine J_iload C d_M_modulus_7 rfl ?_
  refine J_iload C d_M_modulus_9 rfl ?_
  refine J_callSv C d_M_modulus_11 (c_lay (σ := σ) (xl X) (xE X) (xA X) (ka := 29) (by decide) (by decide) hpt hp hq hr hs) ⟨⟨ml_M_29, ini_M, mc_M_lay⟩, co_M_lay, ⟨rfl, rfl⟩, by rw [hR]; decide⟩ st_M_lay rfl (by decide) (fun s11 h11 => ?_)
  refine J_wb (fun hwb => ?_)
  obtain rfl := h11
  rw [hf]
  refine J_aload_n C d_M_modulus_14 0 rfl rfl ?_
  refine J_getM_m C d_M_modulus_15 ?_
  refine J_iconst C d_M_modulus_18 0 (by decide) ?_
  refine J_iaload C d_M_modulus_19 (by decide) (by show _ < 33; omega) ?_
  refine J_iconst C d_M_modulus_20 1 (by decide) ?_
  refine J_icmp_le C d_M_modulus_21 (tgt := 28) (by decide) (by rw [up_s]; omega) (by decide) (fun c_21 => ?_) (fun c_21 => ?_)
  · refine J_iconst C d_M_modulus_28 0 (by decide) ?_
    refine J_istore (lv' := [(0, _), (1, _), (2, _), (3, _), (4, _), (5, _), (6, _)]) C d_M_modulus_29 (by decide) rfl rfl ?_
    refine J_iconst C d_M_modulus_31 1 (by decide) ?_
    refine J_istore (lv' := [(0, _), (1, _), (2, _), (3, _), (4, _), (5, _), (6, _), (7, _)]) C d_M_modulus_32 (by decide) rfl rfl ?_
    rw [up_s] at c_21
    exact loop 31 1 0 (by omega) (by omega) (by decide) ⟨fun _ => ⟨by omega, fun j a1 a2 => by omega⟩, fun _ => rfl⟩
  · refine J_iconst C d_M_modulus_24 1 (by decide) ?_
    refine J_goto C d_M_modulus_25 (tgt := 29) (by decide) ?_
    refine J_istore (lv' := [(0, _), (1, _), (2, _), (3, _), (4, _), (5, _), (6, _)]) C d_M_modulus_29 (by decide) rfl rfl ?_
    refine J_iconst C d_M_modulus_31 1 (by decide) ?_
    refine J_istore (lv' := [(0, _), (1, _), (2, _), (3, _), (4, _), (5, _), (6, _), (7, _)]) C d_M_modulus_32 (by decide) rfl rfl ?_
    rw [up_s] at c_21
    exact loop 31 1 1 (by omega) (by omega) (by decide) ⟨fun h => by omega, fun h => by have := h.1; omega⟩
theorem c_mmodulus (l : Launch) (E : En) (A : Nat → Prop) {pt p q r s : Nat} (hpt : pt < 4294967296) (hp : p < 4294967296) (hq : q < 4294967296) (hr : r < 4294967296) (hs : s < 4294967296) (hm : Dg (σ 29) 33) (h32 : σ 29 32 = 0) (ha : Dg (σ 30) 33) (hz : Dg (σ 32) 33) : MV l y_M_modulus b_M_modulus 8 rm_M_modulus [.ref (em E), .int (nI pt), .int (nI p), .int (nI q), .int (nI r), .int (nI s)] E A σ mn iv tw (fun u => u 29 = fixu (lf (σ 29) pt p q r s) ∧ Dg (u 30) 33 ∧ Dg (u 32) 33 ∧ U (u 30) 33 = U (σ 30) 32 % U (u 29) 33 ∧ U (u 32) 33 = U (σ 32) 32 % U (u 29) 33 ∧ (∀ q, q ≠ 29 → q ≠ 30 → q ≠ 32 → q ≠ 33 → u q = σ q)) :=
  mk_v (by decide) (Nat.le_of_ble_eq_true rfl) (fun X C hR hE k => by subst hE; exact b_mmodulus C hR hpt hp hq hr hs hm h32 ha hz (fun u h1 h2 h3 h4 h5 h6 => k u ⟨h1, h2, h3, h4, h5, h6⟩))
theorem b_mbase (C : Cx X b_M_base 6 R_M) (hR : xR X = rm_M_base) {pt p q r s : Nat} (hpt : pt < 4294967296) (hp : p < 4294967296) (hq : q < 4294967296) (hr : r < 4294967296) (hs : s < 4294967296) (hm : Dg (σ 29) 33) (hM0 : 0 < U (σ 29) 33) (hM : U (σ 29) 33 < 65536 ^ 32) (ha : Dg (σ 30) 33)
    (k : ∀ u, Dg (u 30) 33 → U (u 30) 33 = U (lf (σ 30) pt p q r s) 32 % U (σ 29) 33 → (∀ q, q ≠ 30 → q ≠ 33 → u q = σ q) → Ret X b_M_base .return_ [] u mn iv tw) :
    J X 0 [(0, .ref (em (xE X))), (1, .int (nI pt)), (2, .int (nI p)), (3, .int (nI q)), (4, .int (nI r)), (5, .int (nI s))] [] σ mn iv tw := by
  refine J_aload_n C d_M_base_0 0 rfl rfl ?_
  refine J_getM_a C d_M_base_1 ?_
  refine J_iload_n C d_M_base_4 1 rfl rfl ?_
  refine J_iload_n C d_M_base_5 2 rfl rfl ?_
  refine J_iload_n C d_M_base_6 3 rfl rfl ?_
  refine J_iload C d_M_base_7 rfl ?_
  refine J_iload C d_M_base_9 rfl ?_
  refine J_callSv C d_M_base_11 (c_lay (σ := σ) (xl X) (xE X) (xA X) (ka := 30) (by decide) (by decide) hpt hp hq hr hs) ⟨⟨ml_M_29, ini_M, mc_M_lay⟩, co_M_lay, ⟨rfl, rfl⟩, by rw [hR]; decide⟩ st_M_lay rfl (by decide) (fun s11 h11 => ?_)
  refine J_wb (fun hwb => ?_)
  obtain rfl := h11
  refine J_aload_n C d_M_base_14 0 rfl rfl ?_
  refine J_aload_n C d_M_base_15 0 rfl rfl ?_
  refine J_getM_a C d_M_base_16 ?_
  refine J_callVv R_M (em (xE X)) C (fun _ _ => recvM C) d_M_base_19 (c_fold (xl X) (xE X) (xA X) (ka := 30) (by decide) rfl (by decide) (by decide) (by rw [up_s]; exact lf_lt hp hq hr hs (fun j hj => ha j (by omega))) (by rw [up_n (by decide)]; exact hm) (by rw [up_n (by decide)]; exact hM0) (by rw [up_n (by decide)]; exact hM)) ⟨⟨ml_M_33, ini_M, mc_M_fold⟩, co_M_fold, ⟨rfl, rfl⟩, by rw [hR]; decide⟩ im_M_fold se_M_fold rfl (by decide) (fun s19 h19 => ?_)
  refine J_wb (fun hwb => ?_)
  obtain ⟨g1, g2, g3⟩ := h19
  refine k s19 g2 ?_ (fun q a1 a2 => by rw [g1 q a1 a2, up_n a1]) _ _ d_M_base_22
  rw [g3, up_s, up_n (by decide)]
theorem c_mbase (l : Launch) (E : En) (A : Nat → Prop) {pt p q r s : Nat} (hpt : pt < 4294967296) (hp : p < 4294967296) (hq : q < 4294967296) (hr : r < 4294967296) (hs : s < 4294967296) (hm : Dg (σ 29) 33) (hM0 : 0 < U (σ 29) 33) (hM : U (σ 29) 33 < 65536 ^ 32) (ha : Dg (σ 30) 33) : MV l y_M_base b_M_base 6 rm_M_base [.ref (em E), .int (nI pt), .int (nI p), .int (nI q), .int (nI r), .int (nI s)] E A σ mn iv tw (fun u => Dg (u 30) 33 ∧ U (u 30) 33 = U (lf (σ 30) pt p q r s) 32 % U (σ 29) 33 ∧ (∀ q, q ≠ 30 → q ≠ 33 → u q = σ q)) :=
  mk_v (by decide) (Nat.le_of_ble_eq_true rfl) (fun X C hR hE k => by subst hE; exact b_mbase C hR hpt hp hq hr hs hm hM0 hM ha (fun u h1 h2 h3 => k u ⟨h1, h2, h3⟩))
theorem b_mpower (C : Cx X b_M_power 6 R_M) (hR : xR X = rm_M_power) {pt p q r s : Nat} (hpt : pt < 4294967296) (hp : p < 4294967296) (hq : q < 4294967296) (hr : r < 4294967296) (hs : s < 4294967296)
    (k : Ret X b_M_power .return_ [] (up σ 31 (lf (σ 31) pt p q r s)) mn iv tw) :
    J X 0 [(0, .ref (em (xE X))), (1, .int (nI pt)), (2, .int (nI p)), (3, .int (nI q)), (4, .int (nI r)), (5, .int (nI s))] [] σ mn iv tw := by
  refine J_aload_n C d_M_power_0 0 rfl rfl ?_
  refine J_getM_e C d_M_power_1 ?_
  refine J_iload_n C d_M_power_4 1 rfl rfl ?_
  refine J_iload_n C d_M_power_5 2 rfl rfl ?_
  refine J_iload_n C d_M_power_6 3 rfl rfl ?_
  refine J_iload C d_M_power_7 rfl ?_
  refine J_iload C d_M_power_9 rfl ?_
  refine J_callSv C d_M_power_11 (c_lay (σ := σ) (xl X) (xE X) (xA X) (ka := 31) (by decide) (by decide) hpt hp hq hr hs) ⟨⟨ml_M_29, ini_M, mc_M_lay⟩, co_M_lay, ⟨rfl, rfl⟩, by rw [hR]; decide⟩ st_M_lay rfl (by decide) (fun s11 h11 => ?_)
  refine J_wb (fun hwb => ?_)
  obtain rfl := h11
  exact k _ _ d_M_power_14
theorem c_mpower (l : Launch) (E : En) (A : Nat → Prop) {pt p q r s : Nat} (hpt : pt < 4294967296) (hp : p < 4294967296) (hq : q < 4294967296) (hr : r < 4294967296) (hs : s < 4294967296) : MV l y_M_power b_M_power 6 rm_M_power [.ref (em E), .int (nI pt), .int (nI p), .int (nI q), .int (nI r), .int (nI s)] E A σ mn iv tw (fun u => up σ 31 (lf (σ 31) pt p q r s) = u) :=
  mk_v (by decide) (Nat.le_of_ble_eq_true rfl) (fun X C hR hE k => by subst hE; exact b_mpower C hR hpt hp hq hr hs (k _ rfl))
end MFACE
end
section
/-! 'new int[16][16]': the row of multianewarray that the desk's constructor needs -/
def mzI (cI : ClassId) : Cell := { cls := cI, slots := Array.replicate 16 (.int 0), vm := .none }
/-- the outer array with its first i rows laid -/
def mzO (cG : ClassId) (h : Nat) : Nat → Cell
  | 0 => { cls := cG, slots := Array.replicate 16 .null, vm := .none }
  | i + 1 => (mzO cG h i).setSlot i (.ref (h + 1 + i))
def mzS (s : State) (cG cI : ClassId) : Nat → State
  | 0 => s.pushCell (mzO cG s.heap.size 0)
  | i + 1 => ((mzS s cG cI i).pushCell (mzI cI)).setCell s.heap.size (mzO cG s.heap.size (i + 1))
theorem mzO_f (cG : ClassId) (h : Nat) : ∀ i, (mzO cG h i).cls = cG ∧ (mzO cG h i).vm = .none ∧ (mzO cG h i).slots.size = 16
  | 0 => ⟨rfl, rfl, by simp [mzO]⟩
  | i + 1 => by
    obtain ⟨a, b, d⟩ := mzO_f cG h i
    exact ⟨by simp [mzO, Cell.setSlot, a], by simp [mzO, Cell.setSlot, b], by simp [mzO, Cell.setSlot, d]⟩
theorem mzO_arr (cG : ClassId) (h : Nat) : ∀ i, mzO cG h i = arrV cG 16 (fun j => if j < i then .ref (h + 1 + j) else .null)
  | 0 => by
    show ({ cls := cG, slots := Array.replicate 16 .null, vm := .none } : Cell) = _
    rw [arrV_new]
    congr 1
  | i + 1 => by
    show (mzO cG h i).setSlot i (.ref (h + 1 + i)) = _
    rw [mzO_arr cG h i, arrV_store]
    congr 1
    funext j
    unfold updV
    by_cases e : j = i
    · rw [if_pos e, if_pos (by omega), e]
    · rw [if_neg e]
      show (if j < i then Value.ref (h + 1 + j) else Value.null) = _
      by_cases hji : j < i
      · rw [if_pos hji, if_pos (by omega)]
      · rw [if_neg hji, if_neg (by omega)]
theorem mzO_16 (cG : ClassId) (h : Nat) : mzO cG h 16 = arrV cG 16 (fun j => .ref (h + 1 + j)) := by
  rw [mzO_arr]
  unfold arrV
  congr 2
  funext j
  exact if_pos j.isLt
theorem mzI_eq (cI : ClassId) : mzI cI = arrV cI 16 (fun _ => .int 0) := by
  show ({ cls := cI, slots := Array.replicate 16 (.int 0), vm := .none } : Cell) = _
  exact arrV_new cI 16 (.int 0)
theorem mzS_f (s : State) (cG cI : ClassId) : ∀ i, (mzS s cG cI i).heap.size = s.heap.size + 1 + i ∧ (mzS s cG cI i).heap[s.heap.size]? = some (mzO cG s.heap.size i) ∧ (mzS s cG cI i).vm = s.vm ∧ (mzS s cG cI i).slotsUsed = s.slotsUsed + 16 + i * 16
  | 0 => ⟨by simp [mzS], by simp [mzS], rfl, by simp [mzS, mzO]⟩
  | i + 1 => by
    obtain ⟨a, b, d, u⟩ := mzS_f s cG cI i
    have hlt : s.heap.size < (mzS s cG cI i).heap.size := by omega
    have hb' : ((mzS s cG cI i).pushCell (mzI cI)).heap[s.heap.size]? = some (mzO cG s.heap.size i) := by rw [State.heap_pushCell_of_lt (h := hlt)]; exact b
    refine ⟨?_, State.heap_setCell_self hb', by simp [mzS, d], ?_⟩
    · simp [mzS, State.setCell, a]; omega
    · simp [mzS, u, mzI, Nat.succ_mul]; omega
theorem mzS_top (s : State) (f : JFrame) (cG cI : ClassId) : ∀ i, mzS (s.setTop f) cG cI i = (mzS s cG cI i).setTop f
  | 0 => rfl
  | i + 1 => by simp only [mzS, mzS_top s f cG cI i, State.heap_setTop, State.pushCell_setTop, State.setCell_setTop]
theorem mzS_old (s : State) (cG cI : ClassId) {a : Addr} (ha : a < s.heap.size) : ∀ i, (mzS s cG cI i).heap[a]? = s.heap[a]?
  | 0 => State.heap_pushCell_of_lt _ _ ha
  | i + 1 => by
    have f1 := (mzS_f s cG cI i).1
    have hlt : a < (mzS s cG cI i).heap.size := Nat.lt_of_lt_of_le ha (by rw [f1]; omega)
    show (((mzS s cG cI i).pushCell (mzI cI)).setCell s.heap.size _).heap[a]? = _
    rw [State.heap_setCell_other (Nat.ne_of_gt ha), State.heap_pushCell_of_lt (h := hlt)]
    exact mzS_old s cG cI ha i
theorem mzS_in (s : State) (cG cI : ClassId) : ∀ i j, j < i → (mzS s cG cI i).heap[s.heap.size + 1 + j]? = some (mzI cI)
  | 0, _, h => absurd h (Nat.not_lt_zero _)
  | i + 1, j, h => by
    have f1 := (mzS_f s cG cI i).1
    show (((mzS s cG cI i).pushCell (mzI cI)).setCell s.heap.size _).heap[s.heap.size + 1 + j]? = _
    rw [State.heap_setCell_other (show s.heap.size ≠ s.heap.size + 1 + j by omega)]
    rcases Nat.lt_or_ge j i with hj | hj
    · have hlt : s.heap.size + 1 + j < (mzS s cG cI i).heap.size := by rw [f1]; omega
      rw [State.heap_pushCell_of_lt (h := hlt)]
      exact mzS_in s cG cI i j hj
    · have e : j = i := by omega
      subst e
      rw [← f1]
      exact State.heap_pushCell_size _ _
section MZ
variable {E : CtlPost} {e : Env} {d : Bool} {acts : List Action} {s : State}
theorem mz_new {c comp : ClassId} {k : Class} {type : FieldType} {init : Value} (hk : s.vm.classes[c]? = some k) (hkind : k.kind = .array comp type) (hl : ¬ 16 > e.platform.arrayLengthLimit) (hh : ¬ 16 * componentBytes type > e.platform.maxHeapBytes) (hfit : fits type init = true) (hdef : init.isDefault = true) {Q : Addr → Pre}
    (h1 : s.heap.size < e.platform.maxCells) (h2 : s.slotsUsed + 16 ≤ e.platform.maxSlots) (hq : Q s.heap.size d acts (s.pushCell { cls := c, slots := Array.replicate 16 init, vm := .none })) : wp (Jvm.newArray c 16 init) Q E e d acts s := by
  have hfits : ∀ i v, (Array.replicate 16 init)[i]? = some v → s.fitsSlot c .none i v = true := by
    intro i v hv
    simp only [Array.getElem?_replicate] at hv
    split at hv
    · cases hv; simp [State.fitsSlot, State.slotType?, hk, hkind, hfit]
    · cases hv
  have hda : allocActs (Array.replicate 16 init) s.heap.size acts = acts := by
    have hall : ((Array.replicate 16 init).all (·.isDefault)) = true := by
      rw [Array.all_replicate]; split <;> simp [hdef]
    unfold allocActs; rw [if_pos hall]
  simp only [Jvm.newArray, Jvm.arrayFits, wp_bind', _root_.Jvm.W.ask, _root_.Jvm.W.ite, hl, if_false, wp_pure', _root_.Jvm.W.theClass, hk, hkind, hh, _root_.Jvm.W.alloc, _root_.Jvm.W.stop, Option.some.injEq, exists_eq_left', Array.size_replicate, hda]
  rw [if_neg (by omega)]
  exact ⟨h1, h2, hfits, hq⟩
theorem mz_make1 {cI cc : ClassId} {kI : Class} (hk : s.vm.classes[cI]? = some kI) (hkind : kI.kind = .array cc .int) (hl : ¬ 16 > e.platform.arrayLengthLimit) (hh : ¬ 16 * componentBytes .int > e.platform.maxHeapBytes)
    (h1 : s.heap.size < e.platform.maxCells) (h2 : s.slotsUsed + 16 ≤ e.platform.maxSlots) {Q : Addr → Pre} (hq : Q s.heap.size d acts (s.pushCell (mzI cI))) : wp (multianewarray.make cI [16]) Q E e d acts s := by
  rw [multianewarray.make]
  simp only [wp_bind', _root_.Jvm.W.ite, show ¬ (16 : Int32) < 0 by decide, if_false, wp_pure', _root_.Jvm.W.theClass, hk, hkind, Option.some.injEq, exists_eq_left', show (16 : Int32).toNatClampNeg = 16 by decide]
  exact mz_new hk hkind hl hh rfl rfl h1 h2 hq
theorem mz_make2 {cG cI cc : ClassId} {kG kI : Class} (hkG : s.vm.classes[cG]? = some kG) (hkindG : kG.kind = .array cI (.array .int)) (hkI : s.vm.classes[cI]? = some kI) (hkindI : kI.kind = .array cc .int)
    (hl : ¬ 16 > e.platform.arrayLengthLimit) (hh1 : ¬ 16 * componentBytes (.array .int) > e.platform.maxHeapBytes) (hh2 : ¬ 16 * componentBytes .int > e.platform.maxHeapBytes)
    (hc : s.heap.size + 17 ≤ e.platform.maxCells) (hs : s.slotsUsed + 272 ≤ e.platform.maxSlots) {Q : Addr → Pre} (hq : ∀ d' acts', Q s.heap.size d' acts' (mzS s cG cI 16)) : wp (multianewarray.make cG [16, 16]) Q E e d acts s := by
  have hfind : ([(16 : Int32)].find? (· < 0)) = none := by decide
  rw [multianewarray.make]
  simp only [wp_bind', _root_.Jvm.W.ite, show ¬ (16 : Int32) < 0 by decide, if_false, wp_pure', _root_.Jvm.W.theClass, hkG, hkindG, Option.some.injEq, exists_eq_left', show (16 : Int32).toNatClampNeg = 16 by decide]
  refine mz_new hkG hkindG hl hh1 rfl rfl (by omega) (by omega) ?_
  simp only [hfind]
  rw [ite_self, wp_bind', Std.Legacy.Range.forIn_eq_forIn_range']
  have hsz : ([:16] : Std.Legacy.Range).size = 16 := by simp [Std.Legacy.Range.size]
  rw [hsz]
  show wp (forIn (List.range' 0 16 1) PUnit.unit _) _ E e d acts _
  refine wp_forIn_inv (fun rest s' => ∃ i, i ≤ 16 ∧ rest = List.range' i (16 - i) ∧ s' = mzS s cG cI i) _ _ ⟨0, by decide, rfl, rfl⟩ ?_ ?_
  · rintro x rest s' d' acts' Q' ⟨i, hi, hr, rfl⟩ hnext
    have hlt : i < 16 := by
      rcases Nat.lt_or_ge i 16 with h | h
      · exact h
      · rw [show 16 - i = 0 from by omega] at hr; simp at hr
    obtain ⟨rfl, hrest⟩ : x = i ∧ rest = List.range' (i + 1) (16 - (i + 1)) := by
      rw [show 16 - i = (16 - (i + 1)) + 1 from by omega, List.range'_succ] at hr
      exact ⟨(List.cons.inj hr).1, (List.cons.inj hr).2⟩
    obtain ⟨f1, f2, f3, f4⟩ := mzS_f s cG cI x
    obtain ⟨o1, o2, o3⟩ := mzO_f cG s.heap.size x
    simp only [wp_bind']
    refine mz_make1 (by rw [f3]; exact hkI) hkindI hl hh2 (by rw [f1]; omega) (by rw [f4]; omega) ?_
    have hlt0 : s.heap.size < (mzS s cG cI x).heap.size := by rw [f1]; omega
    simp only [wp_bind', _root_.Jvm.W.writeLoc, wp_pure']
    refine ⟨mzO cG s.heap.size x, by rw [State.heap_pushCell_of_lt (h := hlt0)]; exact f2, by rw [o2]; simp, by rw [o3]; exact hlt, ?_, hnext _ _ _ ⟨x + 1, hlt, hrest, ?_⟩⟩
    · rw [o1, o2]
      simp [State.fitsSlot, State.slotType?, f3, hkG, hkindG, fits]
    · rw [f1]; rfl
  · rintro s' d' acts' ⟨i, hi, hr, rfl⟩
    have hiN : i = 16 := by
      rcases Nat.lt_or_ge i 16 with h | h
      · rw [show 16 - i = (16 - (i + 1)) + 1 from by omega, List.range'_succ] at hr; cases hr
      · omega
    subst hiN
    simp only [wp_pure']
    exact hq _ _
end MZ
section MW
variable {p : Program} {l : Launch} {e : Env} {R : Room} {s : State} {m : MethodId} {args : Array Value} {below : List Frame} {meth : Method} {c : Code} {T : State} {locs : List Loc} {cells slots : Nat} {H : Heap} {Q : State → Prop}
theorem mz_stand (X : Stand p l e R s m args below meth c T locs cells slots) (cG cI : ClassId) : ∀ i, Stand p l e R s m args below meth c (mzS T cG cI i) (locs ++ (List.range i).map fun j => ⟨T.heap.size, j⟩) (cells + 1 + i) (slots + 16 + i * 16)
  | 0 => by
    have h := X.pushed (mzO cG T.heap.size 0)
    rw [(mzO_f cG T.heap.size 0).2.2] at h
    simpa [mzS] using h
  | i + 1 => by
    have Xi := mz_stand X cG cI i
    obtain ⟨f1, f2, f3, f4⟩ := mzS_f T cG cI i
    have hlt0 : T.heap.size < (mzS T cG cI i).heap.size := by rw [f1]; omega
    have hcell : ((mzS T cG cI i).pushCell (mzI cI)).heap[T.heap.size]? = some (mzO cG T.heap.size i) := by rw [State.heap_pushCell_of_lt (h := hlt0)]; exact f2
    have h := (Xi.pushed (mzI cI)).stored hcell i (.ref (T.heap.size + 1 + i))
    have e1 : (mzI cI).slots.size = 16 := by simp [mzI]
    rw [e1] at h
    have e2 : (locs ++ (List.range (i + 1)).map fun j => (⟨T.heap.size, j⟩ : Loc)) = (locs ++ (List.range i).map fun j => (⟨T.heap.size, j⟩ : Loc)) ++ [⟨T.heap.size, i⟩] := by simp [List.range_succ, List.append_assoc]
    have e3 : slots + 16 + (i + 1) * 16 = slots + 16 + i * 16 + 16 := by omega
    rw [e2, e3]
    exact h
theorem W_multi {cc : ByteArray} (hexec : p.tables.exec = Jvm.exec) (hb : c.code = cc) {own : String} {index : Nat} (hown : s.vm.findClass own = some m.cls) (hclink : (Cond.classLink own index "[[I").before args s = true)
    {cG cI ccI : ClassId} {kG kI : Class} (hnG : s.vm.findClass "[[I" = some cG) (hkG : s.vm.classes[cG]? = some kG) (hkindG : kG.kind = .array cI (.array .int)) (hkI : s.vm.classes[cI]? = some kI) (hkindI : kI.kind = .array ccI .int)
    {pc : Nat} {ls : Array Slot} {rest : List Value} (hdg : decode cc pc = .ok (.multianewarray index 2, 4)) (hcells : cells + 17 ≤ R.cells) (hslots : slots + 272 ≤ R.slots)
    (kk : ∀ (H' : Heap) (locs' : List Loc), H'.size = H.size + 17 → (∀ q, q < H.size → H'[q]? = H[q]?) → H'[H.size]? = some (arrV cG 16 (fun j => .ref (H.size + 1 + j))) → (∀ j, j < 16 → H'[H.size + 1 + j]? = some (arrV cI 16 (fun _ => .int 0))) → (∀ q ∈ locs', q ∈ locs ∨ q.base = H.size) →
      W p l e R s m args below meth c H' locs' (cells + 17) (slots + 272) Q (F0 m (pc + 4) ls (.ref H.size :: rest))) : W p l e R s m args below meth c H locs cells slots Q (F0 m pc ls (.int 16 :: .int 16 :: rest)) := by
  intro T hT X
  subst hT; subst hb
  have hpl : e.platform.magicAccessors = ({} : Platform).magicAccessors := by rw [X.admits.platform]
  obtain ⟨c0, hfc0, hcl⟩ := Cond.classLink_spec hown hclink e.platform hpl
  cases hnG.symm.trans hfc0
  obtain ⟨hg₁, hwarm₁, hready₁⟩ := State.classEntry (e := e) X.warmed hcl
  generalize T.vm.noted m.cls index (.cls cG) = vm₁ at hg₁ hwarm₁ hready₁
  have hal : s.vm.Alike vm₁ := hwarm₁.alike
  obtain ⟨kG₁, hkG₁, heG⟩ := hal.2.2 _ _ hkG
  obtain ⟨kI₁, hkI₁, heI⟩ := hal.2.2 _ _ hkI
  have hkindG₁ : kG₁.kind = .array cI (.array .int) := by rw [heG]; exact hkindG
  have hkindI₁ : kI₁.kind = .array ccI .int := by rw [heI]; exact hkindI
  have X₁ := X.noted hwarm₁
  have XF := mz_stand X₁ cG cI 16
  obtain ⟨hr1, hr2⟩ := X.roomAbove hcells hslots
  obtain ⟨f1, f2, f3, f4⟩ := mzS_f (T.setVm vm₁) cG cI 16
  obtain ⟨t, a1, b1⟩ := kk (mzS (T.setVm vm₁) cG cI 16).heap (locs ++ (List.range 16).map fun j => ⟨T.heap.size, j⟩) (by rw [f1]; rfl) (fun q hq => mzS_old (T.setVm vm₁) cG cI hq 16) (by rw [← mzO_16]; exact f2) (fun j hj => by rw [← mzI_eq]; exact mzS_in (T.setVm vm₁) cG cI 16 j hj)
    (fun q hq => by
      rcases List.mem_append.mp hq with h | h
      · exact Or.inl h
      · obtain ⟨j, -, rfl⟩ := List.mem_map.mp h
        exact Or.inr rfl) (mzS (T.setVm vm₁) cG cI 16) rfl XF
  refine ⟨t, ?_, b1⟩
  have hl : ¬ 16 > e.platform.arrayLengthLimit := by rw [Launch.admits_arrayLengthLimit X.admits]; omega
  have hh1 : ¬ 16 * componentBytes (.array .int) > e.platform.maxHeapBytes := by
    rw [Launch.admits_maxHeapBytes X.admits]; decide
  have hh2 : ¬ 16 * componentBytes .int > e.platform.maxHeapBytes := by
    rw [Launch.admits_maxHeapBytes X.admits]; decide
  jvm_step X.here [hexec, hdg]
  simp only [multianewarray.sem, wp_bind', _root_.Jvm.W.resolveClassAt_links (State.method?_setTop (F0 m pc ls (.int 16 :: .int 16 :: rest)) X.here.top) hg₁]
  rw [_root_.Jvm.W.popN, if_neg (by decide)]
  refine ⟨F0 m pc ls (.int 16 :: .int 16 :: rest), State.topJava?_setTop' (s := T.setVm vm₁) (F0 m pc ls (.int 16 :: .int 16 :: rest)) X.here.top, [.int 16, .int 16], rest, rfl, rfl, ?_⟩
  simp only [List.mapM_cons, List.mapM_nil, wp_bind', wp_pure']
  refine mz_make2 (kG := kG₁) (kI := kI₁) (cc := ccI) hkG₁ hkindG₁ hkI₁ hkindI₁ hl hh1 hh2 (by show T.heap.size + 17 ≤ _; omega) (by show T.slotsUsed + 272 ≤ _; omega) (fun d' acts' => ?_)
  have eS : ((T.setTop (F0 m pc ls (.int 16 :: .int 16 :: rest))).setVm vm₁).setTop (F0 m pc ls rest) = (T.setVm vm₁).setTop (F0 m pc ls rest) := by
    show ((T.setVm vm₁).setTop _).setTop _ = _
    rw [State.setTop_setTop]
  rw [eS, mzS_top]
  simp only [wp_bind', _root_.Jvm.W.mark, _root_.Jvm.W.pushRef, State.topJava?_setTop' _ XF.here.top, Option.some.injEq, exists_eq_left', State.setTop_setTop, State.heap_setTop]
  intro acts
  simp [jvm, XF.here.top]
  exact a1
end MW
end
section
/-! the constructors: the world as it grows -/
def lnD (k : Nat) : Nat := if k = 5 then 32 else if k = 6 then 17 else if k = 29 then 18 else 16
abbrev CE : Type := En → (Nat → Nat) → Nat → va_E
def ceD (E : En) (ad : Nat → Nat) (k : Nat) : va_E := if k = 12 then .inl (eG E, 16, .inr (.inr (.inr (.inr (fun j => some (ad 12 + 1 + j)))))) else .inl (eI E, lnD k, .inl (fun _ => nI 0))
def ceM (E : En) (_ : Nat → Nat) (k : Nat) : va_E := .inl (eI E, (if k = 2 then 32 else 33), .inl (fun _ => nI 0))
def wk (ce : CE) (E : En) (ad : Nat → Nat) (n : Nat) : va_W := (List.range n).map (fun k => (ad k, ce E ad k))
theorem wk_at {ce : CE} {E : En} {ad : Nat → Nat} {n k : Nat} (h : k < n) : (wk ce E ad n)[k]? = some (ad k, ce E ad k) := by
  unfold wk
  rw [List.getElem?_map, List.getElem?_range h]
  rfl
theorem wk_inv {ce : CE} {E : En} {ad : Nat → Nat} {n k : Nat} {q : Nat × va_E} (h : (wk ce E ad n)[k]? = some q) : k < n ∧ q = (ad k, ce E ad k) := by
  have hk : k < n := by
    have := (List.getElem?_eq_some_iff.mp h).1
    simpa [wk] using this
  rw [wk_at hk] at h
  exact ⟨hk, (Option.some.inj h).symm⟩
theorem wk_cons {x : Nat × va_E} {ce : CE} {E : En} {ad : Nat → Nat} {n k : Nat} {q : Nat × va_E} (h : (x :: wk ce E ad n)[k]? = some q) : (k = 0 ∧ q = x) ∨ ∃ j, k = j + 1 ∧ j < n ∧ q = (ad j, ce E ad j) := by
  cases k with
  | zero =>
    rw [List.getElem?_cons_zero] at h
    exact Or.inl ⟨rfl, (Option.some.inj h).symm⟩
  | succ j =>
    rw [List.getElem?_cons_succ] at h
    obtain ⟨h1, h2⟩ := wk_inv h
    exact Or.inr ⟨j, rfl, h1, h2⟩
theorem wk_push {ce : CE} {E : En} {ad : Nat → Nat} {n q : Nat} {e : va_E} (h1 : ce E (va_up ad n q) n = e) (h2 : ∀ k, k < n → ce E (va_up ad n q) k = ce E ad k) : wk ce E ad n ++ [(q, e)] = wk ce E (va_up ad n q) (n + 1) := by
  unfold wk
  rw [List.range_succ, List.map_append]
  congr 1
  · apply List.map_congr_left
    intro k hk
    have hk' : k < n := List.mem_range.mp hk
    rw [h2 k hk', va_up_ne _ _ (show k ≠ n by omega)]
  · rw [List.map_cons, List.map_nil, va_up_self, h1]
def KInv (X : Ctx) (ce : CE) (ci h0 n : Nat) (fs : List Value) (ad : Nat → Nat) (H : Heap) (locs : List Loc) : Prop :=
  va_P (xE X).1 classes ((h0, .inr (ci, fs)) :: wk ce (xE X) ad n) H ∧ va_D (xA X) ((h0, .inr (ci, fs)) :: wk ce (xE X) ad n) ∧ va_S (xA X) (xs X).heap H locs ∧ (29 ≤ n → ∀ j, j < 16 → ad (13 + j) = ad 12 + 1 + j)
def KD (X : Ctx) (ce : CE) (ci h0 pc n sl : Nat) (fs : (Nat → Nat) → List Value) : Prop := ∀ (ad : Nat → Nat) (H : Heap) (locs : List Loc) (ls : Array Slot), KInv X ce ci h0 n (fs ad) ad H locs → lv_has ls 1 [(0, .ref h0)] → W (xp X) (xl X) (xe X) (xR X) (xs X) (xm X) (xa X) (xb X) (xh X) (xc X) H locs n sl (xQ X) (F0 (xm X) pc ls [])
section INIT
variable {X : Ctx} {cc : ByteArray}
/-- 'this.f = new int[len]' -/
theorem N_step {ce : CE} {own : String} {T : u_T} {N ci : Nat} (C : Cx X cc 1 own) (hin : (xh X).name = "<init>") (hc : classes[ci]? = some (own, T, N)) (hi : ∀ w ∈ u_ws own T N, w ∈ gtb) (ty0 : Nat → FieldType) (hty : ∀ k, k < N → parseFieldDescriptor (T k).2.2.1 = some (ty0 k)) (hnm : ∀ a, a < N → ∀ b, b < N → a ≠ b → (T a).2.1 ≠ (T b).2.1) (hA : ∀ q, (xs X).heap.size ≤ q → xA X q)
    {h0 n sl pc : Nat} {fs : (Nat → Nat) → List Value} (k : Nat) (hk : k < N) {idx : Nat} (hlink : Cond.fieldLink own idx own (T k).2.1 (T k).2.2.1 ∈ gtb) (hdecl : (T k).1 = own) (hfin : (T k).2.2.2 = true) (hd : parseFieldDescriptor (T k).2.2.1 = some (.array .int)) (hfl : ∀ ad, k < (fs ad).length)
    {len : Nat} {z : Int} (hz : (Int8.ofInt z).toInt32 = nI len) (hlen : len ≤ 33) (hn : n < 28 ∨ n = 29) (hce : ∀ ad q, ce (xE X) (va_up ad n q) n = .inl (eI (xE X), len, .inl (fun _ => nI 0))) (hcw : ∀ ad q k, k < n → ce (xE X) (va_up ad n q) k = ce (xE X) ad k) (hfs : ∀ ad q, fs (va_up ad n q) = fs ad)
    (hR1 : n + 1 ≤ (xR X).cells) (hR2 : sl + len ≤ (xR X).slots) (d1 : decode cc pc = .ok (.aload_n 0, 1)) (d2 : decode cc (pc + 1) = .ok (.bipush z, 2)) (d3 : decode cc (pc + 3) = .ok (.newarray .int, 2)) (d4 : decode cc (pc + 5) = .ok (.putfield idx, 3))
    (kk : KD X ce ci h0 (pc + 8) (n + 1) (sl + len) (fun ad => (fs ad).set k (.ref (ad n)))) : KD X ce ci h0 pc n sl fs := by
  intro ad H locs ls ⟨hP, hD, hS, hG⟩ hl
  refine lv_aload_n C.1 C.2.1 d1 rfl (lv_at hl 0 rfl) ?_
  refine lv_bipush C.1 C.2.1 d2 hz ?_
  refine va_newa (atype := .int) (a0 := (len, .inl (fun _ => nI 0))) C.1 C.2.1 (C.2.2.2.2.1 _ ac_int) rfl C.2.2.2.2.2.2 hP hD hS hA (fun cA => rfl) (nI_pos (by omega)) (nI_clamp (by omega)) (by show len * 4 ≤ _; omega) hR1 hR2 d3 (fun q cA H1 hK1 hP1 hD1 hS1 => ?_)
  have eA : cA = eI (xE X) := by
    have h1 : (xs X).vm.findClass ("[" ++ FieldType.int.toString) = some cA := (hK1.2 2 (cA, .int) rfl).2
    have h2 : (xs X).vm.findClass ("[" ++ FieldType.int.toString) = some (eI (xE X)) := (C.2.2.2.2.2.2.2 0 _ rfl).2
    exact Option.some.inj (h1.symm.trans h2)
  subst eA
  have ew : ((h0, .inr (ci, fs ad)) :: wk ce (xE X) ad n) ++ [(q, .inl (eI (xE X), (len, .inl (fun _ => nI 0))))] = (h0, .inr (ci, fs (va_up ad n q))) :: wk ce (xE X) (va_up ad n q) (n + 1) := by
    rw [List.cons_append, wk_push (hce ad q) (fun k hk => hcw ad q k hk), hfs]
  rw [ew] at hP1 hD1
  refine va_putF (own := own) (ref := own) C.1 C.2.1 C.2.2.2.2.1 hi ty0 hty hnm C.2.2.2.1 C.2.2.2.2.2.2 hP1 hD1 hS1 0 rfl hc k hk (C.2.2.2.2.1 _ hlink) (fun x h => by rw [hdecl] at h; exact h) hfin hin hdecl hd rfl rfl (hfl _) d4 (fun H2 locs2 hP2 hD2 hS2 => ?_)
  refine kk (va_up ad n q) H2 locs2 ls ⟨?_, ?_, hS2, fun h29 j hj => ?_⟩ hl
  · show va_P _ _ ((h0, .inr (ci, (fs (va_up ad n q)).set k (.ref (va_up ad n q n)))) :: _) _
    rw [va_up_self]; exact hP2
  · show va_D _ ((h0, .inr (ci, (fs (va_up ad n q)).set k (.ref (va_up ad n q n)))) :: _)
    rw [va_up_self]; exact hD2
  · rw [va_up_ne _ _ (show 13 + j ≠ n by omega), va_up_ne _ _ (show 12 ≠ n by omega)]
    exact hG (by omega) j hj
def adG (ad : Nat → Nat) (h : Nat) : Nat → Nat := fun k => if 12 ≤ k ∧ k < 29 then h + (k - 12) else ad k
theorem adG_old {ad : Nat → Nat} {h k : Nat} (hk : k < 12) : adG ad h k = ad k := if_neg (by omega)
theorem adG_new {ad : Nat → Nat} {h k : Nat} (h1 : 12 ≤ k) (h2 : k < 29) : adG ad h k = h + (k - 12) := if_pos ⟨h1, h2⟩
/-- 'this.window = new int[16][16]' -/
theorem N_grid (C : Cx X cc 1 R_D) (hin : (xh X).name = "<init>") (hA : ∀ q, (xs X).heap.size ≤ q → xA X q) {kG : Class} (hkG : (xs X).vm.classes[eG (xE X)]? = some kG) (hkindG : kG.kind = .array (eI (xE X)) (.array .int)) {h0 sl pc : Nat} {fs : (Nat → Nat) → List Value} (hfl : ∀ ad, 15 < (fs ad).length) (hfs : ∀ ad h, fs (adG ad h) = fs ad)
    (hR1 : 12 + 17 ≤ (xR X).cells) (hR2 : sl + 272 ≤ (xR X).slots) (d1 : decode cc pc = .ok (.aload_n 0, 1)) (d2 : decode cc (pc + 1) = .ok (.bipush 16, 2)) (d3 : decode cc (pc + 3) = .ok (.bipush 16, 2)) (d4 : decode cc (pc + 5) = .ok (.multianewarray 46 2, 4)) (d5 : decode cc (pc + 9) = .ok (.putfield 48, 3))
    (kk : KD X ceD 0 h0 (pc + 12) 29 (sl + 272) (fun ad => (fs ad).set 15 (.ref (ad 12)))) : KD X ceD 0 h0 pc 12 sl fs := by
  intro ad H locs ls ⟨hP, hD, hS, hG⟩ hl
  have hKG := C.2.2.2.2.2.2.2 1 (eG (xE X), .array .int) rfl
  obtain ⟨-, kI, hkI, compI, hkindI⟩ := (C.2.2.2.2.2.2.2 0 (eI (xE X), .int) rfl).1 0 (fun _ => .null)
  have hnG : (xs X).vm.findClass "[[I" = some (eG (xE X)) := hKG.2
  refine lv_aload_n C.1 C.2.1 d1 rfl (lv_at hl 0 rfl) ?_
  refine lv_bipush C.1 C.2.1 d2 (v := 16) (by decide) ?_
  refine lv_bipush C.1 C.2.1 d3 (v := 16) (by decide) ?_
  refine W_multi C.1 C.2.1 C.2.2.2.1 (C.2.2.2.2.1 _ cl_D_46) hnG hkG hkindG hkI hkindI d4 hR1 hR2 (fun H1 locs1 z1 o1 eO eR hlc => ?_)
  have hlt : ∀ (k : Nat) (q : Nat × va_E), ((h0, .inr (0, fs ad)) :: wk ceD (xE X) ad 12)[k]? = some q → q.1 < H.size := fun k q hq => (hP k q hq).lt
  have hP1 : va_P (xE X).1 classes ((h0, .inr (0, fs (adG ad H.size))) :: wk ceD (xE X) (adG ad H.size) 29) H1 := by
    rw [hfs]
    intro k q hq
    rcases wk_cons hq with ⟨rfl, rfl⟩ | ⟨j, rfl, hj, rfl⟩
    · exact (hP 0 _ rfl).kept (o1 _ (hlt 0 _ rfl))
    · rcases Nat.lt_or_ge j 12 with h | h
      · have e : ((h0, .inr (0, fs ad)) :: wk ceD (xE X) ad 12)[j + 1]? = some (ad j, ceD (xE X) ad j) := by rw [List.getElem?_cons_succ]; exact wk_at h
        have ec : ceD (xE X) (adG ad H.size) j = ceD (xE X) ad j := by unfold ceD; rw [if_neg (by omega), if_neg (by omega)]
        rw [adG_old h, ec]
        exact (hP _ _ e).kept (o1 _ (hlt _ _ e))
      · rw [adG_new h hj]
        rcases Nat.eq_or_lt_of_le h with h2 | h2
        · subst h2
          show H1[H.size + (12 - 12)]? = _
          rw [Nat.sub_self, Nat.add_zero H.size, eO]
          show some _ = some (vp_cell _ _)
          rfl
        · have ec : ceD (xE X) (adG ad H.size) j = .inl (eI (xE X), 16, .inl (fun _ => nI 0)) := by unfold ceD lnD; rw [if_neg (by omega), if_neg (by omega), if_neg (by omega), if_neg (by omega)]
          rw [ec]
          show H1[H.size + (j - 12)]? = _
          rw [show H.size + (j - 12) = H.size + 1 + (j - 13) by omega, eR (j - 13) (by omega)]
          rfl
  have hD1 : va_D (xA X) ((h0, .inr (0, fs (adG ad H.size))) :: wk ceD (xE X) (adG ad H.size) 29) := by
    rw [hfs]
    -- an old cell's address, or a new one
    have key : ∀ (k : Nat) (q : Nat × va_E), ((h0, .inr (0, fs ad)) :: wk ceD (xE X) (adG ad H.size) 29)[k]? = some q → (k < 13 ∧ q.1 < H.size ∧ ∃ q', ((h0, .inr (0, fs ad)) :: wk ceD (xE X) ad 12)[k]? = some q' ∧ q'.1 = q.1) ∨ (13 ≤ k ∧ q.1 = H.size + (k - 13)) := by
      intro k q hq
      rcases wk_cons hq with ⟨rfl, rfl⟩ | ⟨j, rfl, hj, rfl⟩
      · exact Or.inl ⟨by decide, hlt 0 _ rfl, _, rfl, rfl⟩
      · rcases Nat.lt_or_ge j 12 with h | h
        · have e : ((h0, .inr (0, fs ad)) :: wk ceD (xE X) ad 12)[j + 1]? = some (ad j, ceD (xE X) ad j) := by rw [List.getElem?_cons_succ]; exact wk_at h
          exact Or.inl ⟨by omega, by show adG ad H.size j < _; rw [adG_old h]; exact hlt _ _ e, _, e, (adG_old h).symm⟩
        · exact Or.inr ⟨by omega, by show adG ad H.size j = _; rw [adG_new h hj]; omega⟩
    refine ⟨fun i j x y hx hy hxy => ?_, fun k q hq => ?_⟩
    · rcases key i x hx with ⟨a1, a2, x', a3, a4⟩ | ⟨a1, a2⟩ <;> rcases key j y hy with ⟨b1, b2, y', b3, b4⟩ | ⟨b1, b2⟩
      · exact hD.1 i j x' y' a3 b3 (a4.trans (hxy.trans b4.symm))
      · omega
      · omega
      · omega
    · rcases key k q hq with ⟨a1, a2, x', a3, a4⟩ | ⟨a1, a2⟩
      · rw [← a4]; exact hD.2 k x' a3
      · rw [a2]; exact hA _ (Nat.le_trans hS.1 (by omega))
  have hS1 : va_S (xA X) (xs X).heap H1 locs1 := ⟨Nat.le_trans hS.1 (by omega), fun q h1 h2 => by rw [o1 q (Nat.lt_of_lt_of_le h1 hS.1)]; exact hS.2.1 q h1 h2, fun q hq => by
    rcases hlc q hq with h | h
    · exact hS.2.2 q h
    · rw [h]; exact hA _ hS.1⟩
  refine va_putF (own := R_D) (ref := R_D) C.1 C.2.1 C.2.2.2.2.1 i_D t_D t_D_ok n_D C.2.2.2.1 C.2.2.2.2.2.2 hP1 hD1 hS1 0 rfl (ci := 0) rfl 15 (by decide) (C.2.2.2.2.1 _ fl_D_48) (fun x h => h) rfl hin rfl (ty := .array (.array .int)) rfl rfl rfl (hfl _) d5 (fun H2 locs2 hP2 hD2 hS2 => ?_)
  have e12 : adG ad H.size 12 = H.size := by rw [adG_new (by decide) (by decide)]; rfl
  refine kk (adG ad H.size) H2 locs2 ls ⟨?_, ?_, hS2, fun _ j hj => ?_⟩ hl
  · show va_P _ _ ((h0, .inr (0, (fs (adG ad H.size)).set 15 (.ref (adG ad H.size 12)))) :: _) _
    rw [e12]; exact hP2
  · show va_D _ ((h0, .inr (0, (fs (adG ad H.size)).set 15 (.ref (adG ad H.size 12)))) :: _)
    rw [e12]; exact hD2
  · rw [e12, adG_new (by omega) (by omega)]; omega
end INIT
end
section
/-! the constructors -/
abbrev rm_D_init : Room := { frames := 1, cells := 30, slots := 499, locals := 12 }
abbrev rm_M_init : Room := { frames := 1, cells := 6, slots := 197, locals := 12 }
/-- the desk behind its constructor: its arrays at the addresses ad 0, .., ad 29 in the order of their making -/
def wD (E : En) (h0 : Nat) (ad : Nat → Nat) : va_W := ((h0, .inr (0, [.ref (ad 0), .ref (ad 1), .ref (ad 2), .ref (ad 3), .ref (ad 4), .int 0, .int 0, .int 0, .ref (ad 5), .ref (ad 6), .ref (ad 7), .ref (ad 8), .ref (ad 9), .ref (ad 10), .ref (ad 11), .ref (ad 12), .ref (ad 29)])) :: wk ceD E ad 30).set 1 (ad 0, .inl (eI E, 16, .inl (upd (fun _ => nI 0) 0 (nI 2))))
def wM (E : En) (h0 : Nat) (ad : Nat → Nat) : va_W := ((h0, .inr (1, [.ref (ad 0), .ref (ad 1), .ref (ad 2), .ref (ad 3), .ref (ad 4), .ref (ad 5)])) :: wk ceM E ad 6).set 1 (ad 0, .inl (eI E, 33, .inl (upd (fun _ => nI 0) 0 (nI 2))))
/-- int[][] is an array of int[] -/
def GK (E : En) (U : State) : Prop := ∃ kG : Class, U.vm.classes[eG E]? = some kG ∧ kG.kind = .array (eI E) (.array .int)
theorem GK_moved {E : En} {u v : State} (hvm : u.vm.Alike v.vm) (h : GK E u) : GK E v := by
  obtain ⟨kG, h1, h2⟩ := h
  obtain ⟨k', hk', he⟩ := hvm.2.2 _ _ h1
  exact ⟨k', hk', by rw [he]; exact h2⟩
set_option maxHeartbeats 1000000 in
theorem c_D_init (l : Launch) (E : En) (A : Nat → Prop) (h0 sz : Nat) (hA0 : A h0) (hA : ∀ q, sz ≤ q → A q) : Met l y_D_init (.code y_D_init b_D_init 1 none :: gtb) rm_D_init (va_Pc [.ref h0] (fun U => U.heap.size = sz ∧ va_P E.1 classes [(h0, .inr (0, [.null, .null, .null, .null, .null, .int 0, .int 0, .int 0, .null, .null, .null, .null, .null, .null, .null, .null, .null]))] U.heap ∧ va_K E.1 classes (tyl E) U ∧ GK E U)) (va_Qv (fun ad : Nat → Nat => ∀ j, j < 16 → ad (13 + j) = ad 12 + 1 + j) (fun ad t => va_P E.1 classes (wD E h0 ad) t.heap ∧ va_D A (wD E h0 ad)) A) 30 499 A := by
  refine Met.ofW (cc := b_D_init) (maxL := 1) (ret := none) (by decide) rfl ?_
  intro p e s m args below meth c s₁ Bd hml hv
  obtain ⟨rfl, hsz, hP, hK, hGK⟩ := hv
  subst hsz
  have hD0 : va_D A [(h0, .inr (0, [.null, .null, .null, .null, .null, .int 0, .int 0, .int 0, .null, .null, .null, .null, .null, .null, .null, .null, .null]))] := by
    refine ⟨fun i j x y hx hy _ => ?_, fun k q hq => ?_⟩
    · have h1 : i < 1 := (List.getElem?_eq_some_iff.mp hx).1
      have h2 : j < 1 := (List.getElem?_eq_some_iff.mp hy).1
      omega
    · have h1 : k < 1 := (List.getElem?_eq_some_iff.mp hq).1
      obtain rfl : k = 0 := by omega
      cases hq
      exact hA0
  obtain ⟨X, hX⟩ : ∃ X : Ctx, X = (p, l, e, rm_D_init, s, m, [Value.ref h0].toArray, below, meth, c, (1, 0, 0), E, A, MQ below (va_Qv (fun ad : Nat → Nat => ∀ j, j < 16 → ad (13 + j) = ad 12 + 1 + j) (fun ad t => va_P E.1 classes (wD E h0 ad) t.heap ∧ va_D A (wD E h0 ad)) A) [Value.ref h0].toArray s 30 499 A) := ⟨_, rfl⟩
  have hin : (xh X).name = "<init>" := by subst hX; exact (name_of_methodNamed Bd.named Bd.method).1
  have C : Cx X b_D_init 1 R_D := by
    subst hX
    exact ⟨Bd.exec, Bd.bytes, hml, findClass_of_methodNamed Bd.named, fun w hw => atoms_spec (ws := .code y_D_init b_D_init 1 none :: gtb) Bd.pre w (List.mem_cons_of_mem _ hw), ⟨rfl, Nat.zero_le _, Nat.zero_le _⟩, hK⟩
  have hAX : ∀ q, (xs X).heap.size ≤ q → xA X q := by subst hX; exact hA
  have hRX : xR X = rm_D_init := by subst hX; rfl
  have hGX : GK (xE X) (xs X) := by subst hX; exact hGK
  have fin : KD X ceD 0 h0 120 30 499 (fun ad => [.ref (ad 0), .ref (ad 1), .ref (ad 2), .ref (ad 3), .ref (ad 4), .int 0, .int 0, .int 0, .ref (ad 5), .ref (ad 6), .ref (ad 7), .ref (ad 8), .ref (ad 9), .ref (ad 10), .ref (ad 11), .ref (ad 12), .ref (ad 29)]) := by
    intro ad H locs ls ⟨kP, kD, kS, kG⟩ hl
    refine lv_aload_n C.1 C.2.1 d_D_init_120 rfl (lv_at hl 0 rfl) ?_
    refine va_get (own := R_D) (ref := R_D) C.1 C.2.1 C.2.2.2.2.1 i_D C.2.2.2.1 C.2.2.2.2.2.2 kP 0 (ci := 0) rfl rfl 0 (by decide) (C.2.2.2.2.1 _ fl_D_9) (fun x h => h) rfl d_D_init_121 ?_
    refine lv_iconst C.1 C.2.1 d_D_init_124 (v := nI 0) (by decide) ?_
    refine lv_iconst C.1 C.2.1 d_D_init_125 (v := nI 2) (by decide) ?_
    refine va_iast (n := 16) (f := fun _ => nI 0) C.1 C.2.1 C.2.2.2.2.2.2 kP kD kS 1 0 rfl rfl (vp_in_nI (by decide) (by decide)) d_D_init_126 (fun H1 locs1 hP1 hD1 hS1 => ?_)
    subst hX
    exact W.vret Bd.exec Bd.bytes Bd.returns (fun t ht hWt => ⟨⟨ad, rfl, kG (by decide), by rw [ht]; exact hP1, hD1⟩, hS1.F ht⟩) hS1.2.2 d_D_init_127 Bd.notSynchronized
  have k29 : KD X ceD 0 h0 112 29 481 (fun ad => [.ref (ad 0), .ref (ad 1), .ref (ad 2), .ref (ad 3), .ref (ad 4), .int 0, .int 0, .int 0, .ref (ad 5), .ref (ad 6), .ref (ad 7), .ref (ad 8), .ref (ad 9), .ref (ad 10), .ref (ad 11), .ref (ad 12), .null]) := by
    exact N_step C hin rfl i_D t_D t_D_ok n_D hAX 16 (by decide) fl_D_51 rfl rfl rfl (fun _ => Nat.le_of_ble_eq_true rfl) (len := 18) (by decide) (by decide) (by decide) (fun _ _ => rfl) (fun ad q k hk => by unfold ceD; split <;> rfl) (fun ad q => rfl) (by rw [hRX]; decide) (by rw [hRX]; decide) d_D_init_112 d_D_init_113 d_D_init_115 d_D_init_117 fin
  have k12 : KD X ceD 0 h0 100 12 209 (fun ad => [.ref (ad 0), .ref (ad 1), .ref (ad 2), .ref (ad 3), .ref (ad 4), .int 0, .int 0, .int 0, .ref (ad 5), .ref (ad 6), .ref (ad 7), .ref (ad 8), .ref (ad 9), .ref (ad 10), .ref (ad 11), .null, .null]) := by
    obtain ⟨kG, g1, g2⟩ := hGX
    exact N_grid C hin hAX g1 g2 (fun _ => Nat.le_of_ble_eq_true rfl) (fun ad h => rfl) (by rw [hRX]; decide) (by rw [hRX]; decide) d_D_init_100 d_D_init_101 d_D_init_103 d_D_init_105 d_D_init_109 k29
  have k11 : KD X ceD 0 h0 92 11 193 (fun ad => [.ref (ad 0), .ref (ad 1), .ref (ad 2), .ref (ad 3), .ref (ad 4), .int 0, .int 0, .int 0, .ref (ad 5), .ref (ad 6), .ref (ad 7), .ref (ad 8), .ref (ad 9), .ref (ad 10), .null, .null, .null]) := by
    exact N_step C hin rfl i_D t_D t_D_ok n_D hAX 14 (by decide) fl_D_43 rfl rfl rfl (fun _ => Nat.le_of_ble_eq_true rfl) (len := 16) (by decide) (by decide) (by decide) (fun _ _ => rfl) (fun ad q k hk => by unfold ceD; rw [if_neg (by omega), if_neg (by omega)]) (fun ad q => rfl) (by rw [hRX]; decide) (by rw [hRX]; decide) d_D_init_92 d_D_init_93 d_D_init_95 d_D_init_97 k12
  have k10 : KD X ceD 0 h0 84 10 177 (fun ad => [.ref (ad 0), .ref (ad 1), .ref (ad 2), .ref (ad 3), .ref (ad 4), .int 0, .int 0, .int 0, .ref (ad 5), .ref (ad 6), .ref (ad 7), .ref (ad 8), .ref (ad 9), .null, .null, .null, .null]) := by
    exact N_step C hin rfl i_D t_D t_D_ok n_D hAX 13 (by decide) fl_D_40 rfl rfl rfl (fun _ => Nat.le_of_ble_eq_true rfl) (len := 16) (by decide) (by decide) (by decide) (fun _ _ => rfl) (fun ad q k hk => by unfold ceD; rw [if_neg (by omega), if_neg (by omega)]) (fun ad q => rfl) (by rw [hRX]; decide) (by rw [hRX]; decide) d_D_init_84 d_D_init_85 d_D_init_87 d_D_init_89 k11
  have k9 : KD X ceD 0 h0 76 9 161 (fun ad => [.ref (ad 0), .ref (ad 1), .ref (ad 2), .ref (ad 3), .ref (ad 4), .int 0, .int 0, .int 0, .ref (ad 5), .ref (ad 6), .ref (ad 7), .ref (ad 8), .null, .null, .null, .null, .null]) := by
    exact N_step C hin rfl i_D t_D t_D_ok n_D hAX 12 (by decide) fl_D_37 rfl rfl rfl (fun _ => Nat.le_of_ble_eq_true rfl) (len := 16) (by decide) (by decide) (by decide) (fun _ _ => rfl) (fun ad q k hk => by unfold ceD; rw [if_neg (by omega), if_neg (by omega)]) (fun ad q => rfl) (by rw [hRX]; decide) (by rw [hRX]; decide) d_D_init_76 d_D_init_77 d_D_init_79 d_D_init_81 k10
  have k8 : KD X ceD 0 h0 68 8 145 (fun ad => [.ref (ad 0), .ref (ad 1), .ref (ad 2), .ref (ad 3), .ref (ad 4), .int 0, .int 0, .int 0, .ref (ad 5), .ref (ad 6), .ref (ad 7), .null, .null, .null, .null, .null, .null]) := by
    exact N_step C hin rfl i_D t_D t_D_ok n_D hAX 11 (by decide) fl_D_34 rfl rfl rfl (fun _ => Nat.le_of_ble_eq_true rfl) (len := 16) (by decide) (by decide) (by decide) (fun _ _ => rfl) (fun ad q k hk => by unfold ceD; rw [if_neg (by omega), if_neg (by omega)]) (fun ad q => rfl) (by rw [hRX]; decide) (by rw [hRX]; decide) d_D_init_68 d_D_init_69 d_D_init_71 d_D_init_73 k9
  have k7 : KD X ceD 0 h0 60 7 129 (fun ad => [.ref (ad 0), .ref (ad 1), .ref (ad 2), .ref (ad 3), .ref (ad 4), .int 0, .int 0, .int 0, .ref (ad 5), .ref (ad 6), .null, .null, .null, .null, .null, .null, .null]) := by
    exact N_step C hin rfl i_D t_D t_D_ok n_D hAX 10 (by decide) fl_D_31 rfl rfl rfl (fun _ => Nat.le_of_ble_eq_true rfl) (len := 16) (by decide) (by decide) (by decide) (fun _ _ => rfl) (fun ad q k hk => by unfold ceD; rw [if_neg (by omega), if_neg (by omega)]) (fun ad q => rfl) (by rw [hRX]; decide) (by rw [hRX]; decide) d_D_init_60 d_D_init_61 d_D_init_63 d_D_init_65 k8
  have k6 : KD X ceD 0 h0 52 6 112 (fun ad => [.ref (ad 0), .ref (ad 1), .ref (ad 2), .ref (ad 3), .ref (ad 4), .int 0, .int 0, .int 0, .ref (ad 5), .null, .null, .null, .null, .null, .null, .null, .null]) := by
    exact N_step C hin rfl i_D t_D t_D_ok n_D hAX 9 (by decide) fl_D_28 rfl rfl rfl (fun _ => Nat.le_of_ble_eq_true rfl) (len := 17) (by decide) (by decide) (by decide) (fun _ _ => rfl) (fun ad q k hk => by unfold ceD; rw [if_neg (by omega), if_neg (by omega)]) (fun ad q => rfl) (by rw [hRX]; decide) (by rw [hRX]; decide) d_D_init_52 d_D_init_53 d_D_init_55 d_D_init_57 k7
  have k5 : KD X ceD 0 h0 44 5 80 (fun ad => [.ref (ad 0), .ref (ad 1), .ref (ad 2), .ref (ad 3), .ref (ad 4), .int 0, .int 0, .int 0, .null, .null, .null, .null, .null, .null, .null, .null, .null]) := by
    exact N_step C hin rfl i_D t_D t_D_ok n_D hAX 8 (by decide) fl_D_25 rfl rfl rfl (fun _ => Nat.le_of_ble_eq_true rfl) (len := 32) (by decide) (by decide) (by decide) (fun _ _ => rfl) (fun ad q k hk => by unfold ceD; rw [if_neg (by omega), if_neg (by omega)]) (fun ad q => rfl) (by rw [hRX]; decide) (by rw [hRX]; decide) d_D_init_44 d_D_init_45 d_D_init_47 d_D_init_49 k6
  have k4 : KD X ceD 0 h0 36 4 64 (fun ad => [.ref (ad 0), .ref (ad 1), .ref (ad 2), .ref (ad 3), .null, .int 0, .int 0, .int 0, .null, .null, .null, .null, .null, .null, .null, .null, .null]) := by
    exact N_step C hin rfl i_D t_D t_D_ok n_D hAX 4 (by decide) fl_D_22 rfl rfl rfl (fun _ => Nat.le_of_ble_eq_true rfl) (len := 16) (by decide) (by decide) (by decide) (fun _ _ => rfl) (fun ad q k hk => by unfold ceD; rw [if_neg (by omega), if_neg (by omega)]) (fun ad q => rfl) (by rw [hRX]; decide) (by rw [hRX]; decide) d_D_init_36 d_D_init_37 d_D_init_39 d_D_init_41 k5
  have k3 : KD X ceD 0 h0 28 3 48 (fun ad => [.ref (ad 0), .ref (ad 1), .ref (ad 2), .null, .null, .int 0, .int 0, .int 0, .null, .null, .null, .null, .null, .null, .null, .null, .null]) := by
    exact N_step C hin rfl i_D t_D t_D_ok n_D hAX 3 (by decide) fl_D_19 rfl rfl rfl (fun _ => Nat.le_of_ble_eq_true rfl) (len := 16) (by decide) (by decide) (by decide) (fun _ _ => rfl) (fun ad q k hk => by unfold ceD; rw [if_neg (by omega), if_neg (by omega)]) (fun ad q => rfl) (by rw [hRX]; decide) (by rw [hRX]; decide) d_D_init_28 d_D_init_29 d_D_init_31 d_D_init_33 k4
  have k2 : KD X ceD 0 h0 20 2 32 (fun ad => [.ref (ad 0), .ref (ad 1), .null, .null, .null, .int 0, .int 0, .int 0, .null, .null, .null, .null, .null, .null, .null, .null, .null]) := by
    exact N_step C hin rfl i_D t_D t_D_ok n_D hAX 2 (by decide) fl_D_16 rfl rfl rfl (fun _ => Nat.le_of_ble_eq_true rfl) (len := 16) (by decide) (by decide) (by decide) (fun _ _ => rfl) (fun ad q k hk => by unfold ceD; rw [if_neg (by omega), if_neg (by omega)]) (fun ad q => rfl) (by rw [hRX]; decide) (by rw [hRX]; decide) d_D_init_20 d_D_init_21 d_D_init_23 d_D_init_25 k3
  have k1 : KD X ceD 0 h0 12 1 16 (fun ad => [.ref (ad 0), .null, .null, .null, .null, .int 0, .int 0, .int 0, .null, .null, .null, .null, .null, .null, .null, .null, .null]) := by
    exact N_step C hin rfl i_D t_D t_D_ok n_D hAX 1 (by decide) fl_D_13 rfl rfl rfl (fun _ => Nat.le_of_ble_eq_true rfl) (len := 16) (by decide) (by decide) (by decide) (fun _ _ => rfl) (fun ad q k hk => by unfold ceD; rw [if_neg (by omega), if_neg (by omega)]) (fun ad q => rfl) (by rw [hRX]; decide) (by rw [hRX]; decide) d_D_init_12 d_D_init_13 d_D_init_15 d_D_init_17 k2
  have k0 : KD X ceD 0 h0 4 0 0 (fun ad => [.null, .null, .null, .null, .null, .int 0, .int 0, .int 0, .null, .null, .null, .null, .null, .null, .null, .null, .null]) := by
    exact N_step C hin rfl i_D t_D t_D_ok n_D hAX 0 (by decide) fl_D_9 rfl rfl rfl (fun _ => Nat.le_of_ble_eq_true rfl) (len := 16) (by decide) (by decide) (by decide) (fun _ _ => rfl) (fun ad q k hk => by unfold ceD; rw [if_neg (by omega), if_neg (by omega)]) (fun ad q => rfl) (by rw [hRX]; decide) (by rw [hRX]; decide) d_D_init_4 d_D_init_5 d_D_init_7 d_D_init_9 k1
  rw [lg_entry_eq]
  have hl := lv_entry ([.ref h0]) (n := 1) (Nat.le_of_ble_eq_true rfl)
  generalize (lg_sl ([.ref h0]) ++ List.replicate (1 - (lg_sl ([.ref h0])).length) Slot.unset).toArray = ls at hl ⊢
  have hl : lv_has ls 1 [(0, .ref h0)] := hl
  subst hX
  refine lv_aload_n Bd.exec Bd.bytes d_D_init_0 rfl (lv_at hl 0 rfl) ?_
  refine W.objInit Bd.exec Bd.bytes (own := R_D) C.2.2.2.1 (C.2.2.2.2.1 _ ml_D_3) (C.2.2.2.2.1 _ im_O_init) (C.2.2.2.2.1 _ mc_O_init) rfl (by rw [hl.1]; exact hml.symm) rfl d_D_init_1 (Nat.le_of_ble_eq_true rfl) (Nat.le_of_ble_eq_true rfl) ?_
  exact k0 (fun _ => 0) s.heap [] ls ⟨hP, hD0, va_S.rf, fun h => absurd h (by decide)⟩ hl
set_option maxHeartbeats 1000000 in
theorem c_M_init (l : Launch) (E : En) (A : Nat → Prop) (h0 sz : Nat) (hA0 : A h0) (hA : ∀ q, sz ≤ q → A q) : Met l y_M_init (.code y_M_init b_M_init 1 none :: gtb) rm_M_init (va_Pc [.ref h0] (fun U => U.heap.size = sz ∧ va_P E.1 classes [(h0, .inr (1, [.null, .null, .null, .null, .null, .null]))] U.heap ∧ va_K E.1 classes (tyl E) U ∧ GK E U)) (va_Qv (fun ad : Nat → Nat => True) (fun ad t => va_P E.1 classes (wM E h0 ad) t.heap ∧ va_D A (wM E h0 ad)) A) 6 197 A := by
  refine Met.ofW (cc := b_M_init) (maxL := 1) (ret := none) (by decide) rfl ?_
  intro p e s m args below meth c s₁ Bd hml hv
  obtain ⟨rfl, hsz, hP, hK, hGK⟩ := hv
  subst hsz
  have hD0 : va_D A [(h0, .inr (1, [.null, .null, .null, .null, .null, .null]))] := by
    refine ⟨fun i j x y hx hy _ => ?_, fun k q hq => ?_⟩
    · have h1 : i < 1 := (List.getElem?_eq_some_iff.mp hx).1
      have h2 : j < 1 := (List.getElem?_eq_some_iff.mp hy).1
      omega
    · have h1 : k < 1 := (List.getElem?_eq_some_iff.mp hq).1
      obtain rfl : k = 0 := by omega
      cases hq
      exact hA0
  obtain ⟨X, hX⟩ : ∃ X : Ctx, X = (p, l, e, rm_M_init, s, m, [Value.ref h0].toArray, below, meth, c, (1, 0, 0), E, A, MQ below (va_Qv (fun ad : Nat → Nat => True) (fun ad t => va_P E.1 classes (wM E h0 ad) t.heap ∧ va_D A (wM E h0 ad)) A) [Value.ref h0].toArray s 6 197 A) := ⟨_, rfl⟩
  have hin : (xh X).name = "<init>" := by subst hX; exact (name_of_methodNamed Bd.named Bd.method).1
  have C : Cx X b_M_init 1 R_M := by
    subst hX
    exact ⟨Bd.exec, Bd.bytes, hml, findClass_of_methodNamed Bd.named, fun w hw => atoms_spec (ws := .code y_M_init b_M_init 1 none :: gtb) Bd.pre w (List.mem_cons_of_mem _ hw), ⟨rfl, Nat.zero_le _, Nat.zero_le _⟩, hK⟩
  have hAX : ∀ q, (xs X).heap.size ≤ q → xA X q := by subst hX; exact hA
  have hRX : xR X = rm_M_init := by subst hX; rfl
  have hGX : GK (xE X) (xs X) := by subst hX; exact hGK
  have fin : KD X ceM 1 h0 52 6 197 (fun ad => [.ref (ad 0), .ref (ad 1), .ref (ad 2), .ref (ad 3), .ref (ad 4), .ref (ad 5)]) := by
    intro ad H locs ls ⟨kP, kD, kS, kG⟩ hl
    refine lv_aload_n C.1 C.2.1 d_M_init_52 rfl (lv_at hl 0 rfl) ?_
    refine va_get (own := R_M) (ref := R_M) C.1 C.2.1 C.2.2.2.2.1 i_M C.2.2.2.1 C.2.2.2.2.2.2 kP 0 (ci := 1) rfl rfl 0 (by decide) (C.2.2.2.2.1 _ fl_M_7) (fun x h => h) rfl d_M_init_53 ?_
    refine lv_iconst C.1 C.2.1 d_M_init_56 (v := nI 0) (by decide) ?_
    refine lv_iconst C.1 C.2.1 d_M_init_57 (v := nI 2) (by decide) ?_
    refine va_iast (n := 33) (f := fun _ => nI 0) C.1 C.2.1 C.2.2.2.2.2.2 kP kD kS 1 0 rfl rfl (vp_in_nI (by decide) (by decide)) d_M_init_58 (fun H1 locs1 hP1 hD1 hS1 => ?_)
    subst hX
    exact W.vret Bd.exec Bd.bytes Bd.returns (fun t ht hWt => ⟨⟨ad, rfl, trivial, by rw [ht]; exact hP1, hD1⟩, hS1.F ht⟩) hS1.2.2 d_M_init_59 Bd.notSynchronized
  have k5 : KD X ceM 1 h0 44 5 164 (fun ad => [.ref (ad 0), .ref (ad 1), .ref (ad 2), .ref (ad 3), .ref (ad 4), .null]) := by
    exact N_step C hin rfl i_M t_M t_M_ok n_M hAX 5 (by decide) fl_M_25 rfl rfl rfl (fun _ => Nat.le_of_ble_eq_true rfl) (len := 33) (by decide) (by decide) (by decide) (fun _ _ => rfl) (fun ad q k hk => rfl) (fun ad q => rfl) (by rw [hRX]; decide) (by rw [hRX]; decide) d_M_init_44 d_M_init_45 d_M_init_47 d_M_init_49 fin
  have k4 : KD X ceM 1 h0 36 4 131 (fun ad => [.ref (ad 0), .ref (ad 1), .ref (ad 2), .ref (ad 3), .null, .null]) := by
    exact N_step C hin rfl i_M t_M t_M_ok n_M hAX 4 (by decide) fl_M_22 rfl rfl rfl (fun _ => Nat.le_of_ble_eq_true rfl) (len := 33) (by decide) (by decide) (by decide) (fun _ _ => rfl) (fun ad q k hk => rfl) (fun ad q => rfl) (by rw [hRX]; decide) (by rw [hRX]; decide) d_M_init_36 d_M_init_37 d_M_init_39 d_M_init_41 k5
  have k3 : KD X ceM 1 h0 28 3 98 (fun ad => [.ref (ad 0), .ref (ad 1), .ref (ad 2), .null, .null, .null]) := by
    exact N_step C hin rfl i_M t_M t_M_ok n_M hAX 3 (by decide) fl_M_19 rfl rfl rfl (fun _ => Nat.le_of_ble_eq_true rfl) (len := 33) (by decide) (by decide) (by decide) (fun _ _ => rfl) (fun ad q k hk => rfl) (fun ad q => rfl) (by rw [hRX]; decide) (by rw [hRX]; decide) d_M_init_28 d_M_init_29 d_M_init_31 d_M_init_33 k4
  have k2 : KD X ceM 1 h0 20 2 66 (fun ad => [.ref (ad 0), .ref (ad 1), .null, .null, .null, .null]) := by
    exact N_step C hin rfl i_M t_M t_M_ok n_M hAX 2 (by decide) fl_M_16 rfl rfl rfl (fun _ => Nat.le_of_ble_eq_true rfl) (len := 32) (by decide) (by decide) (by decide) (fun _ _ => rfl) (fun ad q k hk => rfl) (fun ad q => rfl) (by rw [hRX]; decide) (by rw [hRX]; decide) d_M_init_20 d_M_init_21 d_M_init_23 d_M_init_25 k3
  have k1 : KD X ceM 1 h0 12 1 33 (fun ad => [.ref (ad 0), .null, .null, .null, .null, .null]) := by
    exact N_step C hin rfl i_M t_M t_M_ok n_M hAX 1 (by decide) fl_M_13 rfl rfl rfl (fun _ => Nat.le_of_ble_eq_true rfl) (len := 33) (by decide) (by decide) (by decide) (fun _ _ => rfl) (fun ad q k hk => rfl) (fun ad q => rfl) (by rw [hRX]; decide) (by rw [hRX]; decide) d_M_init_12 d_M_init_13 d_M_init_15 d_M_init_17 k2
  have k0 : KD X ceM 1 h0 4 0 0 (fun ad => [.null, .null, .null, .null, .null, .null]) := by
    exact N_step C hin rfl i_M t_M t_M_ok n_M hAX 0 (by decide) fl_M_7 rfl rfl rfl (fun _ => Nat.le_of_ble_eq_true rfl) (len := 33) (by decide) (by decide) (by decide) (fun _ _ => rfl) (fun ad q k hk => rfl) (fun ad q => rfl) (by rw [hRX]; decide) (by rw [hRX]; decide) d_M_init_4 d_M_init_5 d_M_init_7 d_M_init_9 k1
  rw [lg_entry_eq]
  have hl := lv_entry ([.ref h0]) (n := 1) (Nat.le_of_ble_eq_true rfl)
  generalize (lg_sl ([.ref h0]) ++ List.replicate (1 - (lg_sl ([.ref h0])).length) Slot.unset).toArray = ls at hl ⊢
  have hl : lv_has ls 1 [(0, .ref h0)] := hl
  subst hX
  refine lv_aload_n Bd.exec Bd.bytes d_M_init_0 rfl (lv_at hl 0 rfl) ?_
  refine W.objInit Bd.exec Bd.bytes (own := R_M) C.2.2.2.1 (C.2.2.2.2.1 _ ml_M_1) (C.2.2.2.2.1 _ im_O_init) (C.2.2.2.2.1 _ mc_O_init) rfl (by rw [hl.1]; exact hml.symm) rfl d_M_init_1 (Nat.le_of_ble_eq_true rfl) (Nat.le_of_ble_eq_true rfl) ?_
  exact k0 (fun _ => 0) s.heap [] ls ⟨hP, hD0, va_S.rf, fun h => absurd h (by decide)⟩ hl
end
section
/-! words of 32 bits beside digits of 16 -/
def Rl (f g : Nat → Nat) : Prop := ∀ k, k < 16 → f k = g (2 * k) + g (2 * k + 1) * 65536
theorem pair_V {g : Nat → Nat} : ∀ n, vl 4294967296 (fun k => g (2 * k) + g (2 * k + 1) * 65536) n = vl 65536 g (2 * n)
  | 0 => rfl
  | n + 1 => by
    have e : 4294967296 ^ n = 65536 ^ (2 * n) := by rw [Nat.pow_mul]
    rw [vl_s, pair_V n, show 2 * (n + 1) = 2 * n + 1 + 1 by omega, vl_s, vl_s, e, Nat.pow_succ]
    generalize (65536 : Nat) ^ (2 * n) = P
    generalize vl 65536 g (2 * n) = Z
    grind
theorem Rl_V {f g : Nat → Nat} (h : Rl f g) : V f 16 = U g 32 := by
  have e : V f 16 = vl 4294967296 (fun k => g (2 * k) + g (2 * k + 1) * 65536) 16 := vl_congr h
  rw [e, pair_V]
theorem Rl_of {f g : Nat → Nat} (hf : ∀ j, f j < 4294967296) (hg : Dg g 32) (h : V f 16 = U g 32) : Rl f g := by
  have e : vl 4294967296 f 16 = vl 4294967296 (fun k => g (2 * k) + g (2 * k + 1) * 65536) 16 := by rw [pair_V]; exact h
  exact vl_inj (b := 4294967296) (fun j _ => hf j) (fun j hj => by have h1 := hg (2 * j) (by omega); have h2 := hg (2 * j + 1) (by omega); omega) e
theorem Rl_put {f g : Nat → Nat} {pt p q r s : Nat} (hp : p < 4294967296) (hq : q < 4294967296) (hr : r < 4294967296) (hs : s < 4294967296) (h : Rl f g) : Rl (pf f pt p q r s) (lf g pt p q r s) := by
  intro k hk
  obtain ⟨a, ha⟩ : ∃ a, a = pt % 4 := ⟨_, rfl⟩
  have ha4 : a < 4 := by omega
  unfold pf lf
  rw [← ha]
  by_cases hin : 8 * a ≤ 2 * k ∧ 2 * k < 8 * a + 8
  · rw [if_pos hin, if_pos (show 8 * a ≤ 2 * k + 1 ∧ 2 * k + 1 < 8 * a + 8 by omega), if_pos (show (2 * k - 8 * a) % 2 = 0 by omega), if_neg (show ¬ (2 * k + 1 - 8 * a) % 2 = 0 by omega), show (2 * k - 8 * a) / 2 = k - 4 * a by omega, show (2 * k + 1 - 8 * a) / 2 = k - 4 * a by omega]
    unfold wsel uf
    rcases (show k = 4 * a ∨ k = 4 * a + 1 ∨ k = 4 * a + 2 ∨ k = 4 * a + 3 by omega) with e | e | e | e
    · rw [if_neg (by omega), if_neg (by omega), if_neg (by omega), if_pos e, if_pos (by omega)]
      omega
    · rw [if_neg (by omega), if_neg (by omega), if_pos e, if_neg (by omega), if_pos (by omega)]
      omega
    · rw [if_neg (by omega), if_pos e, if_neg (by omega), if_neg (by omega), if_pos (by omega)]
      omega
    · rw [if_pos e, if_neg (by omega), if_neg (by omega), if_neg (by omega)]
      omega
  · rw [if_neg hin, if_neg (show ¬ (8 * a ≤ 2 * k + 1 ∧ 2 * k + 1 < 8 * a + 8) by omega), uf_n (by omega), uf_n (by omega), uf_n (by omega), uf_n (by omega)]
    exact h k hk
theorem Rl_fix {f g : Nat → Nat} (h : Rl f g) : Rl (fixm f) (fixu g) := by
  have e := Rl_V h
  unfold fixm fixu
  rw [e]
  by_cases hlt : U g 32 < 2
  · rw [if_pos hlt, if_pos hlt]
    have hz := (vl_small (b := 65536) (f := g) (n := 31) (by decide)).mp hlt
    intro k hk
    rcases Nat.eq_zero_or_pos k with q | q
    · subst q
      rw [uf_s, show 2 * 0 = 0 from rfl, uf_s, uf_n (by decide), hz.2 (0 + 1) (by decide) (by decide)]
    · rw [uf_n (by omega), uf_n (by omega), uf_n (by omega)]
      exact h k hk
  · rw [if_neg hlt, if_neg hlt]
    exact h
/-- THE LAW'S INVARIANT: desk and model hold the same numbers -/
def Inv (σ : Nat → Nat → Nat) : Prop := (Rl (σ 0) (σ 29) ∧ Dg (σ 29) 33 ∧ σ 29 32 = 0 ∧ 2 ≤ V (σ 0) 16) ∧ (V (σ 1) 16 = U (σ 30) 33 ∧ Dg (σ 30) 33 ∧ V (σ 1) 16 < V (σ 0) 16) ∧ (V (σ 3) 16 = U (σ 32) 33 ∧ Dg (σ 32) 33 ∧ V (σ 3) 16 < V (σ 0) 16) ∧ Rl (σ 2) (σ 31) ∧ Dg (σ 31) 32
theorem Inv_M {σ : Nat → Nat → Nat} (h : Inv σ) : V (σ 0) 16 = U (σ 29) 33 ∧ U (σ 29) 33 < 65536 ^ 32 := by
  obtain ⟨⟨h1, h2, h3, h4⟩, -⟩ := h
  exact ⟨by rw [Rl_V h1, U_32 h3], U_33lt h3 h2⟩
/-- a number below the modulus, as words and as digits -/
theorem Inv_R {σ : Nat → Nat → Nat} (h : Inv σ) {f g : Nat → Nat} (hf : ∀ j, f j < 4294967296) (h1 : V f 16 = U g 33) (h2 : Dg g 33) (h3 : V f 16 < V (σ 0) 16) : U g 33 = U g 32 ∧ Rl f g := by
  obtain ⟨e, hM⟩ := Inv_M h
  have e2 : U g 33 = U g 32 := U33 (by rw [← h1]; rw [e] at h3; exact Nat.lt_trans h3 hM)
  exact ⟨e2, Rl_of hf (fun j hj => h2 j (by omega)) (by rw [h1, e2])⟩
theorem Rl_at {f g : Nat → Nat} (h : Rl f g) (a : Nat) : f (a % 16) = g (2 * (a % 16)) + g (2 * (a % 16) + 1) * 65536 := h _ (Nat.mod_lt _ (by decide))
end
section
/-! THE LAW's loop -/
def sc (x0 : Nat → Int32) (j : Nat) : Nat := (x0 j).toBitVec.toNat
theorem sc_lt (x0 : Nat → Int32) (j : Nat) : sc x0 j < 4294967296 := (x0 j).toBitVec.isLt
theorem sc_eq' (x0 : Nat → Int32) (j : Nat) : x0 j = nI (sc x0 j) := nb_inj (by rw [nb_tn, Nat.mod_eq_of_lt (sc_lt x0 j)]; rfl)
/-- the script -/
def ScX (X : Ctx) (b L : Nat) (x0 : Nat → Int32) : Prop := va_X b L x0 (xs X) (xs X).heap ∧ b < (xs X).heap.size ∧ ¬ xA X b ∧ L ≤ 3072
section LAWR
variable {X : Ctx} {cc : ByteArray} {nL : Nat} {own : String} {pc : Nat} {lv : List (Nat × Value)} {st : List Value} {σ : Nat → Nat → Nat} {mn iv tw b L : Nat} {x0 : Nat → Int32}
theorem J_sld (C : Cx X cc nL own) {j : Nat} (hdg : decode cc pc = .ok (.iaload, 1)) (h : ScX X b L x0) (hj : j < L) (k : J X (pc + 1) lv (.int (nI (sc x0 j)) :: st) σ mn iv tw) : J X pc lv (.int (nI j) :: .ref b :: st) σ mn iv tw := by
  intro H locs ls hW hl
  have hL := h.2.2.2
  refine va_sld C.1 C.2.1 h.1 h.2.1 h.2.2.1 hW.2.2.1 (vp_in_nI hj (by omega)) hdg ?_
  rw [nI_clamp (by omega), sc_eq' x0 j]
  exact k H locs ls hW hl
theorem J_slen (C : Cx X cc nL own) (hdg : decode cc pc = .ok (.arraylength, 1)) (h : ScX X b L x0) (k : J X (pc + 1) lv (.int (nI L) :: st) σ mn iv tw) : J X pc lv (.ref b :: st) σ mn iv tw := by
  intro H locs ls hW hl
  exact va_slen C.1 C.2.1 h.1 h.2.1 h.2.2.1 hW.2.2.1 hdg (k H locs ls hW hl)
/-- a negative number is below *) -/
theorem J_gt_neg (C : Cx X cc nL own) {a d tgt : Nat} {off : Int} (hdg : decode cc pc = .ok (.if_icmp .gt off, 3)) (ht : (pc : Int) + off = (tgt : Int)) (ha : a < 2147483648) (hd : 2147483648 ≤ d) (hd2 : d < 4294967296) (k : J X tgt lv st σ mn iv tw) : J X pc lv (.int (nI d) :: .int (nI a) :: st) σ mn iv tw := by
  intro H locs ls hW hl
  have hlt : nI d < nI a := by
    rw [Int32.lt_iff_toInt_lt, nb_toInt hd2, nb_toInt (by omega), if_neg (by omega), if_pos ha]
    omega
  exact lv_icmp_gt C.1 C.2.1 hdg ht (fun _ => k H locs ls hW hl) (fun h => absurd hlt h)
theorem J_tsw (C : Cx X cc nL own) {v tgt len : Nat} {dflt off : Int} {offs : Array Int} (hdg : decode cc pc = .ok (.tableswitch dflt 0 7 offs, len)) (hv : v < 8) (ho : offs[v]? = some off) (ht : (pc : Int) + off = (tgt : Int)) (k : J X tgt lv st σ mn iv tw) : J X pc lv (.int (nI v) :: st) σ mn iv tw := by
  intro H locs ls hW hl
  have e : (nI v).toInt = (v : Int) := nI_toInt (by omega)
  refine lv_tableIn C.1 C.2.1 hdg (by rw [e]; omega) (by rw [e]; omega) (off := off) ?_ ht (k H locs ls hW hl)
  rw [e, Int.sub_zero, Int.toNat_natCast]
  exact ho
end LAWR
section LAW
variable {X : Ctx} {b L : Nat} {x0 : Nat → Int32}
set_option maxHeartbeats 2000000 in
theorem law_loop (C : Cx X code 4 "PowerDeskLaw") (hR : xR X = room_1) (hSc : ScX X b L x0) (fin : ∀ lv σ mn iv tw, J X 349 lv [.int (nI 1)] σ mn iv tw) :
    ∀ n i σ mn iv tw, i ≤ L → L ≤ i + 6 * n → Inv σ → J X 18 [(0, .ref b), (1, .ref (ex (xE X))), (2, .ref (em (xE X))), (3, .int (nI i))] [] σ mn iv tw := by
  have hL := hSc.2.2.2
  have stop : ∀ lv σ mn iv tw, J X 348 lv [] σ mn iv tw := fun lv σ mn iv tw => J_iconst C d_L_law_348 1 (by decide) (fin lv σ mn iv tw)
  intro n
  induction n with
  | zero =>
    intro i σ mn iv tw hi hn hI
    refine J_iload_n C d_L_law_18 3 rfl rfl ?_
    refine J_aload_n C d_L_law_19 0 rfl rfl ?_
    refine J_slen C d_L_law_20 hSc ?_
    refine J_bipush C d_L_law_21 6 (by decide) ?_
    rcases Nat.lt_or_ge L 6 with h6 | h6
    · refine J_isubm C d_L_law_23 (by decide) ?_
      exact J_gt_neg C d_L_law_24 (tgt := 348) (by decide) (by omega) (by omega) (by omega) (stop _ _ _ _ _)
    · refine J_isub C d_L_law_23 h6 ?_
      refine J_icmp_gt C d_L_law_24 (tgt := 348) (by decide) (by omega) (by omega) (fun _ => stop _ _ _ _ _) (fun h => ?_)
      omega
  | succ n ih =>
    intro i σ mn iv tw hi hn hI
    have hI0 := hI
    obtain ⟨hM, hMlt⟩ := Inv_M hI
    obtain ⟨⟨r0, d29, z29, m2⟩, ⟨v1, d30, l1⟩, ⟨v3, d32, l3⟩, r2, d31⟩ := hI
    refine J_wb (fun hwb => ?_)
    have hw0 := hwb
    obtain ⟨u30, r1⟩ := Inv_R hI0 (fun j => hwb 1 j) v1 d30 l1
    obtain ⟨u32, r3⟩ := Inv_R hI0 (fun j => hwb 3 j) v3 d32 l3
    refine J_iload_n C d_L_law_18 3 rfl rfl ?_
    refine J_aload_n C d_L_law_19 0 rfl rfl ?_
    refine J_slen C d_L_law_20 hSc ?_
    refine J_bipush C d_L_law_21 6 (by decide) ?_
    rcases Nat.lt_or_ge L 6 with h6 | h6
    · refine J_isubm C d_L_law_23 (by decide) ?_
      exact J_gt_neg C d_L_law_24 (tgt := 348) (by decide) (by omega) (by omega) (by omega) (stop _ _ _ _ _)
    · refine J_isub C d_L_law_23 h6 ?_
      refine J_icmp_gt C d_L_law_24 (tgt := 348) (by decide) (by omega) (by omega) (fun _ => stop _ _ _ _ _) (fun h => ?_)
      have next : ∀ σ mn iv tw, Inv σ → J X 342 [(0, .ref b), (1, .ref (ex (xE X))), (2, .ref (em (xE X))), (3, .int (nI i))] [] σ mn iv tw := by
        intro σ' mn' iv' tw' hI'
        refine J_iinc (lv' := [(0, _), (1, _), (2, _), (3, _)]) C d_L_law_342 rfl (inc6 _) (by decide) rfl rfl ?_
        refine J_goto C d_L_law_345 (tgt := 18) (by decide) ?_
        exact ih (i + 6) σ' mn' iv' tw' (by omega) (by omega) hI'
      refine J_aload_n C d_L_law_27 0 rfl rfl ?_
      refine J_iload_n C d_L_law_28 3 rfl rfl ?_
      refine J_sld C d_L_law_29 hSc (by omega) ?_
      refine J_bipush C d_L_law_30 7 (by decide) ?_
      refine J_iand C d_L_law_32 3 8 rfl (sc_lt _ _) (by decide) rfl ?_
      have hp1 := sc_lt x0 (i + 1)
      have hp2 := sc_lt x0 (i + 2)
      have hp3 := sc_lt x0 (i + 3)
      have hp4 := sc_lt x0 (i + 4)
      have hp5 := sc_lt x0 (i + 5)
      have h8 : sc x0 i % 8 < 8 := Nat.mod_lt _ (by decide)
      generalize sc x0 i % 8 = v at h8
      rcases (show v = 0 ∨ v = 1 ∨ v = 2 ∨ v = 3 ∨ v = 4 ∨ v = 5 ∨ v = 6 ∨ v = 7 by omega) with rfl | rfl | rfl | rfl | rfl | rfl | rfl | rfl
      · refine J_tsw C d_L_law_33 (by decide) rfl (tgt := 80) (by decide) ?_
        refine J_aload_n C d_L_law_80 1 rfl rfl ?_
        refine J_aload_n C d_L_law_81 0 rfl rfl ?_
        refine J_iload_n C d_L_law_82 3 rfl rfl ?_
        refine J_iconst C d_L_law_83 1 (by decide) ?_
        refine J_iadd C d_L_law_84 ?_
        refine J_sld C d_L_law_85 hSc (by omega) ?_
        refine J_aload_n C d_L_law_86 0 rfl rfl ?_
        refine J_iload_n C d_L_law_87 3 rfl rfl ?_
        refine J_iconst C d_L_law_88 2 (by decide) ?_
        refine J_iadd C d_L_law_89 ?_
        refine J_sld C d_L_law_90 hSc (by omega) ?_
        refine J_aload_n C d_L_law_91 0 rfl rfl ?_
        refine J_iload_n C d_L_law_92 3 rfl rfl ?_
        refine J_iconst C d_L_law_93 3 (by decide) ?_
        refine J_iadd C d_L_law_94 ?_
        refine J_sld C d_L_law_95 hSc (by omega) ?_
        refine J_aload_n C d_L_law_96 0 rfl rfl ?_
        refine J_iload_n C d_L_law_97 3 rfl rfl ?_
        refine J_iconst C d_L_law_98 4 (by decide) ?_
        refine J_iadd C d_L_law_99 ?_
        refine J_sld C d_L_law_100 hSc (by omega) ?_
        refine J_aload_n C d_L_law_101 0 rfl rfl ?_
        refine J_iload_n C d_L_law_102 3 rfl rfl ?_
        refine J_iconst C d_L_law_103 5 (by decide) ?_
        refine J_iadd C d_L_law_104 ?_
        refine J_sld C d_L_law_105 hSc (by omega) ?_
        refine J_callVv R_D (ex (xE X)) C (fun _ _ => recvD C) d_L_law_106 (c_modulus (σ := σ) (xl X) (xE X) (xA X) hp1) ⟨⟨ml_L_13, ini_D, mc_D_modulus⟩, co_D_modulus, ⟨rfl, rfl⟩, by rw [hR]; decide⟩ im_D_modulus se_D_modulus rfl (by decide) (fun s106 h106 => ?_)
        refine J_wb (fun hwb => ?_)
        obtain ⟨g0, g1, g3, gk⟩ := h106
        have e29 : s106 29 = σ 29 := gk 29 (by decide) (by decide) (by decide) (by decide)
        have e30 : s106 30 = σ 30 := gk 30 (by decide) (by decide) (by decide) (by decide)
        have e32 : s106 32 = σ 32 := gk 32 (by decide) (by decide) (by decide) (by decide)
        refine J_aload_n C d_L_law_109 2 rfl rfl ?_
        refine J_aload_n C d_L_law_110 0 rfl rfl ?_
        refine J_iload_n C d_L_law_111 3 rfl rfl ?_
        refine J_iconst C d_L_law_112 1 (by decide) ?_
        refine J_iadd C d_L_law_113 ?_
        refine J_sld C d_L_law_114 hSc (by omega) ?_
        refine J_aload_n C d_L_law_115 0 rfl rfl ?_
        refine J_iload_n C d_L_law_116 3 rfl rfl ?_
        refine J_iconst C d_L_law_117 2 (by decide) ?_
        refine J_iadd C d_L_law_118 ?_
        refine J_sld C d_L_law_119 hSc (by omega) ?_
        refine J_aload_n C d_L_law_120 0 rfl rfl ?_
        refine J_iload_n C d_L_law_121 3 rfl rfl ?_
        refine J_iconst C d_L_law_122 3 (by decide) ?_
        refine J_iadd C d_L_law_123 ?_
        refine J_sld C d_L_law_124 hSc (by omega) ?_
        refine J_aload_n C d_L_law_125 0 rfl rfl ?_
        refine J_iload_n C d_L_law_126 3 rfl rfl ?_
        refine J_iconst C d_L_law_127 4 (by decide) ?_
        refine J_iadd C d_L_law_128 ?_
        refine J_sld C d_L_law_129 hSc (by omega) ?_
        refine J_aload_n C d_L_law_130 0 rfl rfl ?_
        refine J_iload_n C d_L_law_131 3 rfl rfl ?_
        refine J_iconst C d_L_law_132 5 (by decide) ?_
        refine J_iadd C d_L_law_133 ?_
        refine J_sld C d_L_law_134 hSc (by omega) ?_
        refine J_callVv R_M (em (xE X)) C (fun _ _ => recvM C) d_L_law_135 (c_mmodulus (σ := s106) (xl X) (xE X) (xA X) hp1 hp2 hp3 hp4 hp5 (by rw [e29]; exact d29) (by rw [e29]; exact z29) (by rw [e30]; exact d30) (by rw [e32]; exact d32)) ⟨⟨ml_L_17, ini_M, mc_M_modulus⟩, co_M_modulus, ⟨rfl, rfl⟩, by rw [hR]; decide⟩ im_M_modulus se_M_modulus rfl (by decide) (fun s135 h135 => ?_)
        refine J_wb (fun hwb => ?_)
        refine J_goto C d_L_law_138 (tgt := 342) (by decide) ?_
        obtain ⟨f29, f30, f32, fv30, fv32, fk⟩ := h135
        rw [e29] at f29
        have k0 : s135 0 = fixm (pf (σ 0) (sc x0 (i + 1)) (sc x0 (i + 2)) (sc x0 (i + 3)) (sc x0 (i + 4)) (sc x0 (i + 5))) := by rw [fk 0 (by decide) (by decide) (by decide) (by decide), g0]
        have rr : Rl (s135 0) (s135 29) := by rw [k0, f29]; exact Rl_fix (Rl_put hp2 hp3 hp4 hp5 r0)
        have dd : Dg (s135 29) 33 := by rw [f29]; exact fixu_Dg (lf_lt hp2 hp3 hp4 hp5 d29)
        have zz : s135 29 32 = 0 := by rw [f29]; exact fixu_32 (lf_32 z29)
        have ge : 2 ≤ V (s135 0) 16 := by rw [k0]; exact fixm_ge _
        have eM : V (s106 0) 16 = U (s135 29) 33 := by rw [← fk 0 (by decide) (by decide) (by decide) (by decide), Rl_V rr, U_32 zz]
        have eM' : V (s135 0) 16 = U (s135 29) 33 := by rw [Rl_V rr, U_32 zz]
        have hpos : 0 < U (s135 29) 33 := by omega
        refine next s135 mn iv tw ⟨⟨rr, dd, zz, ge⟩, ⟨?_, f30, ?_⟩, ⟨?_, f32, ?_⟩, ?_, ?_⟩
        · rw [fk 1 (by decide) (by decide) (by decide) (by decide), g1, fv30, e30, eM, v1, u30]
        · rw [fk 1 (by decide) (by decide) (by decide) (by decide), g1, eM, eM']; exact Nat.mod_lt _ hpos
        · rw [fk 3 (by decide) (by decide) (by decide) (by decide), g3, fv32, e32, eM, v3, u32]
        · rw [fk 3 (by decide) (by decide) (by decide) (by decide), g3, eM, eM']; exact Nat.mod_lt _ hpos
        · rw [fk 2 (by decide) (by decide) (by decide) (by decide), gk 2 (by decide) (by decide) (by decide) (by decide), fk 31 (by decide) (by decide) (by decide) (by decide), gk 31 (by decide) (by decide) (by decide) (by decide)]; exact r2
        · rw [fk 31 (by decide) (by decide) (by decide) (by decide), gk 31 (by decide) (by decide) (by decide) (by decide)]; exact d31
      · refine J_tsw C d_L_law_33 (by decide) rfl (tgt := 141) (by decide) ?_
        refine J_aload_n C d_L_law_141 1 rfl rfl ?_
        refine J_aload_n C d_L_law_142 0 rfl rfl ?_
        refine J_iload_n C d_L_law_143 3 rfl rfl ?_
        refine J_iconst C d_L_law_144 1 (by decide) ?_
        refine J_iadd C d_L_law_145 ?_
        refine J_sld C d_L_law_146 hSc (by omega) ?_
        refine J_aload_n C d_L_law_147 0 rfl rfl ?_
        refine J_iload_n C d_L_law_148 3 rfl rfl ?_
        refine J_iconst C d_L_law_149 2 (by decide) ?_
        refine J_iadd C d_L_law_150 ?_
        refine J_sld C d_L_law_151 hSc (by omega) ?_
        refine J_aload_n C d_L_law_152 0 rfl rfl ?_
        refine J_iload_n C d_L_law_153 3 rfl rfl ?_
        refine J_iconst C d_L_law_154 3 (by decide) ?_
        refine J_iadd C d_L_law_155 ?_
        refine J_sld C d_L_law_156 hSc (by omega) ?_
        refine J_aload_n C d_L_law_157 0 rfl rfl ?_
        refine J_iload_n C d_L_law_158 3 rfl rfl ?_
        refine J_iconst C d_L_law_159 4 (by decide) ?_
        refine J_iadd C d_L_law_160 ?_
        refine J_sld C d_L_law_161 hSc (by omega) ?_
        refine J_aload_n C d_L_law_162 0 rfl rfl ?_
        refine J_iload_n C d_L_law_163 3 rfl rfl ?_
        refine J_iconst C d_L_law_164 5 (by decide) ?_
        refine J_iadd C d_L_law_165 ?_
        refine J_sld C d_L_law_166 hSc (by omega) ?_
        refine J_callVv R_D (ex (xE X)) C (fun _ _ => recvD C) d_L_law_167 (c_base (σ := σ) (xl X) (xE X) (xA X) hp1 (by omega)) ⟨⟨ml_L_18, ini_D, mc_D_base⟩, co_D_base, ⟨rfl, rfl⟩, by rw [hR]; decide⟩ im_D_base se_D_base rfl (by decide) (fun s167 h167 => ?_)
        refine J_wb (fun hwb => ?_)
        obtain ⟨g1, gk⟩ := h167
        have e29 : s167 29 = σ 29 := gk 29 (by decide) (by decide)
        have e30 : s167 30 = σ 30 := gk 30 (by decide) (by decide)
        refine J_aload_n C d_L_law_170 2 rfl rfl ?_
        refine J_aload_n C d_L_law_171 0 rfl rfl ?_
        refine J_iload_n C d_L_law_172 3 rfl rfl ?_
        refine J_iconst C d_L_law_173 1 (by decide) ?_
        refine J_iadd C d_L_law_174 ?_
        refine J_sld C d_L_law_175 hSc (by omega) ?_
        refine J_aload_n C d_L_law_176 0 rfl rfl ?_
        refine J_iload_n C d_L_law_177 3 rfl rfl ?_
        refine J_iconst C d_L_law_178 2 (by decide) ?_
        refine J_iadd C d_L_law_179 ?_
        refine J_sld C d_L_law_180 hSc (by omega) ?_
        refine J_aload_n C d_L_law_181 0 rfl rfl ?_
        refine J_iload_n C d_L_law_182 3 rfl rfl ?_
        refine J_iconst C d_L_law_183 3 (by decide) ?_
        refine J_iadd C d_L_law_184 ?_
        refine J_sld C d_L_law_185 hSc (by omega) ?_
        refine J_aload_n C d_L_law_186 0 rfl rfl ?_
        refine J_iload_n C d_L_law_187 3 rfl rfl ?_
        refine J_iconst C d_L_law_188 4 (by decide) ?_
        refine J_iadd C d_L_law_189 ?_
        refine J_sld C d_L_law_190 hSc (by omega) ?_
        refine J_aload_n C d_L_law_191 0 rfl rfl ?_
        refine J_iload_n C d_L_law_192 3 rfl rfl ?_
        refine J_iconst C d_L_law_193 5 (by decide) ?_
        refine J_iadd C d_L_law_194 ?_
        refine J_sld C d_L_law_195 hSc (by omega) ?_
        refine J_callVv R_M (em (xE X)) C (fun _ _ => recvM C) d_L_law_196 (c_mbase (σ := s167) (xl X) (xE X) (xA X) hp1 hp2 hp3 hp4 hp5 (by rw [e29]; exact d29) (by rw [e29]; omega) (by rw [e29]; exact hMlt) (by rw [e30]; exact d30)) ⟨⟨ml_L_21, ini_M, mc_M_base⟩, co_M_base, ⟨rfl, rfl⟩, by rw [hR]; decide⟩ im_M_base se_M_base rfl (by decide) (fun s196 h196 => ?_)
        refine J_wb (fun hwb => ?_)
        refine J_goto C d_L_law_199 (tgt := 342) (by decide) ?_
        obtain ⟨f30, fv30, fk⟩ := h196
        rw [e29, e30] at fv30
        have k0 : s196 0 = σ 0 := by rw [fk 0 (by decide) (by decide), gk 0 (by decide) (by decide)]
        have k1 : V (s196 1) 16 = V (pf (σ 1) (sc x0 (i + 1)) (sc x0 (i + 2)) (sc x0 (i + 3)) (sc x0 (i + 4)) (sc x0 (i + 5))) 16 % V (σ 0) 16 := by rw [fk 1 (by decide) (by decide), g1]
        have k2 : s196 2 = σ 2 := by rw [fk 2 (by decide) (by decide), gk 2 (by decide) (by decide)]
        have k3 : s196 3 = σ 3 := by rw [fk 3 (by decide) (by decide), gk 3 (by decide) (by decide)]
        have k29 : s196 29 = σ 29 := by rw [fk 29 (by decide) (by decide), e29]
        have k31 : s196 31 = σ 31 := by rw [fk 31 (by decide) (by decide), gk 31 (by decide) (by decide)]
        have k32 : s196 32 = σ 32 := by rw [fk 32 (by decide) (by decide), gk 32 (by decide) (by decide)]
        refine next s196 mn iv tw ⟨⟨by rw [k0, k29]; exact r0, by rw [k29]; exact d29, by rw [k29]; exact z29, by rw [k0]; exact m2⟩, ⟨?_, f30, ?_⟩, ⟨by rw [k3, k32]; exact v3, by rw [k32]; exact d32, by rw [k3, k0]; exact l3⟩, by rw [k2, k31]; exact r2, by rw [k31]; exact d31⟩
        · rw [k1, fv30, Rl_V (Rl_put hp2 hp3 hp4 hp5 r1), hM]
        · rw [k1, k0]; exact Nat.mod_lt _ (by omega)
      · refine J_tsw C d_L_law_33 (by decide) rfl (tgt := 202) (by decide) ?_
        refine J_aload_n C d_L_law_202 1 rfl rfl ?_
        refine J_aload_n C d_L_law_203 0 rfl rfl ?_
        refine J_iload_n C d_L_law_204 3 rfl rfl ?_
        refine J_iconst C d_L_law_205 1 (by decide) ?_
        refine J_iadd C d_L_law_206 ?_
        refine J_sld C d_L_law_207 hSc (by omega) ?_
        refine J_aload_n C d_L_law_208 0 rfl rfl ?_
        refine J_iload_n C d_L_law_209 3 rfl rfl ?_
        refine J_iconst C d_L_law_210 2 (by decide) ?_
        refine J_iadd C d_L_law_211 ?_
        refine J_sld C d_L_law_212 hSc (by omega) ?_
        refine J_aload_n C d_L_law_213 0 rfl rfl ?_
        refine J_iload_n C d_L_law_214 3 rfl rfl ?_
        refine J_iconst C d_L_law_215 3 (by decide) ?_
        refine J_iadd C d_L_law_216 ?_
        refine J_sld C d_L_law_217 hSc (by omega) ?_
        refine J_aload_n C d_L_law_218 0 rfl rfl ?_
        refine J_iload_n C d_L_law_219 3 rfl rfl ?_
        refine J_iconst C d_L_law_220 4 (by decide) ?_
        refine J_iadd C d_L_law_221 ?_
        refine J_sld C d_L_law_222 hSc (by omega) ?_
        refine J_aload_n C d_L_law_223 0 rfl rfl ?_
        refine J_iload_n C d_L_law_224 3 rfl rfl ?_
        refine J_iconst C d_L_law_225 5 (by decide) ?_
        refine J_iadd C d_L_law_226 ?_
        refine J_sld C d_L_law_227 hSc (by omega) ?_
        refine J_callVv R_D (ex (xE X)) C (fun _ _ => recvD C) d_L_law_228 (c_power (σ := σ) (xl X) (xE X) (xA X) hp1) ⟨⟨ml_L_22, ini_D, mc_D_power⟩, co_D_power, ⟨rfl, rfl⟩, by rw [hR]; decide⟩ im_D_power se_D_power rfl (by decide) (fun s228 h228 => ?_)
        refine J_wb (fun hwb => ?_)
        obtain rfl := h228
        refine J_aload_n C d_L_law_231 2 rfl rfl ?_
        refine J_aload_n C d_L_law_232 0 rfl rfl ?_
        refine J_iload_n C d_L_law_233 3 rfl rfl ?_
        refine J_iconst C d_L_law_234 1 (by decide) ?_
        refine J_iadd C d_L_law_235 ?_
        refine J_sld C d_L_law_236 hSc (by omega) ?_
        refine J_aload_n C d_L_law_237 0 rfl rfl ?_
        refine J_iload_n C d_L_law_238 3 rfl rfl ?_
        refine J_iconst C d_L_law_239 2 (by decide) ?_
        refine J_iadd C d_L_law_240 ?_
        refine J_sld C d_L_law_241 hSc (by omega) ?_
        refine J_aload_n C d_L_law_242 0 rfl rfl ?_
        refine J_iload_n C d_L_law_243 3 rfl rfl ?_
        refine J_iconst C d_L_law_244 3 (by decide) ?_
        refine J_iadd C d_L_law_245 ?_
        refine J_sld C d_L_law_246 hSc (by omega) ?_
        refine J_aload_n C d_L_law_247 0 rfl rfl ?_
        refine J_iload_n C d_L_law_248 3 rfl rfl ?_
        refine J_iconst C d_L_law_249 4 (by decide) ?_
        refine J_iadd C d_L_law_250 ?_
        refine J_sld C d_L_law_251 hSc (by omega) ?_
        refine J_aload_n C d_L_law_252 0 rfl rfl ?_
        refine J_iload_n C d_L_law_253 3 rfl rfl ?_
        refine J_iconst C d_L_law_254 5 (by decide) ?_
        refine J_iadd C d_L_law_255 ?_
        refine J_sld C d_L_law_256 hSc (by omega) ?_
        refine J_callVv R_M (em (xE X)) C (fun _ _ => recvM C) d_L_law_257 (c_mpower (xl X) (xE X) (xA X) hp1 hp2 hp3 hp4 hp5) ⟨⟨ml_L_25, ini_M, mc_M_power⟩, co_M_power, ⟨rfl, rfl⟩, by rw [hR]; decide⟩ im_M_power se_M_power rfl (by decide) (fun s257 h257 => ?_)
        refine J_wb (fun hwb => ?_)
        refine J_goto C d_L_law_260 (tgt := 342) (by decide) ?_
        obtain rfl := h257
        have hne : ∀ q, q ≠ 2 → q ≠ 31 → (up (up σ 2 (pf (σ 2) (sc x0 (i + 1)) (sc x0 (i + 2)) (sc x0 (i + 3)) (sc x0 (i + 4)) (sc x0 (i + 5)))) 31 (lf ((up σ 2 (pf (σ 2) (sc x0 (i + 1)) (sc x0 (i + 2)) (sc x0 (i + 3)) (sc x0 (i + 4)) (sc x0 (i + 5)))) 31) (sc x0 (i + 1)) (sc x0 (i + 2)) (sc x0 (i + 3)) (sc x0 (i + 4)) (sc x0 (i + 5)))) q = σ q := fun q a1 a2 => by rw [up_n a2, up_n a1]
        have e2 : (up (up σ 2 (pf (σ 2) (sc x0 (i + 1)) (sc x0 (i + 2)) (sc x0 (i + 3)) (sc x0 (i + 4)) (sc x0 (i + 5)))) 31 (lf ((up σ 2 (pf (σ 2) (sc x0 (i + 1)) (sc x0 (i + 2)) (sc x0 (i + 3)) (sc x0 (i + 4)) (sc x0 (i + 5)))) 31) (sc x0 (i + 1)) (sc x0 (i + 2)) (sc x0 (i + 3)) (sc x0 (i + 4)) (sc x0 (i + 5)))) 2 = pf (σ 2) (sc x0 (i + 1)) (sc x0 (i + 2)) (sc x0 (i + 3)) (sc x0 (i + 4)) (sc x0 (i + 5)) := by rw [up_n (by decide), up_s]
        have e31 : (up (up σ 2 (pf (σ 2) (sc x0 (i + 1)) (sc x0 (i + 2)) (sc x0 (i + 3)) (sc x0 (i + 4)) (sc x0 (i + 5)))) 31 (lf ((up σ 2 (pf (σ 2) (sc x0 (i + 1)) (sc x0 (i + 2)) (sc x0 (i + 3)) (sc x0 (i + 4)) (sc x0 (i + 5)))) 31) (sc x0 (i + 1)) (sc x0 (i + 2)) (sc x0 (i + 3)) (sc x0 (i + 4)) (sc x0 (i + 5)))) 31 = lf (σ 31) (sc x0 (i + 1)) (sc x0 (i + 2)) (sc x0 (i + 3)) (sc x0 (i + 4)) (sc x0 (i + 5)) := by rw [up_s, up_n (by decide)]
        refine next _ mn iv tw ?_
        generalize (up (up σ 2 (pf (σ 2) (sc x0 (i + 1)) (sc x0 (i + 2)) (sc x0 (i + 3)) (sc x0 (i + 4)) (sc x0 (i + 5)))) 31 (lf ((up σ 2 (pf (σ 2) (sc x0 (i + 1)) (sc x0 (i + 2)) (sc x0 (i + 3)) (sc x0 (i + 4)) (sc x0 (i + 5)))) 31) (sc x0 (i + 1)) (sc x0 (i + 2)) (sc x0 (i + 3)) (sc x0 (i + 4)) (sc x0 (i + 5)))) = ρ at hne e2 e31
        have k0 := hne 0 (by decide) (by decide)
        have k1 := hne 1 (by decide) (by decide)
        have k3 := hne 3 (by decide) (by decide)
        have k29 := hne 29 (by decide) (by decide)
        have k30 := hne 30 (by decide) (by decide)
        have k32 := hne 32 (by decide) (by decide)
        refine ⟨⟨by rw [k0, k29]; exact r0, by rw [k29]; exact d29, by rw [k29]; exact z29, by rw [k0]; exact m2⟩, ⟨by rw [k1, k30]; exact v1, by rw [k30]; exact d30, by rw [k1, k0]; exact l1⟩, ⟨by rw [k3, k32]; exact v3, by rw [k32]; exact d32, by rw [k3, k0]; exact l3⟩, ?_, ?_⟩
        · rw [e2, e31]; exact Rl_put hp2 hp3 hp4 hp5 r2
        · rw [e31]; exact lf_lt hp2 hp3 hp4 hp5 d31
      · refine J_tsw C d_L_law_33 (by decide) rfl (tgt := 263) (by decide) ?_
        refine J_aload_n C d_L_law_263 1 rfl rfl ?_
        refine J_callVf R_D (ex (xE X)) C (fun _ _ => recvD C) d_L_law_264 (c_raise (σ := σ) (xl X) (xE X) (xA X) m2) ⟨⟨ml_L_26, ini_D, mc_D_raise⟩, co_D_raise, ⟨rfl, rfl⟩, by rw [hR]; decide⟩ im_D_raise se_D_raise rfl (by decide) (fun s264 h264 => ?_)
        refine J_wb (fun hwb => ?_)
        obtain ⟨gk, g3⟩ := h264
        have kk : ∀ q, q < 3 ∨ 28 < q → s264.1 q = σ q := fun q hq => gk q (by unfold rz; omega)
        have e29 := kk 29 (by decide)
        have e30 := kk 30 (by decide)
        have e31 := kk 31 (by decide)
        refine J_aload_n C d_L_law_267 2 rfl rfl ?_
        refine J_callVv R_M (em (xE X)) C (fun _ _ => recvM C) d_L_law_268 (c_mraise (σ := s264.1) (xl X) (xE X) (xA X) (by rw [e30]; exact d30) (by rw [e31]; exact d31) (by rw [e29]; exact d29) (by rw [e29, ← hM]; exact m2) (by rw [e29]; exact hMlt) (by rw [e29, e30, ← hM, ← v1]; exact l1)) ⟨⟨ml_L_29, ini_M, mc_M_raise⟩, co_M_raise, ⟨rfl, rfl⟩, by rw [hR]; decide⟩ im_M_raise se_M_raise rfl (by decide) (fun s268 h268 => ?_)
        refine J_wb (fun hwb => ?_)
        refine J_goto C d_L_law_271 (tgt := 342) (by decide) ?_
        obtain ⟨fk, f32, fv⟩ := h268
        rw [e29, e30, e31] at fv
        have k0 : s268 0 = σ 0 := by rw [fk 0 (by decide) (by decide) (by decide), kk 0 (by decide)]
        have k1 : s268 1 = σ 1 := by rw [fk 1 (by decide) (by decide) (by decide), kk 1 (by decide)]
        have k2 : s268 2 = σ 2 := by rw [fk 2 (by decide) (by decide) (by decide), kk 2 (by decide)]
        have k3 : V (s268 3) 16 = V (σ 1) 16 ^ V (σ 2) 16 % V (σ 0) 16 := by rw [fk 3 (by decide) (by decide) (by decide), g3]
        have k29 : s268 29 = σ 29 := by rw [fk 29 (by decide) (by decide) (by decide), e29]
        have k30 : s268 30 = σ 30 := by rw [fk 30 (by decide) (by decide) (by decide), e30]
        have k31 : s268 31 = σ 31 := by rw [fk 31 (by decide) (by decide) (by decide), e31]
        refine next s268 _ _ _ ⟨⟨by rw [k0, k29]; exact r0, by rw [k29]; exact d29, by rw [k29]; exact z29, by rw [k0]; exact m2⟩, ⟨by rw [k1, k30]; exact v1, by rw [k30]; exact d30, by rw [k1, k0]; exact l1⟩, ⟨?_, f32, ?_⟩, by rw [k2, k31]; exact r2, by rw [k31]; exact d31⟩
        · rw [k3, fv, v1, Rl_V r2, hM]
        · rw [k3, k0]; exact Nat.mod_lt _ (by omega)
      · refine J_tsw C d_L_law_33 (by decide) rfl (tgt := 274) (by decide) ?_
        refine J_aload_n C d_L_law_274 1 rfl rfl ?_
        refine J_callVv R_D (ex (xE X)) C (fun _ _ => recvD C) d_L_law_275 (c_multiply (σ := σ) (xl X) (xE X) (xA X) (by omega)) ⟨⟨ml_L_30, ini_D, mc_D_multiply⟩, co_D_multiply, ⟨rfl, rfl⟩, by rw [hR]; decide⟩ im_D_multiply se_D_multiply rfl (by decide) (fun s275 h275 => ?_)
        refine J_wb (fun hwb => ?_)
        obtain ⟨g3, gk⟩ := h275
        have e29 : s275 29 = σ 29 := gk 29 (by decide) (by decide) (by decide)
        have e30 : s275 30 = σ 30 := gk 30 (by decide) (by decide) (by decide)
        have e32 : s275 32 = σ 32 := gk 32 (by decide) (by decide) (by decide)
        refine J_aload_n C d_L_law_278 2 rfl rfl ?_
        refine J_callVv R_M (em (xE X)) C (fun _ _ => recvM C) d_L_law_279 (c_mmultiply (σ := s275) (xl X) (xE X) (xA X) (by rw [e30]; exact d30) (by rw [e32]; exact d32) (by rw [e29]; exact d29) (by rw [e29]; exact hMlt) (by rw [e29, e30, ← hM, ← v1]; exact l1) (by rw [e29, e32, ← hM, ← v3]; exact l3)) ⟨⟨ml_L_33, ini_M, mc_M_multiply⟩, co_M_multiply, ⟨rfl, rfl⟩, by rw [hR]; decide⟩ im_M_multiply se_M_multiply rfl (by decide) (fun s279 h279 => ?_)
        refine J_wb (fun hwb => ?_)
        refine J_goto C d_L_law_282 (tgt := 342) (by decide) ?_
        obtain ⟨fk, f32, fv⟩ := h279
        rw [e29, e30, e32] at fv
        have k0 : s279 0 = σ 0 := by rw [fk 0 (by decide) (by decide), gk 0 (by decide) (by decide) (by decide)]
        have k1 : s279 1 = σ 1 := by rw [fk 1 (by decide) (by decide), gk 1 (by decide) (by decide) (by decide)]
        have k2 : s279 2 = σ 2 := by rw [fk 2 (by decide) (by decide), gk 2 (by decide) (by decide) (by decide)]
        have k3 : V (s279 3) 16 = V (σ 3) 16 * V (σ 1) 16 % V (σ 0) 16 := by rw [fk 3 (by decide) (by decide), g3]
        have k29 : s279 29 = σ 29 := by rw [fk 29 (by decide) (by decide), e29]
        have k30 : s279 30 = σ 30 := by rw [fk 30 (by decide) (by decide), e30]
        have k31 : s279 31 = σ 31 := by rw [fk 31 (by decide) (by decide), gk 31 (by decide) (by decide) (by decide)]
        refine next s279 _ _ _ ⟨⟨by rw [k0, k29]; exact r0, by rw [k29]; exact d29, by rw [k29]; exact z29, by rw [k0]; exact m2⟩, ⟨by rw [k1, k30]; exact v1, by rw [k30]; exact d30, by rw [k1, k0]; exact l1⟩, ⟨?_, f32, ?_⟩, by rw [k2, k31]; exact r2, by rw [k31]; exact d31⟩
        · rw [k3, fv, v1, v3, hM]
        · rw [k3, k0]; exact Nat.mod_lt _ (by omega)
      · refine J_tsw C d_L_law_33 (by decide) rfl (tgt := 285) (by decide) ?_
        refine J_aload_n C d_L_law_285 1 rfl rfl ?_
        refine J_callVv R_D (ex (xE X)) C (fun _ _ => recvD C) d_L_law_286 (c_keep (σ := σ) (xl X) (xE X) (xA X)) ⟨⟨ml_L_34, ini_D, mc_D_keep⟩, co_D_keep, ⟨rfl, rfl⟩, by rw [hR]; decide⟩ im_D_keep se_D_keep rfl (by decide) (fun s286 h286 => ?_)
        refine J_wb (fun hwb => ?_)
        obtain rfl := h286
        refine J_aload_n C d_L_law_289 2 rfl rfl ?_
        refine J_callVv R_M (em (xE X)) C (fun _ _ => recvM C) d_L_law_290 (c_mkeep (xl X) (xE X) (xA X)) ⟨⟨ml_L_37, ini_M, mc_M_keep⟩, co_M_keep, ⟨rfl, rfl⟩, by rw [hR]; decide⟩ im_M_keep se_M_keep rfl (by decide) (fun s290 h290 => ?_)
        refine J_wb (fun hwb => ?_)
        refine J_goto C d_L_law_293 (tgt := 342) (by decide) ?_
        obtain ⟨fk, f30⟩ := h290
        have kk : ∀ q, q ≠ 1 → q ≠ 30 → s290 q = σ q := fun q a1 a2 => by rw [fk q a2, up_n a1]
        have k0 := kk 0 (by decide) (by decide)
        have k2 := kk 2 (by decide) (by decide)
        have k3 := kk 3 (by decide) (by decide)
        have k29 := kk 29 (by decide) (by decide)
        have k31 := kk 31 (by decide) (by decide)
        have k32 := kk 32 (by decide) (by decide)
        have k1 : V (s290 1) 16 = V (σ 3) 16 := by rw [fk 1 (by decide), up_s, V_cpy (Nat.le_refl 16)]
        have e30 : ∀ j, j < 33 → s290 30 j = σ 32 j := fun j hj => by rw [f30 j hj, up_n (by decide)]
        have k30 : U (s290 30) 33 = U (σ 32) 33 := vl_congr e30
        refine next s290 _ _ _ ⟨⟨by rw [k0, k29]; exact r0, by rw [k29]; exact d29, by rw [k29]; exact z29, by rw [k0]; exact m2⟩, ⟨by rw [k1, k30]; exact v3, fun j hj => by rw [e30 j hj]; exact d32 j hj, by rw [k1, k0]; exact l3⟩, ⟨by rw [k3, k32]; exact v3, by rw [k32]; exact d32, by rw [k3, k0]; exact l3⟩, by rw [k2, k31]; exact r2, by rw [k31]; exact d31⟩
      · refine J_tsw C d_L_law_33 (by decide) rfl (tgt := 296) (by decide) ?_
        have e := Rl_at r3 (sc x0 (i + 1))
        have hlt := hwb 3 (sc x0 (i + 1) % 16)
        refine J_aload_n C d_L_law_296 1 rfl rfl ?_
        refine J_aload_n C d_L_law_297 0 rfl rfl ?_
        refine J_iload_n C d_L_law_298 3 rfl rfl ?_
        refine J_iconst C d_L_law_299 1 (by decide) ?_
        refine J_iadd C d_L_law_300 ?_
        refine J_sld C d_L_law_301 hSc (by omega) ?_
        refine J_callVi R_D (ex (xE X)) C (fun _ _ => recvD C) d_L_law_302 (c_answer (σ := σ) (xl X) (xE X) (xA X) hp1) ⟨⟨ml_L_38, ini_D, mc_D_answer⟩, co_D_answer, ⟨rfl, rfl⟩, by rw [hR]; decide⟩ im_D_answer se_D_answer rfl (by decide) (fun n302 s302 h302 => ?_)
        refine J_wb (fun hwb => ?_)
        obtain ⟨rfl, rfl⟩ := h302
        refine J_aload_n C d_L_law_305 2 rfl rfl ?_
        refine J_aload_n C d_L_law_306 0 rfl rfl ?_
        refine J_iload_n C d_L_law_307 3 rfl rfl ?_
        refine J_iconst C d_L_law_308 1 (by decide) ?_
        refine J_iadd C d_L_law_309 ?_
        refine J_sld C d_L_law_310 hSc (by omega) ?_
        refine J_callVi R_M (em (xE X)) C (fun _ _ => recvM C) d_L_law_311 (c_manswer (σ := σ) (xl X) (xE X) (xA X) hp1 d32) ⟨⟨ml_L_42, ini_M, mc_M_answer⟩, co_M_answer, ⟨rfl, rfl⟩, by rw [hR]; decide⟩ im_M_answer se_M_answer rfl (Nat.le_of_ble_eq_true rfl) (fun n311 s311 h311 => ?_)
        refine J_wb (fun hwb => ?_)
        obtain ⟨rfl, rfl⟩ := h311
        refine J_icmp_eq C d_L_law_314 (tgt := 342) (by decide) (by omega) (by omega) (fun c_314 => ?_) (fun c_314 => ?_)
        · exact next σ mn iv tw hI0
        · exact absurd e c_314
      · refine J_tsw C d_L_law_33 (by decide) rfl (tgt := 319) (by decide) ?_
        have e := Rl_at r1 (sc x0 (i + 1))
        have hlt := hwb 1 (sc x0 (i + 1) % 16)
        refine J_aload_n C d_L_law_319 1 rfl rfl ?_
        refine J_aload_n C d_L_law_320 0 rfl rfl ?_
        refine J_iload_n C d_L_law_321 3 rfl rfl ?_
        refine J_iconst C d_L_law_322 1 (by decide) ?_
        refine J_iadd C d_L_law_323 ?_
        refine J_sld C d_L_law_324 hSc (by omega) ?_
        refine J_callVi R_D (ex (xE X)) C (fun _ _ => recvD C) d_L_law_325 (c_factor (σ := σ) (xl X) (xE X) (xA X) hp1) ⟨⟨ml_L_43, ini_D, mc_D_factor⟩, co_D_factor, ⟨rfl, rfl⟩, by rw [hR]; decide⟩ im_D_factor se_D_factor rfl (by decide) (fun n325 s325 h325 => ?_)
        refine J_wb (fun hwb => ?_)
        obtain ⟨rfl, rfl⟩ := h325
        refine J_aload_n C d_L_law_328 2 rfl rfl ?_
        refine J_aload_n C d_L_law_329 0 rfl rfl ?_
        refine J_iload_n C d_L_law_330 3 rfl rfl ?_
        refine J_iconst C d_L_law_331 1 (by decide) ?_
        refine J_iadd C d_L_law_332 ?_
        refine J_sld C d_L_law_333 hSc (by omega) ?_
        refine J_callVi R_M (em (xE X)) C (fun _ _ => recvM C) d_L_law_334 (c_mfactor (σ := σ) (xl X) (xE X) (xA X) hp1 d30) ⟨⟨ml_L_46, ini_M, mc_M_factor⟩, co_M_factor, ⟨rfl, rfl⟩, by rw [hR]; decide⟩ im_M_factor se_M_factor rfl (Nat.le_of_ble_eq_true rfl) (fun n334 s334 h334 => ?_)
        refine J_wb (fun hwb => ?_)
        obtain ⟨rfl, rfl⟩ := h334
        refine J_icmp_eq C d_L_law_337 (tgt := 342) (by decide) (by omega) (by omega) (fun c_337 => ?_) (fun c_337 => ?_)
        · exact next σ mn iv tw hI0
        · exact absurd e c_337
end LAW
end
section
/-! THE CLAIM OUT OF ONE WALK OF THE LAW'S BODY. Your part is whole_start (and what it stands on); all else here is the same for every law, but numbers. -/
def R_law : String := "PowerDeskLaw"
def lw_P (b : Addr) (xs : List Int32) (args : Array Value) (s : State) : Prop := args = #[.ref b] ∧ s.IntsAt b xs ∧ xs.length ≤ 3072 ∧ (Jvm.Cond.and given_1 narrow_1).before args s = true
def lw_Q (_ : Array Value) (s : State) (o : Outcome) (t : State) : Prop := o = .returned (some (.int 1)) ∧ Framed s o t [] 600000 7302250
def lw_Z (below : List Frame) (a : Array Value) (s : State) : State → Prop := fun t => ∃ o, t.status = .running ∧ Ended t below o ∧ lw_Q a s o t
/-- the law's own end, with 1 on the stack, nothing written that was there before, its room as the claim has it -/
theorem lw_ret {p : Program} {l : Launch} {e : Env} {s : State} {m : MethodId} {below : List Frame} {meth : Method} {c : Code} {b : Nat} (hx : p.tables.exec = Jvm.exec) (hb : c.code = code) (hr : meth.sig.returnType = ret) (hlocks : meth.locks = false) {pc : Nat} {H : Heap} {ls : Array Slot} (hdg : decode code pc = .ok (.ireturn, 1)) : W p l e room_1 s m #[Value.ref b] below meth c H [] 600000 7302250 (lw_Z below #[Value.ref b] s) (F0 m pc ls [.int 1]) := by
  intro T hT X
  obtain ⟨fs, hret, hrun, hended, hW, hframe⟩ := X.leave (v := some (.int 1)) (hlocks := hlocks) (fun h => by rw [hr] at h; cases h)
  have hmeth' : T.vm.method? m = some meth := X.method'
  refine ⟨T.setFrames fs, ?_, .returned (some (.int 1)), hrun, hended, rfl, ⟨_, rfl⟩, hW, hframe⟩
  jvm_step X.here [X.here.top, hx, hb, hdg, hmeth', hr, ret, narrow_b1]
  (try refine ⟨rfl, ?_⟩); (try refine ⟨rfl, ?_⟩)
  first | (intro acts; rw [hret _ acts rfl rfl rfl]) | rw [hret _ _ rfl rfl rfl]
  exact Steps.refl _
/-- what holds at the law's entry: the machine, the code, the tables' words (any of lw_tbl by 'hts w (by decide +kernel)'), the script of L ints xs at the cell b, what the Statement gives of the start (any of its parts by flat_of_before) -/
def lw_At (p : Program) (s : State) (m : MethodId) (meth : Method) (c : Code) (b L : Nat) (xs : Nat → Int32) : Prop :=
  p.tables.exec = Jvm.exec ∧ c.code = code ∧ meth.sig.returnType = ret ∧ c.maxLocals = 4 ∧ s.vm.findClass R_law = some m.cls ∧ (∀ w ∈ lw_tbl, w.before #[Value.ref b] s = true) ∧ va_X b L xs s s.heap ∧ b < s.heap.size ∧ meth.locks = false ∧ (Jvm.Cond.and given_1 narrow_1).before #[Value.ref b] s = true
end
section
/-! THE LAW from its entry: both objects are made, the world is laid, the loop runs -/
def sg0 : Nat → Nat → Nat := up (up (fun _ _ => 0) 0 (uf (fun _ => 0) 0 2)) 29 (uf (fun _ => 0) 0 2)
theorem sg0_n {q : Nat} (h1 : q ≠ 0) (h2 : q ≠ 29) : sg0 q = fun _ => 0 := by unfold sg0; rw [up_n h2, up_n h1]
theorem sg0_0 : sg0 0 = uf (fun _ => 0) 0 2 := by unfold sg0; rw [up_n (by decide), up_s]
theorem sg0_29 : sg0 29 = uf (fun _ => 0) 0 2 := by unfold sg0; rw [up_s]
theorem zz_lt : ∀ j : Nat, (fun _ : Nat => 0) j < 4294967296 := fun _ => (by decide : 0 < 4294967296)
theorem sg0_Wb : Wb sg0 := Wb_up (Wb_up (fun _ _ => (by decide : 0 < 4294967296)) (uf_b zz_lt (by decide))) (uf_b zz_lt (by decide))
theorem zz_Dg (n : Nat) : Dg (fun _ => 0) n := fun _ _ => (by decide : 0 < 65536)
theorem sg0_Inv : Inv sg0 := by
  have e0 : V (sg0 0) 16 = 2 := by rw [sg0_0]; exact V_one (n := 15) (fun _ _ => rfl)
  have z : ∀ n b, vl b (fun _ => 0) n = 0 := fun n b => vl_zero (fun _ _ => rfl)
  refine ⟨⟨?_, ?_, ?_, by rw [e0]; decide⟩, ⟨?_, ?_, ?_⟩, ⟨?_, ?_, ?_⟩, ?_, ?_⟩
  · rw [sg0_0, sg0_29]
    intro k hk
    unfold uf
    rcases Nat.eq_zero_or_pos k with q | q
    · subst q; rfl
    · rw [if_neg (by omega), if_neg (by omega), if_neg (by omega)]
      show 0 = 0 + 0 * 65536
      decide
  · rw [sg0_29]
    intro j _
    unfold uf
    split
    · decide
    · exact (by decide : 0 < 65536)
  · rw [sg0_29, uf_n (by decide)]
  · rw [sg0_n (by decide) (by decide), sg0_n (by decide) (by decide), V, U, z, z]
  · rw [sg0_n (by decide) (by decide)]; exact zz_Dg _
  · rw [e0, sg0_n (by decide) (by decide), V, z]; decide
  · rw [sg0_n (by decide) (by decide), sg0_n (by decide) (by decide), V, U, z, z]
  · rw [sg0_n (by decide) (by decide)]; exact zz_Dg _
  · rw [e0, sg0_n (by decide) (by decide), V, z]; decide
  · rw [sg0_n (by decide) (by decide), sg0_n (by decide) (by decide)]; exact fun _ _ => (by decide : 0 = 0 + 0 * 65536)
  · rw [sg0_n (by decide) (by decide)]; exact zz_Dg _
/-- the arrays' addresses by their numbers -/
def adF (ad am : Nat → Nat) (k : Nat) : Nat := if k < 12 then ad k else if k = 12 then ad 29 else if k < 29 then ad k else am (k - 29)
/-- where a cell of the world lies in the worlds of both constructors -/
def pos (i : Nat) : Nat := if i = 0 then 0 else if i = 1 then 31 else if i = 2 then 13 else if i = 15 then 30 else if i < 32 then i - 2 else i
theorem pos_inj {i j : Nat} (hi : i < 38) (hj : j < 38) (h : pos i = pos j) : i = j := by
  unfold pos at h
  repeat' split at h
  all_goals omega
theorem wl_len (E : En) (σ : Nat → Nat → Nat) (mn iv tw : Nat) : (wl E σ mn iv tw).length = 38 := rfl
set_option maxHeartbeats 2000000 in
set_option maxRecDepth 10000 in
theorem world_addr {dD : va_G} {x y : Nat} {ad am : Nat → Nat} {cI cG : ClassId} : ∀ i, i < 38 → ∃ q q' : Nat × va_E, (wl (dD, (x, y, ad 12), adF ad am, (cI, cG)) sg0 0 0 0)[i]? = some q ∧ (wD (dD, (0, 0, 0), (fun _ => 0), (cI, cG)) x ad ++ wM (dD, (0, 0, 0), (fun _ => 0), (cI, cG)) y am)[pos i]? = some q' ∧ q.1 = q'.1 := by
  intro i hi
  rcases (show i = 0 ∨ i = 1 ∨ i = 2 ∨ i = 3 ∨ i = 4 ∨ i = 5 ∨ i = 6 ∨ i = 7 ∨ i = 8 ∨ i = 9 ∨ i = 10 ∨ i = 11 ∨ i = 12 ∨ i = 13 ∨ i = 14 ∨ i = 15 ∨ i = 16 ∨ i = 17 ∨ i = 18 ∨ i = 19 ∨ i = 20 ∨ i = 21 ∨ i = 22 ∨ i = 23 ∨ i = 24 ∨ i = 25 ∨ i = 26 ∨ i = 27 ∨ i = 28 ∨ i = 29 ∨ i = 30 ∨ i = 31 ∨ i = 32 ∨ i = 33 ∨ i = 34 ∨ i = 35 ∨ i = 36 ∨ i = 37 by omega) with rfl | rfl | rfl | rfl | rfl | rfl | rfl | rfl | rfl | rfl | rfl | rfl | rfl | rfl | rfl | rfl | rfl | rfl | rfl | rfl | rfl | rfl | rfl | rfl | rfl | rfl | rfl | rfl | rfl | rfl | rfl | rfl | rfl | rfl | rfl | rfl | rfl | rfl
  all_goals exact ⟨_, _, rfl, rfl, rfl⟩
set_option maxHeartbeats 2000000 in
set_option maxRecDepth 10000 in
theorem world_at {dD : va_G} {x y : Nat} {ad am : Nat → Nat} {cI cG : ClassId} {H : Heap} (hG : ∀ j, j < 16 → ad (13 + j) = ad 12 + 1 + j) (hP : va_P dD classes (wD (dD, (0, 0, 0), (fun _ => 0), (cI, cG)) x ad ++ wM (dD, (0, 0, 0), (fun _ => 0), (cI, cG)) y am) H) : va_P dD classes (wl (dD, (x, y, ad 12), adF ad am, (cI, cG)) sg0 0 0 0) H := by
  intro i q hq
  have hi : i < 38 := by
    have := (List.getElem?_eq_some_iff.mp hq).1
    rw [wl_len] at this
    exact this
  rcases (show i = 0 ∨ i = 1 ∨ i = 2 ∨ i = 3 ∨ i = 4 ∨ i = 5 ∨ i = 6 ∨ i = 7 ∨ i = 8 ∨ i = 9 ∨ i = 10 ∨ i = 11 ∨ i = 12 ∨ i = 13 ∨ i = 14 ∨ i = 15 ∨ i = 16 ∨ i = 17 ∨ i = 18 ∨ i = 19 ∨ i = 20 ∨ i = 21 ∨ i = 22 ∨ i = 23 ∨ i = 24 ∨ i = 25 ∨ i = 26 ∨ i = 27 ∨ i = 28 ∨ i = 29 ∨ i = 30 ∨ i = 31 ∨ i = 32 ∨ i = 33 ∨ i = 34 ∨ i = 35 ∨ i = 36 ∨ i = 37 by omega) with rfl | rfl | rfl | rfl | rfl | rfl | rfl | rfl | rfl | rfl | rfl | rfl | rfl | rfl | rfl | rfl | rfl | rfl | rfl | rfl | rfl | rfl | rfl | rfl | rfl | rfl | rfl | rfl | rfl | rfl | rfl | rfl | rfl | rfl | rfl | rfl | rfl | rfl
  · cases hq; exact hP 0 _ rfl
  · cases hq; exact hP 31 _ rfl
  · cases hq
    have h := hP 13 _ rfl
    have h1 : H[ad 12]? = some (arrV cG 16 (fun j => va_rf (some (ad 12 + 1 + j)))) := h
    show H[ad 12]? = some (arrV cG 16 (fun j => va_rf (some (adF ad am (13 + j)))))
    rw [h1]
    unfold arrV
    congr 3
    funext j
    have hj := j.isLt
    have e : adF ad am (13 + j.val) = ad 12 + 1 + j.val := by unfold adF; rw [if_neg (by omega), if_neg (by omega), if_pos (by omega), hG _ hj]
    show va_rf (some (ad 12 + 1 + j.val)) = va_rf (some (adF ad am (13 + j.val)))
    rw [e]
  · cases hq
    have h := hP 1 _ rfl
    have e : (fun j => nI (sg0 0 j)) = upd (fun _ => nI 0) 0 (nI 2) := by
      funext j
      rw [sg0_0]
      unfold uf upd
      split <;> rfl
    unfold wa
    rw [e]
    exact h
  · cases hq; exact hP 2 _ rfl
  · cases hq; exact hP 3 _ rfl
  · cases hq; exact hP 4 _ rfl
  · cases hq; exact hP 5 _ rfl
  · cases hq; exact hP 6 _ rfl
  · cases hq; exact hP 7 _ rfl
  · cases hq; exact hP 8 _ rfl
  · cases hq; exact hP 9 _ rfl
  · cases hq; exact hP 10 _ rfl
  · cases hq; exact hP 11 _ rfl
  · cases hq; exact hP 12 _ rfl
  · cases hq; exact hP 30 _ rfl
  · cases hq; exact hP 14 _ rfl
  · cases hq; exact hP 15 _ rfl
  · cases hq; exact hP 16 _ rfl
  · cases hq; exact hP 17 _ rfl
  · cases hq; exact hP 18 _ rfl
  · cases hq; exact hP 19 _ rfl
  · cases hq; exact hP 20 _ rfl
  · cases hq; exact hP 21 _ rfl
  · cases hq; exact hP 22 _ rfl
  · cases hq; exact hP 23 _ rfl
  · cases hq; exact hP 24 _ rfl
  · cases hq; exact hP 25 _ rfl
  · cases hq; exact hP 26 _ rfl
  · cases hq; exact hP 27 _ rfl
  · cases hq; exact hP 28 _ rfl
  · cases hq; exact hP 29 _ rfl
  · cases hq
    have h := hP 32 _ rfl
    have e : (fun j => nI (sg0 29 j)) = upd (fun _ => nI 0) 0 (nI 2) := by
      funext j
      rw [sg0_29]
      unfold uf upd
      split <;> rfl
    unfold wa
    rw [e]
    exact h
  · cases hq; exact hP 33 _ rfl
  · cases hq; exact hP 34 _ rfl
  · cases hq; exact hP 35 _ rfl
  · cases hq; exact hP 36 _ rfl
  · cases hq; exact hP 37 _ rfl
theorem world_D {dD : va_G} {A : Nat → Prop} {x y : Nat} {ad am : Nat → Nat} {cI cG : ClassId} (hD : va_D A (wD (dD, (0, 0, 0), (fun _ => 0), (cI, cG)) x ad ++ wM (dD, (0, 0, 0), (fun _ => 0), (cI, cG)) y am)) : va_D A (wl (dD, (x, y, ad 12), adF ad am, (cI, cG)) sg0 0 0 0) := by
  have hlt : ∀ (i : Nat) (q : Nat × va_E), (wl (dD, (x, y, ad 12), adF ad am, (cI, cG)) sg0 0 0 0)[i]? = some q → i < 38 := fun i q hq => by
    have := (List.getElem?_eq_some_iff.mp hq).1
    rw [wl_len] at this
    exact this
  refine ⟨fun i j a b ha hb hab => ?_, fun i q hq => ?_⟩
  · obtain ⟨q1, q1', e1, e2, e3⟩ := world_addr (dD := dD) (x := x) (y := y) (ad := ad) (am := am) (cI := cI) (cG := cG) i (hlt i a ha)
    obtain ⟨q2, q2', f1, f2, f3⟩ := world_addr (dD := dD) (x := x) (y := y) (ad := ad) (am := am) (cI := cI) (cG := cG) j (hlt j b hb)
    have h1 : q1 = a := Option.some.inj (e1.symm.trans ha)
    have h2 : q2 = b := Option.some.inj (f1.symm.trans hb)
    subst h1 h2
    exact pos_inj (hlt i _ ha) (hlt j _ hb) (hD.1 _ _ q1' q2' e2 f2 (by rw [← e3, ← f3]; exact hab))
  · obtain ⟨q1, q1', e1, e2, e3⟩ := world_addr (dD := dD) (x := x) (y := y) (ad := ad) (am := am) (cI := cI) (cG := cG) i (hlt i q hq)
    have h1 : q1 = q := Option.some.inj (e1.symm.trans hq)
    subst h1
    rw [e3]
    exact hD.2 _ q1' e2
set_option maxHeartbeats 4000000 in
set_option maxRecDepth 100000 in
/-- THE LAW, from its entry -/
theorem whole_start {p : Program} {e : Env} {s : State} {m : MethodId} {below : List Frame} {meth : Method} {c : Code} (l : Launch) {b L : Nat} {xs : Nat → Int32} (hL : L ≤ 3072) (C0 : lw_At p s m meth c b L xs) : W p l e room_1 s m #[Value.ref b] below meth c s.heap [] 0 0 (lw_Z below #[Value.ref b] s) (entryFrame m ([Value.ref b] : List Value).toArray 4) := by
  obtain ⟨hx, hb, hr, hml, hown, hts, hX, hbl, hlocks, hgv⟩ := id C0
  have htg : ∀ w ∈ gtb, w.before #[Value.ref b] s = true := fun w hw => hts w (gt_in hw)
  have hA : ∀ q : Nat, s.heap.size ≤ q → (fun q : Nat => s.heap.size ≤ q) q := fun _ h => h
  obtain ⟨c0, iS0, hKn0⟩ := u_known (C := R_D) (T := F_D) (N := 17) (n := 17) htg i_D (htg _ in_D)
  obtain ⟨c1, iS1, hKn1⟩ := u_known (C := R_M) (T := F_M) (N := 6) (n := 6) htg i_M (htg _ in_M)
  obtain ⟨dC, dI, hKc⟩ : ∃ (dC : Nat → ClassId) (dI : Nat → Nat → Nat), ∀ (k : Nat) (q : vw_C), classes[k]? = some q → u_Kn s q.1 q.2.1 q.2.2 (dC k) (dI k) := by
    refine ⟨fun k => if k = 0 then c0 else c1, fun k => if k = 0 then iS0 else iS1, ?_⟩
    intro k q hq
    match k, hq with
    | 0, hq => cases hq; exact hKn0
    | 1, hq => cases hq; exact hKn1
    | k + 2, hq => simp [classes] at hq
  obtain ⟨cI, cG, kG, hcI, -, hkG, hkindG, hnG⟩ := arrayOverA_spec (hts _ ao_int)
  obtain ⟨cI', kI, ccI, hcI', hkI, hkindI⟩ := Cond.arrayClass_spec (htg _ ac_int)
  have ec : cI' = cI := Option.some.inj (hcI'.symm.trans hcI)
  subst ec
  have hK : va_K (dC, dI) classes [(cI', .int), (cG, .array .int)] s := by
    refine ⟨hKc, fun k q hq => ?_⟩
    match k, hq with
    | 0, hq => cases hq; exact ⟨fun n z => ⟨fun k h => (by cases h), kI, hkI, ccI, hkindI⟩, hcI'⟩
    | 1, hq => cases hq; exact ⟨fun n z => ⟨fun k h => (by cases h), kG, hkG, cI', hkindG⟩, hnG⟩
    | k + 2, hq => simp at hq
  obtain ⟨E0, hE0⟩ : ∃ E0 : En, E0 = ((dC, dI), (0, 0, 0), (fun _ => 0), (cI', cG)) := ⟨_, rfl⟩
  have hK0 : va_K E0.1 classes (tyl E0) s := by rw [hE0]; exact hK
  have hG0 : GK E0 s := by rw [hE0]; exact ⟨kG, hkG, hkindG⟩
  have hS : va_S (fun q : Nat => s.heap.size ≤ q) s.heap s.heap [] := va_S.rf
  have hP : va_P E0.1 classes [] s.heap := fun k q h => by simp at h
  have hD : va_D (fun q : Nat => s.heap.size ≤ q) [] := ⟨fun i j p q h => by simp at h, fun k q h => by simp at h⟩
  have hl := lv_entry ([.ref b]) (n := 4) (Nat.le_of_ble_eq_true rfl)
  rw [lg_entry_eq]
  generalize (lg_sl ([.ref b]) ++ List.replicate (4 - (lg_sl ([.ref b])).length) Slot.unset).toArray = ls at hl ⊢
  have hl : lv_has ls 4 [(0, .ref b)] := hl
  refine va_new (ci := 0) (fs := [.null, .null, .null, .null, .null, .int 0, .int 0, .int 0, .null, .null, .null, .null, .null, .null, .null, .null, .null]) (C := R_D) (T := F_D) (N := 17) hx hb htg i_D t_D t_D_ok hown (htg _ cl_L_7) (htg _ in_D) (htg _ ini_D) hK0 hP hD hS hA rfl (fun j hj => by rcases (show j = 0 ∨ j = 1 ∨ j = 2 ∨ j = 3 ∨ j = 4 ∨ j = 5 ∨ j = 6 ∨ j = 7 ∨ j = 8 ∨ j = 9 ∨ j = 10 ∨ j = 11 ∨ j = 12 ∨ j = 13 ∨ j = 14 ∨ j = 15 ∨ j = 16 by omega) with rfl | rfl | rfl | rfl | rfl | rfl | rfl | rfl | rfl | rfl | rfl | rfl | rfl | rfl | rfl | rfl | rfl <;> rfl) (Nat.le_of_ble_eq_true rfl) (Nat.le_of_ble_eq_true rfl) d_L_law_0 (fun x H hP hD hS => ?_)
  have hP : va_P E0.1 classes [(x, .inr (0, [.null, .null, .null, .null, .null, .int 0, .int 0, .int 0, .null, .null, .null, .null, .null, .null, .null, .null, .null]))] H := hP
  have hD : va_D (fun q : Nat => s.heap.size ≤ q) [(x, .inr (0, [.null, .null, .null, .null, .null, .int 0, .int 0, .int 0, .null, .null, .null, .null, .null, .null, .null, .null, .null]))] := hD
  refine lv_dup hx hb d_L_law_3 rfl ?_
  have hFc := va_free (wc := [(x, .inr (0, [.null, .null, .null, .null, .null, .int 0, .int 0, .int 0, .null, .null, .null, .null, .null, .null, .null, .null, .null]))]) hD hS hA [0] rfl
  refine va_callv (va_runI (As := []) (rest := [.ref x]) ⟨hx, hb, hml, hown, htg⟩ (c_D_init l E0 (va_A [(x, .inr (0, [.null, .null, .null, .null, .null, .int 0, .int 0, .int 0, .null, .null, .null, .null, .null, .null, .null, .null, .null]))] H.size) x H.size (Or.inl ⟨0, _, rfl⟩) (fun q h => Or.inr h)) ⟨callB_of 0 htg (gi_all mc_D_init) rfl rfl rfl (htg _ ini_D) (htg _ ml_L_9) (by decide +kernel) ⟨Nat.le_of_ble_eq_true rfl, Nat.le_of_ble_eq_true rfl⟩, rfl, htg _ im_D_init⟩ ⟨fun a U g mk q => by obtain ⟨q0, q1, qP, qK, qG⟩ := q; exact ⟨q0, q1, qP, va_K.moved (u := U) (U := U.calling g mk a) (Vm.Alike.refl U.vm) qK, GK_moved (u := U) (v := U.calling g mk a) (Vm.Alike.refl U.vm) qG⟩, fun U hU hW => ⟨rfl, by rw [hU], by rw [hU]; exact hP, va_K.moved hW.alike hK0, GK_moved hW.alike hG0⟩⟩ rfl rfl hl.1 rfl (lv_room (Nat.le_of_ble_eq_true rfl)) d_L_law_4 ⟨Nat.le_of_ble_eq_true rfl, Nat.le_of_ble_eq_true rfl⟩) hS (fun q _ h => hFc q h) hFc (fun ad t H1 locs1 ht hvm hw hB hz1 hk1 hS => ?_)
  obtain ⟨hP1, hD1⟩ := hB
  rw [ht] at hP1
  have hD1 : va_D (fun q : Nat => s.heap.size ≤ q) (wD E0 x ad) := hD1.weaken (fun k q _ h => hFc q.1 h)
  refine lv_astore_n (lv' := [(1, .ref x), (0, .ref b)]) hx hb d_L_law_7 rfl hl (by decide) rfl (fun ls hl => ?_)
  refine va_new (ci := 1) (fs := [.null, .null, .null, .null, .null, .null]) (C := R_M) (T := F_M) (N := 6) hx hb htg i_M t_M t_M_ok hown (htg _ cl_L_10) (htg _ in_M) (htg _ ini_M) hK0 hP1 hD1 hS hA rfl (fun j hj => by rcases (show j = 0 ∨ j = 1 ∨ j = 2 ∨ j = 3 ∨ j = 4 ∨ j = 5 by omega) with rfl | rfl | rfl | rfl | rfl | rfl <;> rfl) (Nat.le_of_ble_eq_true rfl) (Nat.le_of_ble_eq_true rfl) d_L_law_8 (fun y H hP hD hS => ?_)
  refine lv_dup hx hb d_L_law_11 rfl ?_
  have hPc : va_P E0.1 classes [(y, .inr (1, [.null, .null, .null, .null, .null, .null]))] H := hP.sub [31] rfl
  have hFc := va_free (wc := [(y, .inr (1, [.null, .null, .null, .null, .null, .null]))]) hD hS hA [31] rfl
  refine va_callv (va_runI (As := []) (rest := [.ref y]) ⟨hx, hb, hml, hown, htg⟩ (c_M_init l E0 (va_A [(y, .inr (1, [.null, .null, .null, .null, .null, .null]))] H.size) y H.size (Or.inl ⟨0, _, rfl⟩) (fun q h => Or.inr h)) ⟨callB_of 0 htg (gi_all mc_M_init) rfl rfl rfl (htg _ ini_M) (htg _ ml_L_12) (by decide +kernel) ⟨Nat.le_of_ble_eq_true rfl, Nat.le_of_ble_eq_true rfl⟩, rfl, htg _ im_M_init⟩ ⟨fun a U g mk q => by obtain ⟨q0, q1, qP, qK, qG⟩ := q; exact ⟨q0, q1, qP, va_K.moved (u := U) (U := U.calling g mk a) (Vm.Alike.refl U.vm) qK, GK_moved (u := U) (v := U.calling g mk a) (Vm.Alike.refl U.vm) qG⟩, fun U hU hW => ⟨rfl, by rw [hU], by rw [hU]; exact hPc, va_K.moved hW.alike hK0, GK_moved hW.alike hG0⟩⟩ rfl rfl hl.1 rfl (lv_room (Nat.le_of_ble_eq_true rfl)) d_L_law_12 ⟨Nat.le_of_ble_eq_true rfl, Nat.le_of_ble_eq_true rfl⟩) hS (fun q _ h => hFc q h) hFc (fun am t H1 locs1 ht hvm hw2 hB hz1 hk1 hS => ?_)
  obtain ⟨hP2, hD2⟩ := hB
  rw [ht] at hP2
  obtain ⟨hP, hD⟩ := va_join (wr := wD E0 x ad) hP hD [31] (List.range 31) rfl rfl (by decide) (by decide) hk1 hFc hP2 hD2
  refine lv_astore_n (lv' := [(2, .ref y), (1, .ref x), (0, .ref b)]) hx hb d_L_law_15 rfl hl (by decide) rfl (fun ls hl => ?_)
  refine lv_iconst hx hb d_L_law_16 (v := nI 0) (by decide) ?_
  refine lv_istore_n (lv' := [(3, .int (nI 0)), (2, .ref y), (1, .ref x), (0, .ref b)]) hx hb d_L_law_17 rfl hl (by decide) rfl (fun ls hl => ?_)
  refine W.widen (k := 600000) (n := 7302250) (Nat.le_of_ble_eq_true rfl) (Nat.le_of_ble_eq_true rfl) ?_
  subst hE0
  have hW1 := world_at hw hP
  have hW2 := world_D hD
  obtain ⟨X, hXd⟩ : ∃ X : Ctx, X = (p, l, e, room_1, s, m, #[Value.ref b], below, meth, c, (4, 600000, 7302250), ((dC, dI), (x, y, ad 12), adF ad am, (cI', cG)), (fun q : Nat => s.heap.size ≤ q), lw_Z below #[Value.ref b] s) := ⟨_, rfl⟩
  have C : Cx X code 4 "PowerDeskLaw" := by
    subst hXd
    exact ⟨hx, hb, hml, hown, htg, ⟨rfl, Nat.le_refl _, Nat.le_refl _⟩, hK⟩
  have hSc : ScX X b L xs := by
    subst hXd
    exact ⟨hX, hbl, Nat.not_le.mpr hbl, hL⟩
  have fin : ∀ lv σ mn iv tw, J X 349 lv [.int (nI 1)] σ mn iv tw := by
    subst hXd
    intro lv σ mn iv tw H locs ls hW hl
    refine va_forget (fun q hq => hW.2.2.1.2.2 q hq) ?_
    exact lw_ret hx hb hr hlocks d_L_law_349
  have run := law_loop C (by subst hXd; rfl) hSc fin L 0 sg0 0 0 0 (Nat.zero_le L) (by omega) sg0_Inv
  subst hXd
  exact run H1 locs1 ls ⟨hW1, hW2, hS, sg0_Wb⟩ (lv_sub hl [3, 2, 1, 0] rfl)
end
section
set_option maxHeartbeats 4000000 in
theorem lw_walk (l : Launch) (b : Addr) (xs : List Int32) : MetFree l x (headSpec (Jvm.Cond.code x code maxLocals ret :: tables_1) room_1) (lw_P b xs) (fun _ _ _ _ _ => True) lw_Q := by
  refine MetFree.of_bodyS (code := code) (maxLocals := maxLocals) (ret := ret) (by decide) ?_ ?_
  · intro args s m h hn
    obtain ⟨meth, c, h1, h2, h3, h4, h5, h6, -, -⟩ := Cond.code_spec hn (atoms_spec (ws := Jvm.Cond.code x code maxLocals ret :: tables_1) h _ List.mem_cons_self)
    exact ⟨meth, c, h1, h2, h3, h4, h5, h6⟩
  · intro p e s m args below meth c s₁ B hml0 hP _
    obtain ⟨rfl, hx, hbd, hgv⟩ := hP
    obtain ⟨scr, harrAt, hlist, hof, hsmall⟩ := hx
    obtain ⟨hcb, hkn, -, -⟩ := State.arrayAt?_spec harrAt
    have hown : s.vm.findClass R_law = some m.cls := findClass_of_methodNamed B.named
    have hts0 : ∀ c ∈ (Jvm.Cond.code x code maxLocals ret :: tables_1), c.before #[Value.ref b] s = true := atoms_spec (ws := Jvm.Cond.code x code maxLocals ret :: tables_1) B.pre
    have hts : ∀ w ∈ lw_tbl, w.before #[Value.ref b] s = true := k2_hts_sels lw_privs (fun w hw => hts0 w (List.mem_cons_of_mem _ hw)) lw_privs_ok
    have hml : c.maxLocals = 4 := B.maxLocals_eq (hts0 _ List.mem_cons_self)
    have X₀ : Stand p l e room_1 s m #[Value.ref b] below meth c s₁ [] 0 0 := Stand.of_body B
    have hh0 : s₁.heap = s.heap := by rw [B.state]; rfl
    have hsz : scr.slots.size = xs.length := by rw [← Array.length_toList, hlist, List.length_map]
    have hval : ∀ j : Nat, j < xs.length → scr.slots[j]? = some (.int (xs.getD j 0)) := fun j hj => by
      rw [← Array.getElem?_toList, hlist]
      simp [hj]
    have hbl : b < s.heap.size := (Array.getElem?_eq_some_iff.mp hcb).1
    have hX : va_X b xs.length (fun j => xs.getD j 0) s s.heap := ⟨scr, hcb, hof, hkn, hsz, hval⟩
    have K : W p l e room_1 s m #[Value.ref b] below meth c s₁.heap [] 0 0 (lw_Z below #[Value.ref b] s) (entryFrame m ([Value.ref b] : List Value).toArray 4) := by
      rw [hh0]
      exact whole_start l hbd ⟨B.exec, B.bytes, B.returns, hml, hown, hts, hX, hbl, B.notSynchronized, hgv⟩
    obtain ⟨t, a1, o, b1, b2, b3⟩ := K s₁ rfl X₀
    exact ⟨t, o, a1, b1, b2, b3⟩
theorem lw_pre_spec {args : Array Value} {s : State} (h : (Jvm.Cond.and given_1 narrow_1).before args s = true) (hr : rest_1_c.before args s = true) : ∃ (b : Addr) (xs : List Int32), lw_P b xs args s := by
  have hs := flat_of_before _ h
  have hq := flat_of_before _ hr
  have hc : (Cond.count 1).before args s = true := hs _ (by decide +kernel)
  have harr : (Cond.arrayOf (.arg 0) .int).before args s = true := hs _ (by decide +kernel)
  have hle : (Cond.le (.length (.arg 0)) (.int 3072)).before args s = true := hs _ (by decide +kernel)
  have hlen : (Cond.isInt (.length (.arg 0))).before args s = true := hq _ (by decide +kernel)
  have hall : (Cond.all (.arg 0) (.isInt (.elem (.arg 0) (.index 0)))).before args s = true := hq _ (by decide +kernel)
  obtain ⟨b, xs, hb, hx⟩ := State.ints_of_pre rfl harr hlen hall
  have hsm : xs.length < 2 ^ 31 := hx.choose_spec.2.2.2
  have hev : (Term.length (.arg 0)).eval args s none [] s = some (.int xs.length.toInt32) := hx.length_eval hb
  have hv := Cond.le_ints hev (show (Term.int 3072).eval args s none [] s = some (.int 3072) from rfl)
  have hd : xs.length.toInt32 ≤ 3072 := by
    simpa [Cond.before, Cond.holds, hv] using hle
  have hN : xs.length ≤ 3072 := (Int32.ofNat_le_ofNat hsm (by decide)).mp (show Int32.ofNat xs.length ≤ Int32.ofNat 3072 from hd)
  exact ⟨b, xs, Cond.one_arg hc (show args[0]? = some (.ref b) from hb), hx, hN, h⟩
theorem lw_comes (l : Launch) : Comes l x (Jvm.Cond.code x code maxLocals ret :: tables_1) room_1 (fun tb e args s => Calls_1 tb e args s ∧ rest_1 tb e args s ∧ Pre_1 tb e args s)
    (fun _ _ args s o t => lw_Q args s o t) := by
  intro p e ha hc hk s m args below hf hfit hheap happ hpre
  obtain ⟨b, xs, hP⟩ := lw_pre_spec hpre.2.2 hpre.2.1
  obtain ⟨k, o, h1, h2, h3, hQ⟩ := lw_walk l b xs p e ha hc hk s m args below hf ((Spec.applies_iff_loose hf).mp happ).1 hP trivial
  exact ⟨k, o, h1, h2, h3, hQ⟩
theorem lw_frame {s t : State} {o : Outcome} {args : Array Value} (h : Framed s o t [] 600000 7302250) :
    Framed s o t (fieldLocs frame_1_writes args s ++ arrayLocs frame_1_arrays args s ++ staticLocs frame_1_statics s) 600000 7302250 := h
theorem lw_limb (L : Cond) (hL : ∀ (args : Array Value) (s t : State), L.after args s (.returned (some (.int 1))) t = true) :
    ArmFor flags0 classFile x code maxLocals ret World_1 tables_1 room_1 Calls_1 rest_1 Pre_1
      (fun tb e a s o t => postC L tb e a s o t ∧ Framed s o t (fieldLocs frame_1_writes a s ++ arrayLocs frame_1_arrays a s ++ staticLocs frame_1_statics s) 600000 7302250) := by
  intro l _ _ _ p e ha hc hk s m args below hf hfit hheap happ hpre
  obtain ⟨k, o, h1, h2, h3, rfl, hF⟩ := lw_comes l p e ha hc hk s m args below hf hfit hheap happ hpre
  exact ⟨k, _, h1, h2, h3, hL args s _, lw_frame hF⟩
theorem i_vc : Claimed_1_1 ∧ Claimed_1_2 := ⟨lw_limb limb_1_1 (fun args s t => by simp [limb_1_1, Cond.after, Cond.holds, Cond.value]), lw_limb limb_1_2 (fun args s t => Cond.after_iff.mpr (by
  first | (rw [show limb_1_2 = Cond.eq .result (.int 1) from rfl, Cond.eq_ints (x := 1) (y := 1) rfl rfl]; simp; done) | (simp [limb_1_2, Cond.value, Term.eval]; done)))⟩
end
