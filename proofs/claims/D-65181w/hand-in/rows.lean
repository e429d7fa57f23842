section
/-- a private method of a class that the tables say can be made, by its rows of tables_1 -/
def lw_okq (q : MethodName × Nat) : Prop := (q.1.cls ≠ "java/lang/invoke/MethodHandle" ∧ q.1.cls ≠ "java/lang/invoke/VarHandle") ∧ Cond.instantiable q.1.cls q.2 ∈ tables_1 ∧ Cond.privateMethod q.1 ∈ tables_1 ∧ Cond.instanceMethod q.1 ∈ tables_1
theorem lw_p0 : lw_okq (⟨"MicroTasks", "isWaiting", "(LMicroTasks$Micro;)Z"⟩, 22) := ⟨⟨by decide +kernel, by decide +kernel⟩, List.mem_of_getElem? (i := 7) (by decide +kernel), List.mem_of_getElem? (i := 191) (by decide +kernel), List.mem_of_getElem? (i := 192) (by decide +kernel)⟩
theorem lw_p1 : lw_okq (⟨"MicroTasks", "step", "(LMicroTasks$Micro;LMicroTasks$Strand;)V"⟩, 22) := ⟨⟨by decide +kernel, by decide +kernel⟩, List.mem_of_getElem? (i := 7) (by decide +kernel), List.mem_of_getElem? (i := 199) (by decide +kernel), List.mem_of_getElem? (i := 200) (by decide +kernel)⟩
theorem lw_p2 : lw_okq (⟨"MicroTasks", "shift", "(I)V"⟩, 22) := ⟨⟨by decide +kernel, by decide +kernel⟩, List.mem_of_getElem? (i := 7) (by decide +kernel), List.mem_of_getElem? (i := 203) (by decide +kernel), List.mem_of_getElem? (i := 204) (by decide +kernel)⟩
theorem lw_p3 : lw_okq (⟨"MicroTasks", "drive", "(LMicroTasks$Micro;)V"⟩, 22) := ⟨⟨by decide +kernel, by decide +kernel⟩, List.mem_of_getElem? (i := 7) (by decide +kernel), List.mem_of_getElem? (i := 207) (by decide +kernel), List.mem_of_getElem? (i := 208) (by decide +kernel)⟩
theorem lw_p4 : lw_okq (⟨"MicroTasks", "reckon", "(I)V"⟩, 22) := ⟨⟨by decide +kernel, by decide +kernel⟩, List.mem_of_getElem? (i := 7) (by decide +kernel), List.mem_of_getElem? (i := 211) (by decide +kernel), List.mem_of_getElem? (i := 212) (by decide +kernel)⟩
theorem lw_p5 : lw_okq (⟨"MicroTasks", "sum", "(I)V"⟩, 22) := ⟨⟨by decide +kernel, by decide +kernel⟩, List.mem_of_getElem? (i := 7) (by decide +kernel), List.mem_of_getElem? (i := 215) (by decide +kernel), List.mem_of_getElem? (i := 216) (by decide +kernel)⟩
theorem lw_p6 : lw_okq (⟨"MicroTasks", "difference", "(I)V"⟩, 22) := ⟨⟨by decide +kernel, by decide +kernel⟩, List.mem_of_getElem? (i := 7) (by decide +kernel), List.mem_of_getElem? (i := 219) (by decide +kernel), List.mem_of_getElem? (i := 220) (by decide +kernel)⟩
theorem lw_p7 : lw_okq (⟨"MicroTasks", "change", "(I)I"⟩, 22) := ⟨⟨by decide +kernel, by decide +kernel⟩, List.mem_of_getElem? (i := 7) (by decide +kernel), List.mem_of_getElem? (i := 223) (by decide +kernel), List.mem_of_getElem? (i := 224) (by decide +kernel)⟩
theorem lw_p8 : lw_okq (⟨"MicroTasks", "send", "()V"⟩, 22) := ⟨⟨by decide +kernel, by decide +kernel⟩, List.mem_of_getElem? (i := 7) (by decide +kernel), List.mem_of_getElem? (i := 228) (by decide +kernel), List.mem_of_getElem? (i := 229) (by decide +kernel)⟩
theorem lw_p9 : lw_okq (⟨"MicroTasks", "greatest", "()I"⟩, 22) := ⟨⟨by decide +kernel, by decide +kernel⟩, List.mem_of_getElem? (i := 7) (by decide +kernel), List.mem_of_getElem? (i := 237) (by decide +kernel), List.mem_of_getElem? (i := 238) (by decide +kernel)⟩
theorem lw_p10 : lw_okq (⟨"MicroTasksModel", "waits", "()Z"⟩, 28) := ⟨⟨by decide +kernel, by decide +kernel⟩, List.mem_of_getElem? (i := 268) (by decide +kernel), List.mem_of_getElem? (i := 396) (by decide +kernel), List.mem_of_getElem? (i := 397) (by decide +kernel)⟩
theorem lw_p11 : lw_okq (⟨"MicroTasksModel", "hasConstant", "()Z"⟩, 28) := ⟨⟨by decide +kernel, by decide +kernel⟩, List.mem_of_getElem? (i := 268) (by decide +kernel), List.mem_of_getElem? (i := 400) (by decide +kernel), List.mem_of_getElem? (i := 401) (by decide +kernel)⟩
theorem lw_p12 : lw_okq (⟨"MicroTasksModel", "act", "(I)V"⟩, 28) := ⟨⟨by decide +kernel, by decide +kernel⟩, List.mem_of_getElem? (i := 268) (by decide +kernel), List.mem_of_getElem? (i := 404) (by decide +kernel), List.mem_of_getElem? (i := 405) (by decide +kernel)⟩
theorem lw_p13 : lw_okq (⟨"MicroTasksModel", "shifted", "()I"⟩, 28) := ⟨⟨by decide +kernel, by decide +kernel⟩, List.mem_of_getElem? (i := 268) (by decide +kernel), List.mem_of_getElem? (i := 408) (by decide +kernel), List.mem_of_getElem? (i := 409) (by decide +kernel)⟩
theorem lw_p14 : lw_okq (⟨"MicroTasksModel", "bus", "()I"⟩, 28) := ⟨⟨by decide +kernel, by decide +kernel⟩, List.mem_of_getElem? (i := 268) (by decide +kernel), List.mem_of_getElem? (i := 412) (by decide +kernel), List.mem_of_getElem? (i := 413) (by decide +kernel)⟩
theorem lw_p15 : lw_okq (⟨"MicroTasksModel", "reckon", "(I)V"⟩, 28) := ⟨⟨by decide +kernel, by decide +kernel⟩, List.mem_of_getElem? (i := 268) (by decide +kernel), List.mem_of_getElem? (i := 416) (by decide +kernel), List.mem_of_getElem? (i := 417) (by decide +kernel)⟩
def lw_privs_1 : List (MethodName × Nat) := [(⟨"MicroTasks", "isWaiting", "(LMicroTasks$Micro;)Z"⟩, 22), (⟨"MicroTasks", "step", "(LMicroTasks$Micro;LMicroTasks$Strand;)V"⟩, 22), (⟨"MicroTasks", "shift", "(I)V"⟩, 22), (⟨"MicroTasks", "drive", "(LMicroTasks$Micro;)V"⟩, 22), (⟨"MicroTasks", "reckon", "(I)V"⟩, 22), (⟨"MicroTasks", "sum", "(I)V"⟩, 22), (⟨"MicroTasks", "difference", "(I)V"⟩, 22), (⟨"MicroTasks", "change", "(I)I"⟩, 22), (⟨"MicroTasks", "send", "()V"⟩, 22), (⟨"MicroTasks", "greatest", "()I"⟩, 22), (⟨"MicroTasksModel", "waits", "()Z"⟩, 28), (⟨"MicroTasksModel", "hasConstant", "()Z"⟩, 28), (⟨"MicroTasksModel", "act", "(I)V"⟩, 28), (⟨"MicroTasksModel", "shifted", "()I"⟩, 28), (⟨"MicroTasksModel", "bus", "()I"⟩, 28), (⟨"MicroTasksModel", "reckon", "(I)V"⟩, 28)]
theorem lw_r1 : ∀ q ∈ lw_privs_1, lw_okq q := List.forall_mem_cons.mpr ⟨lw_p0, List.forall_mem_cons.mpr ⟨lw_p1, List.forall_mem_cons.mpr ⟨lw_p2, List.forall_mem_cons.mpr ⟨lw_p3, List.forall_mem_cons.mpr ⟨lw_p4, List.forall_mem_cons.mpr ⟨lw_p5, List.forall_mem_cons.mpr ⟨lw_p6, List.forall_mem_cons.mpr ⟨lw_p7, List.forall_mem_cons.mpr ⟨lw_p8, List.forall_mem_cons.mpr ⟨lw_p9, List.forall_mem_cons.mpr ⟨lw_p10, List.forall_mem_cons.mpr ⟨lw_p11, List.forall_mem_cons.mpr ⟨lw_p12, List.forall_mem_cons.mpr ⟨lw_p13, List.forall_mem_cons.mpr ⟨lw_p14, List.forall_mem_cons.mpr ⟨lw_p15, fun _ h => absurd h List.not_mem_nil⟩⟩⟩⟩⟩⟩⟩⟩⟩⟩⟩⟩⟩⟩⟩⟩
theorem lw_p16 : lw_okq (⟨"MicroTasksModel", "add", "(I)V"⟩, 28) := ⟨⟨by decide +kernel, by decide +kernel⟩, List.mem_of_getElem? (i := 268) (by decide +kernel), List.mem_of_getElem? (i := 420) (by decide +kernel), List.mem_of_getElem? (i := 421) (by decide +kernel)⟩
theorem lw_p17 : lw_okq (⟨"MicroTasksModel", "take", "(II)V"⟩, 28) := ⟨⟨by decide +kernel, by decide +kernel⟩, List.mem_of_getElem? (i := 268) (by decide +kernel), List.mem_of_getElem? (i := 424) (by decide +kernel), List.mem_of_getElem? (i := 425) (by decide +kernel)⟩
theorem lw_p18 : lw_okq (⟨"MicroTasksModel", "change", "(II)I"⟩, 28) := ⟨⟨by decide +kernel, by decide +kernel⟩, List.mem_of_getElem? (i := 268) (by decide +kernel), List.mem_of_getElem? (i := 428) (by decide +kernel), List.mem_of_getElem? (i := 429) (by decide +kernel)⟩
theorem lw_p19 : lw_okq (⟨"MicroTasksModel", "isOfAlu", "()Z"⟩, 28) := ⟨⟨by decide +kernel, by decide +kernel⟩, List.mem_of_getElem? (i := 268) (by decide +kernel), List.mem_of_getElem? (i := 432) (by decide +kernel), List.mem_of_getElem? (i := 433) (by decide +kernel)⟩
theorem lw_p20 : lw_okq (⟨"MicroTasksModel", "give", "(Z)V"⟩, 28) := ⟨⟨by decide +kernel, by decide +kernel⟩, List.mem_of_getElem? (i := 268) (by decide +kernel), List.mem_of_getElem? (i := 436) (by decide +kernel), List.mem_of_getElem? (i := 437) (by decide +kernel)⟩
def lw_privs_2 : List (MethodName × Nat) := [(⟨"MicroTasksModel", "add", "(I)V"⟩, 28), (⟨"MicroTasksModel", "take", "(II)V"⟩, 28), (⟨"MicroTasksModel", "change", "(II)I"⟩, 28), (⟨"MicroTasksModel", "isOfAlu", "()Z"⟩, 28), (⟨"MicroTasksModel", "give", "(Z)V"⟩, 28)]
theorem lw_r2 : ∀ q ∈ lw_privs_2, lw_okq q := List.forall_mem_cons.mpr ⟨lw_p16, List.forall_mem_cons.mpr ⟨lw_p17, List.forall_mem_cons.mpr ⟨lw_p18, List.forall_mem_cons.mpr ⟨lw_p19, List.forall_mem_cons.mpr ⟨lw_p20, fun _ h => absurd h List.not_mem_nil⟩⟩⟩⟩⟩
def lw_privs : List (MethodName × Nat) := lw_privs_1 ++ (lw_privs_2)
def lw_tbl : List Cond := k2_sels lw_privs ++ tables_1
theorem lw_privs_ok : ∀ q ∈ lw_privs, lw_okq q := by
  show ∀ q ∈ lw_privs_1 ++ (lw_privs_2), lw_okq q
  exact List.forall_mem_append.mpr ⟨lw_r1, lw_r2⟩
end
section
def R_C : String := "MicroTasks"
def R_K : String := "MicroTasks$Micro"
def R_S : String := "MicroTasks$Strand"
def R_M : String := "MicroTasksModel"
def R_L : String := "MicroTasksLaw"
def R_H : String := "java/lang/Math"
def F_K : u_T := fun k => match k with
  | 0 => ("MicroTasks$Micro", "rsel", "I", false)
  | 1 => ("MicroTasks$Micro", "aluf", "I", false)
  | 2 => ("MicroTasks$Micro", "bs", "I", false)
  | 3 => ("MicroTasks$Micro", "f1", "I", false)
  | 4 => ("MicroTasks$Micro", "f2", "I", false)
  | 5 => ("MicroTasks$Micro", "loadsT", "Z", false)
  | 6 => ("MicroTasks$Micro", "loadsL", "Z", false)
  | _ => ("MicroTasks$Micro", "next", "I", false)
def t_K : Nat → FieldType := fun k => match k with
  | 0 => .int
  | 1 => .int
  | 2 => .int
  | 3 => .int
  | 4 => .int
  | 5 => .boolean
  | 6 => .boolean
  | _ => .int
abbrev w_K : List Cond := u_ws R_K F_K 8
def F_S : u_T := fun k => match k with
  | 0 => ("MicroTasks$Strand", "place", "I", false)
  | 1 => ("MicroTasks$Strand", "change", "I", false)
  | 2 => ("MicroTasks$Strand", "done", "I", false)
  | _ => ("MicroTasks$Strand", "woken", "Z", false)
def t_S : Nat → FieldType := fun k => match k with
  | 0 => .int
  | 1 => .int
  | 2 => .int
  | _ => .boolean
abbrev w_S : List Cond := u_ws R_S F_S 4
def F_C : u_T := fun k => match k with
  | 0 => ("MicroTasks", "store", "[LMicroTasks$Micro;", true)
  | 1 => ("MicroTasks", "constants", "[I", true)
  | 2 => ("MicroTasks", "memory", "[I", true)
  | 3 => ("MicroTasks", "registers", "[I", true)
  | 4 => ("MicroTasks", "strands", "[LMicroTasks$Strand;", true)
  | 5 => ("MicroTasks", "outs", "[I", true)
  | 6 => ("MicroTasks", "t", "I", false)
  | 7 => ("MicroTasks", "l", "I", false)
  | 8 => ("MicroTasks", "carry", "I", false)
  | 9 => ("MicroTasks", "mar", "I", false)
  | 10 => ("MicroTasks", "input", "I", false)
  | 11 => ("MicroTasks", "now", "I", false)
  | 12 => ("MicroTasks", "asked", "Z", false)
  | 13 => ("MicroTasks", "cycle", "I", false)
  | 14 => ("MicroTasks", "began", "I", false)
  | 15 => ("MicroTasks", "waited", "I", false)
  | 16 => ("MicroTasks", "out", "I", false)
  | 17 => ("MicroTasks", "switched", "I", false)
  | 18 => ("MicroTasks", "bus", "I", false)
  | 19 => ("MicroTasks", "sh", "I", false)
  | 20 => ("MicroTasks", "alu", "I", false)
  | _ => ("MicroTasks", "aluCarry", "I", false)
def t_C : Nat → FieldType := fun k => match k with
  | 0 => .array (.object "MicroTasks$Micro")
  | 1 => .array .int
  | 2 => .array .int
  | 3 => .array .int
  | 4 => .array (.object "MicroTasks$Strand")
  | 5 => .array .int
  | 6 => .int
  | 7 => .int
  | 8 => .int
  | 9 => .int
  | 10 => .int
  | 11 => .int
  | 12 => .boolean
  | 13 => .int
  | 14 => .int
  | 15 => .int
  | 16 => .int
  | 17 => .int
  | 18 => .int
  | 19 => .int
  | 20 => .int
  | _ => .int
abbrev w_C : List Cond := u_ws R_C F_C 22
def F_M : u_T := fun k => match k with
  | 0 => ("MicroTasksModel", "instructions", "[I", true)
  | 1 => ("MicroTasksModel", "constants", "[I", true)
  | 2 => ("MicroTasksModel", "memory", "[I", true)
  | 3 => ("MicroTasksModel", "registers", "[I", true)
  | 4 => ("MicroTasksModel", "t", "I", false)
  | 5 => ("MicroTasksModel", "l", "I", false)
  | 6 => ("MicroTasksModel", "carry", "I", false)
  | 7 => ("MicroTasksModel", "mar", "I", false)
  | 8 => ("MicroTasksModel", "input", "I", false)
  | 9 => ("MicroTasksModel", "places", "[I", true)
  | 10 => ("MicroTasksModel", "changes", "[I", true)
  | 11 => ("MicroTasksModel", "lines", "[Z", true)
  | 12 => ("MicroTasksModel", "done", "[I", true)
  | 13 => ("MicroTasksModel", "hand", "I", false)
  | 14 => ("MicroTasksModel", "gives", "Z", false)
  | 15 => ("MicroTasksModel", "cycles", "I", false)
  | 16 => ("MicroTasksModel", "waited", "I", false)
  | 17 => ("MicroTasksModel", "switched", "I", false)
  | 18 => ("MicroTasksModel", "began", "I", false)
  | 19 => ("MicroTasksModel", "outs", "I", false)
  | 20 => ("MicroTasksModel", "out", "[I", true)
  | 21 => ("MicroTasksModel", "rsel", "I", false)
  | 22 => ("MicroTasksModel", "aluf", "I", false)
  | 23 => ("MicroTasksModel", "bs", "I", false)
  | 24 => ("MicroTasksModel", "f1", "I", false)
  | 25 => ("MicroTasksModel", "f2", "I", false)
  | 26 => ("MicroTasksModel", "sum", "I", false)
  | _ => ("MicroTasksModel", "sumCarry", "I", false)
def t_M : Nat → FieldType := fun k => match k with
  | 0 => .array .int
  | 1 => .array .int
  | 2 => .array .int
  | 3 => .array .int
  | 4 => .int
  | 5 => .int
  | 6 => .int
  | 7 => .int
  | 8 => .int
  | 9 => .array .int
  | 10 => .array .int
  | 11 => .array .boolean
  | 12 => .array .int
  | 13 => .int
  | 14 => .boolean
  | 15 => .int
  | 16 => .int
  | 17 => .int
  | 18 => .int
  | 19 => .int
  | 20 => .array .int
  | 21 => .int
  | 22 => .int
  | 23 => .int
  | 24 => .int
  | 25 => .int
  | 26 => .int
  | _ => .int
abbrev w_M : List Cond := u_ws R_M F_M 28
abbrev b_C_within : ByteArray := prog_1_method_1_code
def y_C_within : MethodName := ⟨R_C, "within", "(JJJ)Z"⟩
abbrev b_C_init : ByteArray := prog_1_method_2_code
def y_C_init : MethodName := ⟨R_C, "<init>", "()V"⟩
abbrev b_C_store : ByteArray := prog_1_method_3_code
def y_C_store : MethodName := ⟨R_C, "store", "(II)Z"⟩
abbrev b_C_constant : ByteArray := prog_1_method_4_code
def y_C_constant : MethodName := ⟨R_C, "constant", "(II)Z"⟩
abbrev b_C_poke : ByteArray := prog_1_method_5_code
def y_C_poke : MethodName := ⟨R_C, "poke", "(II)Z"⟩
abbrev b_C_set : ByteArray := prog_1_method_6_code
def y_C_set : MethodName := ⟨R_C, "set", "(II)Z"⟩
abbrev b_C_port : ByteArray := prog_1_method_7_code
def y_C_port : MethodName := ⟨R_C, "port", "(I)V"⟩
abbrev b_C_isTask : ByteArray := prog_1_method_8_code
def y_C_isTask : MethodName := ⟨R_C, "isTask", "(I)Z"⟩
abbrev b_C_wake : ByteArray := prog_1_method_9_code
def y_C_wake : MethodName := ⟨R_C, "wake", "(I)Z"⟩
abbrev b_C_start : ByteArray := prog_1_method_10_code
def y_C_start : MethodName := ⟨R_C, "start", "(II)Z"⟩
abbrev b_C_isWaiting : ByteArray := prog_1_method_11_code
def y_C_isWaiting : MethodName := ⟨R_C, "isWaiting", "(LMicroTasks$Micro;)Z"⟩
abbrev b_C_shift : ByteArray := prog_1_method_12_code
def y_C_shift : MethodName := ⟨R_C, "shift", "(I)V"⟩
abbrev b_C_drive : ByteArray := prog_1_method_13_code
def y_C_drive : MethodName := ⟨R_C, "drive", "(LMicroTasks$Micro;)V"⟩
abbrev b_C_sum : ByteArray := prog_1_method_14_code
def y_C_sum : MethodName := ⟨R_C, "sum", "(I)V"⟩
abbrev b_C_difference : ByteArray := prog_1_method_15_code
def y_C_difference : MethodName := ⟨R_C, "difference", "(I)V"⟩
abbrev b_C_reckon : ByteArray := prog_1_method_16_code
def y_C_reckon : MethodName := ⟨R_C, "reckon", "(I)V"⟩
abbrev b_C_isFromAlu : ByteArray := prog_1_method_17_code
def y_C_isFromAlu : MethodName := ⟨R_C, "isFromAlu", "(I)Z"⟩
abbrev b_C_change : ByteArray := prog_1_method_18_code
def y_C_change : MethodName := ⟨R_C, "change", "(I)I"⟩
abbrev b_C_send : ByteArray := prog_1_method_19_code
def y_C_send : MethodName := ⟨R_C, "send", "()V"⟩
abbrev b_C_step : ByteArray := prog_1_method_20_code
def y_C_step : MethodName := ⟨R_C, "step", "(LMicroTasks$Micro;LMicroTasks$Strand;)V"⟩
abbrev b_C_greatest : ByteArray := prog_1_method_21_code
def y_C_greatest : MethodName := ⟨R_C, "greatest", "()I"⟩
abbrev b_C_run : ByteArray := prog_1_method_22_code
def y_C_run : MethodName := ⟨R_C, "run", "(I)I"⟩
abbrev b_C_register : ByteArray := prog_1_method_23_code
def y_C_register : MethodName := ⟨R_C, "register", "(I)I"⟩
abbrev b_C_peek : ByteArray := prog_1_method_24_code
def y_C_peek : MethodName := ⟨R_C, "peek", "(I)I"⟩
abbrev b_C_task : ByteArray := prog_1_method_25_code
def y_C_task : MethodName := ⟨R_C, "task", "(II)I"⟩
abbrev b_C_now : ByteArray := prog_1_method_26_code
def y_C_now : MethodName := ⟨R_C, "now", "()I"⟩
abbrev b_C_out : ByteArray := prog_1_method_27_code
def y_C_out : MethodName := ⟨R_C, "out", "(I)I"⟩
abbrev b_C_count : ByteArray := prog_1_method_28_code
def y_C_count : MethodName := ⟨R_C, "count", "(I)I"⟩
abbrev b_M_init : ByteArray := prog_5_method_1_code
def y_M_init : MethodName := ⟨R_M, "<init>", "()V"⟩
abbrev b_M_within : ByteArray := prog_5_method_2_code
def y_M_within : MethodName := ⟨R_M, "within", "(II)Z"⟩
abbrev b_M_store : ByteArray := prog_5_method_3_code
def y_M_store : MethodName := ⟨R_M, "store", "(II)Z"⟩
abbrev b_M_constant : ByteArray := prog_5_method_4_code
def y_M_constant : MethodName := ⟨R_M, "constant", "(II)Z"⟩
abbrev b_M_poke : ByteArray := prog_5_method_5_code
def y_M_poke : MethodName := ⟨R_M, "poke", "(II)Z"⟩
abbrev b_M_set : ByteArray := prog_5_method_6_code
def y_M_set : MethodName := ⟨R_M, "set", "(II)Z"⟩
abbrev b_M_port : ByteArray := prog_5_method_7_code
def y_M_port : MethodName := ⟨R_M, "port", "(I)V"⟩
abbrev b_M_wake : ByteArray := prog_5_method_8_code
def y_M_wake : MethodName := ⟨R_M, "wake", "(I)Z"⟩
abbrev b_M_start : ByteArray := prog_5_method_9_code
def y_M_start : MethodName := ⟨R_M, "start", "(II)Z"⟩
abbrev b_M_hasConstant : ByteArray := prog_5_method_10_code
def y_M_hasConstant : MethodName := ⟨R_M, "hasConstant", "()Z"⟩
abbrev b_M_waits : ByteArray := prog_5_method_11_code
def y_M_waits : MethodName := ⟨R_M, "waits", "()Z"⟩
abbrev b_M_shifted : ByteArray := prog_5_method_12_code
def y_M_shifted : MethodName := ⟨R_M, "shifted", "()I"⟩
abbrev b_M_bus : ByteArray := prog_5_method_13_code
def y_M_bus : MethodName := ⟨R_M, "bus", "()I"⟩
abbrev b_M_add : ByteArray := prog_5_method_14_code
def y_M_add : MethodName := ⟨R_M, "add", "(I)V"⟩
abbrev b_M_take : ByteArray := prog_5_method_15_code
def y_M_take : MethodName := ⟨R_M, "take", "(II)V"⟩
abbrev b_M_reckon : ByteArray := prog_5_method_16_code
def y_M_reckon : MethodName := ⟨R_M, "reckon", "(I)V"⟩
abbrev b_M_isOfAlu : ByteArray := prog_5_method_17_code
def y_M_isOfAlu : MethodName := ⟨R_M, "isOfAlu", "()Z"⟩
abbrev b_M_change : ByteArray := prog_5_method_18_code
def y_M_change : MethodName := ⟨R_M, "change", "(II)I"⟩
abbrev b_M_act : ByteArray := prog_5_method_19_code
def y_M_act : MethodName := ⟨R_M, "act", "(I)V"⟩
abbrev b_M_give : ByteArray := prog_5_method_20_code
def y_M_give : MethodName := ⟨R_M, "give", "(Z)V"⟩
abbrev b_M_run : ByteArray := prog_5_method_21_code
def y_M_run : MethodName := ⟨R_M, "run", "(I)I"⟩
abbrev b_M_register : ByteArray := prog_5_method_22_code
def y_M_register : MethodName := ⟨R_M, "register", "(I)I"⟩
abbrev b_M_peek : ByteArray := prog_5_method_23_code
def y_M_peek : MethodName := ⟨R_M, "peek", "(I)I"⟩
abbrev b_M_task : ByteArray := prog_5_method_24_code
def y_M_task : MethodName := ⟨R_M, "task", "(II)I"⟩
abbrev b_M_now : ByteArray := prog_5_method_25_code
def y_M_now : MethodName := ⟨R_M, "now", "()I"⟩
abbrev b_M_out : ByteArray := prog_5_method_26_code
def y_M_out : MethodName := ⟨R_M, "out", "(I)I"⟩
abbrev b_M_count : ByteArray := prog_5_method_27_code
def y_M_count : MethodName := ⟨R_M, "count", "(I)I"⟩
abbrev b_K_init : ByteArray := prog_2_method_1_code
def y_K_init : MethodName := ⟨R_K, "<init>", "()V"⟩
abbrev b_K_become : ByteArray := prog_2_method_2_code
def y_K_become : MethodName := ⟨R_K, "become", "(I)V"⟩
abbrev b_K_isConstant : ByteArray := prog_2_method_3_code
def y_K_isConstant : MethodName := ⟨R_K, "isConstant", "()Z"⟩
abbrev b_S_init : ByteArray := prog_3_method_1_code
def y_S_init : MethodName := ⟨R_S, "<init>", "()V"⟩
abbrev b_L_law : ByteArray := code
abbrev classes : List vw_C := [(R_C, F_C, 22), (R_K, F_K, 8), (R_S, F_S, 4), (R_M, F_M, 28)]
theorem n_K : ∀ a, a < 8 → ∀ b, b < 8 → a ≠ b → (F_K a).2.1 ≠ (F_K b).2.1 := by decide +kernel
theorem t_K_ok : ∀ k, k < 8 → parseFieldDescriptor (F_K k).2.2.1 = some (t_K k) := by decide +kernel
theorem n_S : ∀ a, a < 4 → ∀ b, b < 4 → a ≠ b → (F_S a).2.1 ≠ (F_S b).2.1 := by decide +kernel
theorem t_S_ok : ∀ k, k < 4 → parseFieldDescriptor (F_S k).2.2.1 = some (t_S k) := by decide +kernel
theorem n_C : ∀ a, a < 22 → ∀ b, b < 22 → a ≠ b → (F_C a).2.1 ≠ (F_C b).2.1 := by decide +kernel
theorem t_C_ok : ∀ k, k < 22 → parseFieldDescriptor (F_C k).2.2.1 = some (t_C k) := by decide +kernel
theorem n_M : ∀ a, a < 28 → ∀ b, b < 28 → a ≠ b → (F_M a).2.1 ≠ (F_M b).2.1 := by decide +kernel
theorem t_M_ok : ∀ k, k < 28 → parseFieldDescriptor (F_M k).2.2.1 = some (t_M k) := by decide +kernel
/-- the words that every contract carries: the good ones of the tables -/
def gW : List Cond := lw_tbl.filter goodWord
theorem gW_in {ws : List Cond} (h : ∀ w ∈ ws, w ∈ gW) : GoodIn gW ws := fun w hw => ⟨h w hw, good_of_word (List.mem_filter.mp (h w hw)).2⟩
theorem gW_tbl {args : Array Value} {s : State} (h : ∀ w ∈ lw_tbl, w.before args s = true) : ∀ w ∈ gW, w.before args s = true := fun w hw => h w (List.mem_filter.mp hw).1
theorem gm_t {w : Cond} (i : Nat) (h : tables_1[i]? = some w) (hg : goodWord w = true) : w ∈ gW := List.mem_filter.mpr ⟨List.mem_append_right _ (List.mem_of_getElem? h), hg⟩
theorem gm_p {y : MethodName} (i n : Nat) (h : lw_privs[i]? = some (y, n)) (hg : goodWord (Cond.selects y.cls y y) = true) : Cond.selects y.cls y y ∈ gW := List.mem_filter.mpr ⟨List.mem_append_left _ (List.mem_map.mpr ⟨(y, n), List.mem_of_getElem? h, rfl⟩), hg⟩
theorem i_K : ∀ w ∈ w_K, w ∈ gW := by decide +kernel
theorem i_S : ∀ w ∈ w_S, w ∈ gW := by decide +kernel
theorem i_C : ∀ w ∈ w_C, w ∈ gW := by decide +kernel
theorem i_M : ∀ w ∈ w_M, w ∈ gW := by decide +kernel
theorem q_0 : Cond.initialized R_L ∈ gW := gm_t 0 (by decide +kernel) (by decide +kernel)
theorem q_1 : Cond.initialized R_C ∈ gW := gm_t 1 (by decide +kernel) (by decide +kernel)
theorem q_2 : Cond.initialized R_K ∈ gW := gm_t 2 (by decide +kernel) (by decide +kernel)
theorem q_3 : Cond.initialized R_S ∈ gW := gm_t 3 (by decide +kernel) (by decide +kernel)
theorem q_4 : Cond.initialized R_M ∈ gW := gm_t 4 (by decide +kernel) (by decide +kernel)
theorem q_5 : Cond.initialized R_H ∈ gW := gm_t 5 (by decide +kernel) (by decide +kernel)
theorem q_6 : Cond.classLink R_L 7 R_C ∈ gW := gm_t 6 (by decide +kernel) (by decide +kernel)
theorem q_7 : Cond.instantiable R_C 22 ∈ gW := gm_t 7 (by decide +kernel) (by decide +kernel)
theorem q_8 : Cond.methodLink R_L 9 y_C_init ∈ gW := gm_t 8 (by decide +kernel) (by decide +kernel)
theorem q_9 : Cond.instanceMethod y_C_init ∈ gW := gm_t 9 (by decide +kernel) (by decide +kernel)
set_option maxRecDepth 100000 in
theorem q_10 : Cond.code y_C_init b_C_init 2 none ∈ gW := gm_t 10 rfl rfl
theorem q_11 : Cond.methodLink R_C 1 objectInit ∈ gW := gm_t 11 (by decide +kernel) (by decide +kernel)
theorem q_12 : Cond.instanceMethod objectInit ∈ gW := gm_t 12 (by decide +kernel) (by decide +kernel)
set_option maxRecDepth 100000 in
theorem q_13 : Cond.code objectInit ⟨#[0xb1]⟩ 1 none ∈ gW := gm_t 13 rfl rfl
theorem q_14 : Cond.classLink R_C 7 R_K ∈ gW := gm_t 14 (by decide +kernel) (by decide +kernel)
theorem q_16 : Cond.classLink R_C 25 R_S ∈ gW := gm_t 16 (by decide +kernel) (by decide +kernel)
theorem q_18 : Cond.instantiable R_K 8 ∈ gW := gm_t 18 (by decide +kernel) (by decide +kernel)
theorem q_20 : Cond.instanceMethod y_K_init ∈ gW := gm_t 20 (by decide +kernel) (by decide +kernel)
set_option maxRecDepth 100000 in
theorem q_21 : Cond.code y_K_init b_K_init 1 none ∈ gW := gm_t 21 rfl rfl
theorem q_22 : Cond.methodLink R_K 3 objectInit ∈ gW := gm_t 22 (by decide +kernel) (by decide +kernel)
theorem q_23 : Cond.fieldLink R_K 9 R_K "rsel" "I" ∈ gW := gm_t 23 (by decide +kernel) (by decide +kernel)
theorem q_25 : Cond.fieldLink R_K 15 R_K "aluf" "I" ∈ gW := gm_t 25 (by decide +kernel) (by decide +kernel)
theorem q_27 : Cond.fieldLink R_K 18 R_K "bs" "I" ∈ gW := gm_t 27 (by decide +kernel) (by decide +kernel)
theorem q_29 : Cond.fieldLink R_K 21 R_K "f1" "I" ∈ gW := gm_t 29 (by decide +kernel) (by decide +kernel)
theorem q_31 : Cond.fieldLink R_K 24 R_K "f2" "I" ∈ gW := gm_t 31 (by decide +kernel) (by decide +kernel)
theorem q_33 : Cond.fieldLink R_K 27 R_K "loadsT" "Z" ∈ gW := gm_t 33 (by decide +kernel) (by decide +kernel)
theorem q_35 : Cond.fieldLink R_K 31 R_K "loadsL" "Z" ∈ gW := gm_t 35 (by decide +kernel) (by decide +kernel)
theorem q_37 : Cond.fieldLink R_K 34 R_K "next" "I" ∈ gW := gm_t 37 (by decide +kernel) (by decide +kernel)
theorem q_56 : Cond.arrayClass .int ∈ gW := gm_t 56 (by decide +kernel) (by decide +kernel)
theorem q_57 : Cond.instantiable R_S 4 ∈ gW := gm_t 57 (by decide +kernel) (by decide +kernel)
theorem q_59 : Cond.instanceMethod y_S_init ∈ gW := gm_t 59 (by decide +kernel) (by decide +kernel)
set_option maxRecDepth 100000 in
theorem q_60 : Cond.code y_S_init b_S_init 1 none ∈ gW := gm_t 60 rfl rfl
theorem q_61 : Cond.methodLink R_S 1 objectInit ∈ gW := gm_t 61 (by decide +kernel) (by decide +kernel)
theorem q_75 : Cond.fieldLink R_C 9 R_C "store" "[LMicroTasks$Micro;" ∈ gW := gm_t 75 (by decide +kernel) (by decide +kernel)
theorem q_76 : Cond.fieldLink R_C 15 R_C "constants" "[I" ∈ gW := gm_t 76 (by decide +kernel) (by decide +kernel)
theorem q_77 : Cond.fieldLink R_C 19 R_C "memory" "[I" ∈ gW := gm_t 77 (by decide +kernel) (by decide +kernel)
theorem q_78 : Cond.fieldLink R_C 22 R_C "registers" "[I" ∈ gW := gm_t 78 (by decide +kernel) (by decide +kernel)
theorem q_79 : Cond.fieldLink R_C 27 R_C "strands" "[LMicroTasks$Strand;" ∈ gW := gm_t 79 (by decide +kernel) (by decide +kernel)
theorem q_80 : Cond.fieldLink R_C 31 R_C "outs" "[I" ∈ gW := gm_t 80 (by decide +kernel) (by decide +kernel)
theorem q_81 : Cond.fieldLink R_C 114 R_C "t" "I" ∈ gW := gm_t 81 (by decide +kernel) (by decide +kernel)
theorem q_82 : Cond.fieldLink R_C 90 R_C "l" "I" ∈ gW := gm_t 82 (by decide +kernel) (by decide +kernel)
theorem q_83 : Cond.fieldLink R_C 123 R_C "carry" "I" ∈ gW := gm_t 83 (by decide +kernel) (by decide +kernel)
theorem q_84 : Cond.fieldLink R_C 105 R_C "mar" "I" ∈ gW := gm_t 84 (by decide +kernel) (by decide +kernel)
theorem q_85 : Cond.fieldLink R_C 59 R_C "input" "I" ∈ gW := gm_t 85 (by decide +kernel) (by decide +kernel)
theorem q_86 : Cond.fieldLink R_C 102 R_C "now" "I" ∈ gW := gm_t 86 (by decide +kernel) (by decide +kernel)
theorem q_87 : Cond.fieldLink R_C 181 R_C "asked" "Z" ∈ gW := gm_t 87 (by decide +kernel) (by decide +kernel)
theorem q_88 : Cond.fieldLink R_C 74 R_C "cycle" "I" ∈ gW := gm_t 88 (by decide +kernel) (by decide +kernel)
theorem q_89 : Cond.fieldLink R_C 34 R_C "began" "I" ∈ gW := gm_t 89 (by decide +kernel) (by decide +kernel)
theorem q_90 : Cond.fieldLink R_C 174 R_C "waited" "I" ∈ gW := gm_t 90 (by decide +kernel) (by decide +kernel)
theorem q_91 : Cond.fieldLink R_C 131 R_C "out" "I" ∈ gW := gm_t 91 (by decide +kernel) (by decide +kernel)
theorem q_92 : Cond.fieldLink R_C 188 R_C "switched" "I" ∈ gW := gm_t 92 (by decide +kernel) (by decide +kernel)
theorem q_93 : Cond.fieldLink R_C 99 R_C "bus" "I" ∈ gW := gm_t 93 (by decide +kernel) (by decide +kernel)
theorem q_94 : Cond.fieldLink R_C 93 R_C "sh" "I" ∈ gW := gm_t 94 (by decide +kernel) (by decide +kernel)
theorem q_95 : Cond.fieldLink R_C 108 R_C "alu" "I" ∈ gW := gm_t 95 (by decide +kernel) (by decide +kernel)
theorem q_96 : Cond.fieldLink R_C 111 R_C "aluCarry" "I" ∈ gW := gm_t 96 (by decide +kernel) (by decide +kernel)
theorem q_142 : Cond.methodLink R_L 13 y_C_store ∈ gW := gm_t 142 (by decide +kernel) (by decide +kernel)
theorem q_143 : Cond.instanceMethod y_C_store ∈ gW := gm_t 143 (by decide +kernel) (by decide +kernel)
theorem q_144 : Cond.selects R_C y_C_store y_C_store ∈ gW := gm_t 144 (by decide +kernel) (by decide +kernel)
set_option maxRecDepth 100000 in
theorem q_145 : Cond.code y_C_store b_C_store 3 (some .boolean) ∈ gW := gm_t 145 rfl rfl
theorem q_146 : Cond.constantLong R_C 44 1023 ∈ gW := gm_t 146 (by decide +kernel) (by decide +kernel)
theorem q_147 : Cond.methodLink R_C 46 y_C_within ∈ gW := gm_t 147 (by decide +kernel) (by decide +kernel)
theorem q_148 : Cond.static y_C_within ∈ gW := gm_t 148 (by decide +kernel) (by decide +kernel)
set_option maxRecDepth 100000 in
theorem q_149 : Cond.code y_C_within b_C_within 6 (some .boolean) ∈ gW := gm_t 149 rfl rfl
theorem q_150 : Cond.methodLink R_C 50 y_K_become ∈ gW := gm_t 150 (by decide +kernel) (by decide +kernel)
theorem q_151 : Cond.instanceMethod y_K_become ∈ gW := gm_t 151 (by decide +kernel) (by decide +kernel)
theorem q_152 : Cond.selects R_K y_K_become y_K_become ∈ gW := gm_t 152 (by decide +kernel) (by decide +kernel)
set_option maxRecDepth 100000 in
theorem q_153 : Cond.code y_K_become b_K_become 2 none ∈ gW := gm_t 153 rfl rfl
theorem q_154 : Cond.methodLink R_L 18 y_C_constant ∈ gW := gm_t 154 (by decide +kernel) (by decide +kernel)
theorem q_155 : Cond.instanceMethod y_C_constant ∈ gW := gm_t 155 (by decide +kernel) (by decide +kernel)
theorem q_156 : Cond.selects R_C y_C_constant y_C_constant ∈ gW := gm_t 156 (by decide +kernel) (by decide +kernel)
set_option maxRecDepth 100000 in
theorem q_157 : Cond.code y_C_constant b_C_constant 3 (some .boolean) ∈ gW := gm_t 157 rfl rfl
theorem q_158 : Cond.constantLong R_C 54 255 ∈ gW := gm_t 158 (by decide +kernel) (by decide +kernel)
theorem q_159 : Cond.constant R_C 56 65535 ∈ gW := gm_t 159 (by decide +kernel) (by decide +kernel)
theorem q_160 : Cond.methodLink R_L 22 y_C_poke ∈ gW := gm_t 160 (by decide +kernel) (by decide +kernel)
theorem q_161 : Cond.instanceMethod y_C_poke ∈ gW := gm_t 161 (by decide +kernel) (by decide +kernel)
theorem q_162 : Cond.selects R_C y_C_poke y_C_poke ∈ gW := gm_t 162 (by decide +kernel) (by decide +kernel)
set_option maxRecDepth 100000 in
theorem q_163 : Cond.code y_C_poke b_C_poke 3 (some .boolean) ∈ gW := gm_t 163 rfl rfl
theorem q_164 : Cond.methodLink R_L 26 y_C_set ∈ gW := gm_t 164 (by decide +kernel) (by decide +kernel)
theorem q_165 : Cond.instanceMethod y_C_set ∈ gW := gm_t 165 (by decide +kernel) (by decide +kernel)
theorem q_166 : Cond.selects R_C y_C_set y_C_set ∈ gW := gm_t 166 (by decide +kernel) (by decide +kernel)
set_option maxRecDepth 100000 in
theorem q_167 : Cond.code y_C_set b_C_set 3 (some .boolean) ∈ gW := gm_t 167 rfl rfl
theorem q_168 : Cond.constantLong R_C 57 31 ∈ gW := gm_t 168 (by decide +kernel) (by decide +kernel)
theorem q_169 : Cond.methodLink R_L 30 y_C_port ∈ gW := gm_t 169 (by decide +kernel) (by decide +kernel)
theorem q_170 : Cond.instanceMethod y_C_port ∈ gW := gm_t 170 (by decide +kernel) (by decide +kernel)
theorem q_171 : Cond.selects R_C y_C_port y_C_port ∈ gW := gm_t 171 (by decide +kernel) (by decide +kernel)
set_option maxRecDepth 100000 in
theorem q_172 : Cond.code y_C_port b_C_port 2 none ∈ gW := gm_t 172 rfl rfl
theorem q_173 : Cond.methodLink R_L 35 y_C_wake ∈ gW := gm_t 173 (by decide +kernel) (by decide +kernel)
theorem q_174 : Cond.instanceMethod y_C_wake ∈ gW := gm_t 174 (by decide +kernel) (by decide +kernel)
theorem q_175 : Cond.selects R_C y_C_wake y_C_wake ∈ gW := gm_t 175 (by decide +kernel) (by decide +kernel)
set_option maxRecDepth 100000 in
theorem q_176 : Cond.code y_C_wake b_C_wake 3 (some .boolean) ∈ gW := gm_t 176 rfl rfl
theorem q_177 : Cond.methodLink R_C 64 y_C_isTask ∈ gW := gm_t 177 (by decide +kernel) (by decide +kernel)
theorem q_178 : Cond.static y_C_isTask ∈ gW := gm_t 178 (by decide +kernel) (by decide +kernel)
set_option maxRecDepth 100000 in
theorem q_179 : Cond.code y_C_isTask b_C_isTask 1 (some .boolean) ∈ gW := gm_t 179 rfl rfl
theorem q_180 : Cond.constantLong R_C 62 15 ∈ gW := gm_t 180 (by decide +kernel) (by decide +kernel)
theorem q_181 : Cond.methodLink R_L 40 y_C_start ∈ gW := gm_t 181 (by decide +kernel) (by decide +kernel)
theorem q_182 : Cond.instanceMethod y_C_start ∈ gW := gm_t 182 (by decide +kernel) (by decide +kernel)
theorem q_183 : Cond.selects R_C y_C_start y_C_start ∈ gW := gm_t 183 (by decide +kernel) (by decide +kernel)
set_option maxRecDepth 100000 in
theorem q_184 : Cond.code y_C_start b_C_start 3 (some .boolean) ∈ gW := gm_t 184 rfl rfl
theorem q_185 : Cond.methodLink R_L 44 y_C_run ∈ gW := gm_t 185 (by decide +kernel) (by decide +kernel)
theorem q_186 : Cond.instanceMethod y_C_run ∈ gW := gm_t 186 (by decide +kernel) (by decide +kernel)
theorem q_187 : Cond.selects R_C y_C_run y_C_run ∈ gW := gm_t 187 (by decide +kernel) (by decide +kernel)
set_option maxRecDepth 100000 in
theorem q_188 : Cond.code y_C_run b_C_run 8 (some .int) ∈ gW := gm_t 188 rfl rfl
theorem q_189 : Cond.constantLong R_C 168 5000 ∈ gW := gm_t 189 (by decide +kernel) (by decide +kernel)
theorem q_190 : Cond.methodLink R_C 170 y_C_isWaiting ∈ gW := gm_t 190 (by decide +kernel) (by decide +kernel)
theorem q_192 : Cond.instanceMethod y_C_isWaiting ∈ gW := gm_t 192 (by decide +kernel) (by decide +kernel)
set_option maxRecDepth 100000 in
theorem q_193 : Cond.code y_C_isWaiting b_C_isWaiting 3 (some .boolean) ∈ gW := gm_t 193 rfl rfl
theorem q_194 : Cond.methodLink R_C 83 y_K_isConstant ∈ gW := gm_t 194 (by decide +kernel) (by decide +kernel)
theorem q_195 : Cond.instanceMethod y_K_isConstant ∈ gW := gm_t 195 (by decide +kernel) (by decide +kernel)
theorem q_196 : Cond.selects R_K y_K_isConstant y_K_isConstant ∈ gW := gm_t 196 (by decide +kernel) (by decide +kernel)
set_option maxRecDepth 100000 in
theorem q_197 : Cond.code y_K_isConstant b_K_isConstant 1 (some .boolean) ∈ gW := gm_t 197 rfl rfl
theorem q_198 : Cond.methodLink R_C 177 y_C_step ∈ gW := gm_t 198 (by decide +kernel) (by decide +kernel)
theorem q_200 : Cond.instanceMethod y_C_step ∈ gW := gm_t 200 (by decide +kernel) (by decide +kernel)
set_option maxRecDepth 100000 in
theorem q_201 : Cond.code y_C_step b_C_step 4 none ∈ gW := gm_t 201 rfl rfl
theorem q_202 : Cond.methodLink R_C 134 y_C_shift ∈ gW := gm_t 202 (by decide +kernel) (by decide +kernel)
theorem q_204 : Cond.instanceMethod y_C_shift ∈ gW := gm_t 204 (by decide +kernel) (by decide +kernel)
set_option maxRecDepth 100000 in
theorem q_205 : Cond.code y_C_shift b_C_shift 2 none ∈ gW := gm_t 205 rfl rfl
theorem q_206 : Cond.methodLink R_C 137 y_C_drive ∈ gW := gm_t 206 (by decide +kernel) (by decide +kernel)
theorem q_208 : Cond.instanceMethod y_C_drive ∈ gW := gm_t 208 (by decide +kernel) (by decide +kernel)
set_option maxRecDepth 100000 in
theorem q_209 : Cond.code y_C_drive b_C_drive 2 none ∈ gW := gm_t 209 rfl rfl
theorem q_210 : Cond.methodLink R_C 144 y_C_reckon ∈ gW := gm_t 210 (by decide +kernel) (by decide +kernel)
theorem q_212 : Cond.instanceMethod y_C_reckon ∈ gW := gm_t 212 (by decide +kernel) (by decide +kernel)
set_option maxRecDepth 100000 in
theorem q_213 : Cond.code y_C_reckon b_C_reckon 2 none ∈ gW := gm_t 213 rfl rfl
theorem q_214 : Cond.methodLink R_C 117 y_C_sum ∈ gW := gm_t 214 (by decide +kernel) (by decide +kernel)
theorem q_216 : Cond.instanceMethod y_C_sum ∈ gW := gm_t 216 (by decide +kernel) (by decide +kernel)
set_option maxRecDepth 100000 in
theorem q_217 : Cond.code y_C_sum b_C_sum 2 none ∈ gW := gm_t 217 rfl rfl
theorem q_218 : Cond.methodLink R_C 120 y_C_difference ∈ gW := gm_t 218 (by decide +kernel) (by decide +kernel)
theorem q_220 : Cond.instanceMethod y_C_difference ∈ gW := gm_t 220 (by decide +kernel) (by decide +kernel)
set_option maxRecDepth 100000 in
theorem q_221 : Cond.code y_C_difference b_C_difference 2 none ∈ gW := gm_t 221 rfl rfl
theorem q_222 : Cond.methodLink R_C 147 y_C_change ∈ gW := gm_t 222 (by decide +kernel) (by decide +kernel)
theorem q_224 : Cond.instanceMethod y_C_change ∈ gW := gm_t 224 (by decide +kernel) (by decide +kernel)
set_option maxRecDepth 100000 in
theorem q_225 : Cond.code y_C_change b_C_change 2 (some .int) ∈ gW := gm_t 225 rfl rfl
theorem q_226 : Cond.constant R_C 130 32768 ∈ gW := gm_t 226 (by decide +kernel) (by decide +kernel)
theorem q_227 : Cond.methodLink R_C 150 y_C_send ∈ gW := gm_t 227 (by decide +kernel) (by decide +kernel)
theorem q_229 : Cond.instanceMethod y_C_send ∈ gW := gm_t 229 (by decide +kernel) (by decide +kernel)
set_option maxRecDepth 100000 in
theorem q_230 : Cond.code y_C_send b_C_send 1 none ∈ gW := gm_t 230 rfl rfl
theorem q_231 : Cond.methodLink R_C 156 y_C_isFromAlu ∈ gW := gm_t 231 (by decide +kernel) (by decide +kernel)
theorem q_232 : Cond.static y_C_isFromAlu ∈ gW := gm_t 232 (by decide +kernel) (by decide +kernel)
set_option maxRecDepth 100000 in
theorem q_233 : Cond.code y_C_isFromAlu b_C_isFromAlu 1 (some .boolean) ∈ gW := gm_t 233 rfl rfl
theorem q_234 : Cond.constantLong R_C 126 10 ∈ gW := gm_t 234 (by decide +kernel) (by decide +kernel)
theorem q_235 : Cond.constantLong R_C 128 12 ∈ gW := gm_t 235 (by decide +kernel) (by decide +kernel)
theorem q_236 : Cond.methodLink R_C 184 y_C_greatest ∈ gW := gm_t 236 (by decide +kernel) (by decide +kernel)
theorem q_238 : Cond.instanceMethod y_C_greatest ∈ gW := gm_t 238 (by decide +kernel) (by decide +kernel)
set_option maxRecDepth 100000 in
theorem q_239 : Cond.code y_C_greatest b_C_greatest 2 (some .int) ∈ gW := gm_t 239 rfl rfl
theorem q_240 : Cond.methodLink R_L 49 y_C_register ∈ gW := gm_t 240 (by decide +kernel) (by decide +kernel)
theorem q_241 : Cond.instanceMethod y_C_register ∈ gW := gm_t 241 (by decide +kernel) (by decide +kernel)
theorem q_242 : Cond.selects R_C y_C_register y_C_register ∈ gW := gm_t 242 (by decide +kernel) (by decide +kernel)
set_option maxRecDepth 100000 in
theorem q_243 : Cond.code y_C_register b_C_register 2 (some .int) ∈ gW := gm_t 243 rfl rfl
theorem q_244 : Cond.methodLink R_L 53 y_C_peek ∈ gW := gm_t 244 (by decide +kernel) (by decide +kernel)
theorem q_245 : Cond.instanceMethod y_C_peek ∈ gW := gm_t 245 (by decide +kernel) (by decide +kernel)
theorem q_246 : Cond.selects R_C y_C_peek y_C_peek ∈ gW := gm_t 246 (by decide +kernel) (by decide +kernel)
set_option maxRecDepth 100000 in
theorem q_247 : Cond.code y_C_peek b_C_peek 2 (some .int) ∈ gW := gm_t 247 rfl rfl
theorem q_248 : Cond.methodLink R_L 57 y_C_task ∈ gW := gm_t 248 (by decide +kernel) (by decide +kernel)
theorem q_249 : Cond.instanceMethod y_C_task ∈ gW := gm_t 249 (by decide +kernel) (by decide +kernel)
theorem q_250 : Cond.selects R_C y_C_task y_C_task ∈ gW := gm_t 250 (by decide +kernel) (by decide +kernel)
set_option maxRecDepth 100000 in
theorem q_251 : Cond.code y_C_task b_C_task 4 (some .int) ∈ gW := gm_t 251 rfl rfl
theorem q_252 : Cond.methodLink R_L 62 y_C_now ∈ gW := gm_t 252 (by decide +kernel) (by decide +kernel)
theorem q_253 : Cond.instanceMethod y_C_now ∈ gW := gm_t 253 (by decide +kernel) (by decide +kernel)
theorem q_254 : Cond.selects R_C y_C_now y_C_now ∈ gW := gm_t 254 (by decide +kernel) (by decide +kernel)
set_option maxRecDepth 100000 in
theorem q_255 : Cond.code y_C_now b_C_now 1 (some .int) ∈ gW := gm_t 255 rfl rfl
theorem q_256 : Cond.methodLink R_L 67 y_C_out ∈ gW := gm_t 256 (by decide +kernel) (by decide +kernel)
theorem q_257 : Cond.instanceMethod y_C_out ∈ gW := gm_t 257 (by decide +kernel) (by decide +kernel)
theorem q_258 : Cond.selects R_C y_C_out y_C_out ∈ gW := gm_t 258 (by decide +kernel) (by decide +kernel)
set_option maxRecDepth 100000 in
theorem q_259 : Cond.code y_C_out b_C_out 2 (some .int) ∈ gW := gm_t 259 rfl rfl
theorem q_260 : Cond.methodLink R_C 191 Lib.Math.min.name ∈ gW := gm_t 260 (by decide +kernel) (by decide +kernel)
theorem q_261 : Cond.static Lib.Math.min.name ∈ gW := gm_t 261 (by decide +kernel) (by decide +kernel)
set_option maxRecDepth 100000 in
theorem q_262 : Cond.code Lib.Math.min.name Lib.Math.min.code 2 (some .int) ∈ gW := gm_t 262 rfl rfl
theorem q_263 : Cond.methodLink R_L 71 y_C_count ∈ gW := gm_t 263 (by decide +kernel) (by decide +kernel)
theorem q_264 : Cond.instanceMethod y_C_count ∈ gW := gm_t 264 (by decide +kernel) (by decide +kernel)
theorem q_265 : Cond.selects R_C y_C_count y_C_count ∈ gW := gm_t 265 (by decide +kernel) (by decide +kernel)
set_option maxRecDepth 100000 in
theorem q_266 : Cond.code y_C_count b_C_count 2 (some .int) ∈ gW := gm_t 266 rfl rfl
theorem q_267 : Cond.classLink R_L 10 R_M ∈ gW := gm_t 267 (by decide +kernel) (by decide +kernel)
theorem q_268 : Cond.instantiable R_M 28 ∈ gW := gm_t 268 (by decide +kernel) (by decide +kernel)
theorem q_269 : Cond.methodLink R_L 12 y_M_init ∈ gW := gm_t 269 (by decide +kernel) (by decide +kernel)
theorem q_270 : Cond.instanceMethod y_M_init ∈ gW := gm_t 270 (by decide +kernel) (by decide +kernel)
set_option maxRecDepth 100000 in
theorem q_271 : Cond.code y_M_init b_M_init 1 none ∈ gW := gm_t 271 rfl rfl
theorem q_272 : Cond.methodLink R_M 1 objectInit ∈ gW := gm_t 272 (by decide +kernel) (by decide +kernel)
theorem q_273 : Cond.fieldLink R_M 7 R_M "instructions" "[I" ∈ gW := gm_t 273 (by decide +kernel) (by decide +kernel)
theorem q_274 : Cond.fieldLink R_M 13 R_M "constants" "[I" ∈ gW := gm_t 274 (by decide +kernel) (by decide +kernel)
theorem q_275 : Cond.fieldLink R_M 16 R_M "memory" "[I" ∈ gW := gm_t 275 (by decide +kernel) (by decide +kernel)
theorem q_276 : Cond.fieldLink R_M 19 R_M "registers" "[I" ∈ gW := gm_t 276 (by decide +kernel) (by decide +kernel)
theorem q_277 : Cond.fieldLink R_M 87 R_M "t" "I" ∈ gW := gm_t 277 (by decide +kernel) (by decide +kernel)
theorem q_278 : Cond.fieldLink R_M 66 R_M "l" "I" ∈ gW := gm_t 278 (by decide +kernel) (by decide +kernel)
theorem q_279 : Cond.fieldLink R_M 98 R_M "carry" "I" ∈ gW := gm_t 279 (by decide +kernel) (by decide +kernel)
theorem q_280 : Cond.fieldLink R_M 75 R_M "mar" "I" ∈ gW := gm_t 280 (by decide +kernel) (by decide +kernel)
theorem q_281 : Cond.fieldLink R_M 47 R_M "input" "I" ∈ gW := gm_t 281 (by decide +kernel) (by decide +kernel)
theorem q_282 : Cond.fieldLink R_M 22 R_M "places" "[I" ∈ gW := gm_t 282 (by decide +kernel) (by decide +kernel)
theorem q_283 : Cond.fieldLink R_M 25 R_M "changes" "[I" ∈ gW := gm_t 283 (by decide +kernel) (by decide +kernel)
theorem q_284 : Cond.fieldLink R_M 28 R_M "lines" "[Z" ∈ gW := gm_t 284 (by decide +kernel) (by decide +kernel)
theorem q_285 : Cond.fieldLink R_M 32 R_M "done" "[I" ∈ gW := gm_t 285 (by decide +kernel) (by decide +kernel)
theorem q_286 : Cond.fieldLink R_M 72 R_M "hand" "I" ∈ gW := gm_t 286 (by decide +kernel) (by decide +kernel)
theorem q_287 : Cond.fieldLink R_M 121 R_M "gives" "Z" ∈ gW := gm_t 287 (by decide +kernel) (by decide +kernel)
theorem q_288 : Cond.fieldLink R_M 56 R_M "cycles" "I" ∈ gW := gm_t 288 (by decide +kernel) (by decide +kernel)
theorem q_289 : Cond.fieldLink R_M 131 R_M "waited" "I" ∈ gW := gm_t 289 (by decide +kernel) (by decide +kernel)
theorem q_290 : Cond.fieldLink R_M 125 R_M "switched" "I" ∈ gW := gm_t 290 (by decide +kernel) (by decide +kernel)
theorem q_291 : Cond.fieldLink R_M 35 R_M "began" "I" ∈ gW := gm_t 291 (by decide +kernel) (by decide +kernel)
theorem q_292 : Cond.fieldLink R_M 118 R_M "outs" "I" ∈ gW := gm_t 292 (by decide +kernel) (by decide +kernel)
theorem q_293 : Cond.fieldLink R_M 39 R_M "out" "[I" ∈ gW := gm_t 293 (by decide +kernel) (by decide +kernel)
theorem q_294 : Cond.fieldLink R_M 69 R_M "rsel" "I" ∈ gW := gm_t 294 (by decide +kernel) (by decide +kernel)
theorem q_295 : Cond.fieldLink R_M 84 R_M "aluf" "I" ∈ gW := gm_t 295 (by decide +kernel) (by decide +kernel)
theorem q_296 : Cond.fieldLink R_M 59 R_M "bs" "I" ∈ gW := gm_t 296 (by decide +kernel) (by decide +kernel)
theorem q_297 : Cond.fieldLink R_M 50 R_M "f1" "I" ∈ gW := gm_t 297 (by decide +kernel) (by decide +kernel)
theorem q_298 : Cond.fieldLink R_M 53 R_M "f2" "I" ∈ gW := gm_t 298 (by decide +kernel) (by decide +kernel)
theorem q_299 : Cond.fieldLink R_M 78 R_M "sum" "I" ∈ gW := gm_t 299 (by decide +kernel) (by decide +kernel)
theorem q_300 : Cond.fieldLink R_M 81 R_M "sumCarry" "I" ∈ gW := gm_t 300 (by decide +kernel) (by decide +kernel)
theorem q_358 : Cond.arrayClass .boolean ∈ gW := gm_t 358 (by decide +kernel) (by decide +kernel)
theorem q_359 : Cond.methodLink R_L 17 y_M_store ∈ gW := gm_t 359 (by decide +kernel) (by decide +kernel)
theorem q_360 : Cond.instanceMethod y_M_store ∈ gW := gm_t 360 (by decide +kernel) (by decide +kernel)
theorem q_361 : Cond.selects R_M y_M_store y_M_store ∈ gW := gm_t 361 (by decide +kernel) (by decide +kernel)
set_option maxRecDepth 100000 in
theorem q_362 : Cond.code y_M_store b_M_store 3 (some .boolean) ∈ gW := gm_t 362 rfl rfl
theorem q_363 : Cond.methodLink R_M 42 y_M_within ∈ gW := gm_t 363 (by decide +kernel) (by decide +kernel)
theorem q_364 : Cond.static y_M_within ∈ gW := gm_t 364 (by decide +kernel) (by decide +kernel)
set_option maxRecDepth 100000 in
theorem q_365 : Cond.code y_M_within b_M_within 2 (some .boolean) ∈ gW := gm_t 365 rfl rfl
theorem q_366 : Cond.methodLink R_L 21 y_M_constant ∈ gW := gm_t 366 (by decide +kernel) (by decide +kernel)
theorem q_367 : Cond.instanceMethod y_M_constant ∈ gW := gm_t 367 (by decide +kernel) (by decide +kernel)
theorem q_368 : Cond.selects R_M y_M_constant y_M_constant ∈ gW := gm_t 368 (by decide +kernel) (by decide +kernel)
set_option maxRecDepth 100000 in
theorem q_369 : Cond.code y_M_constant b_M_constant 3 (some .boolean) ∈ gW := gm_t 369 rfl rfl
theorem q_370 : Cond.constant R_M 46 65535 ∈ gW := gm_t 370 (by decide +kernel) (by decide +kernel)
theorem q_371 : Cond.methodLink R_L 25 y_M_poke ∈ gW := gm_t 371 (by decide +kernel) (by decide +kernel)
theorem q_372 : Cond.instanceMethod y_M_poke ∈ gW := gm_t 372 (by decide +kernel) (by decide +kernel)
theorem q_373 : Cond.selects R_M y_M_poke y_M_poke ∈ gW := gm_t 373 (by decide +kernel) (by decide +kernel)
set_option maxRecDepth 100000 in
theorem q_374 : Cond.code y_M_poke b_M_poke 3 (some .boolean) ∈ gW := gm_t 374 rfl rfl
theorem q_375 : Cond.methodLink R_L 29 y_M_set ∈ gW := gm_t 375 (by decide +kernel) (by decide +kernel)
theorem q_376 : Cond.instanceMethod y_M_set ∈ gW := gm_t 376 (by decide +kernel) (by decide +kernel)
theorem q_377 : Cond.selects R_M y_M_set y_M_set ∈ gW := gm_t 377 (by decide +kernel) (by decide +kernel)
set_option maxRecDepth 100000 in
theorem q_378 : Cond.code y_M_set b_M_set 3 (some .boolean) ∈ gW := gm_t 378 rfl rfl
theorem q_379 : Cond.methodLink R_L 34 y_M_port ∈ gW := gm_t 379 (by decide +kernel) (by decide +kernel)
theorem q_380 : Cond.instanceMethod y_M_port ∈ gW := gm_t 380 (by decide +kernel) (by decide +kernel)
theorem q_381 : Cond.selects R_M y_M_port y_M_port ∈ gW := gm_t 381 (by decide +kernel) (by decide +kernel)
set_option maxRecDepth 100000 in
theorem q_382 : Cond.code y_M_port b_M_port 2 none ∈ gW := gm_t 382 rfl rfl
theorem q_383 : Cond.methodLink R_L 39 y_M_wake ∈ gW := gm_t 383 (by decide +kernel) (by decide +kernel)
theorem q_384 : Cond.instanceMethod y_M_wake ∈ gW := gm_t 384 (by decide +kernel) (by decide +kernel)
theorem q_385 : Cond.selects R_M y_M_wake y_M_wake ∈ gW := gm_t 385 (by decide +kernel) (by decide +kernel)
set_option maxRecDepth 100000 in
theorem q_386 : Cond.code y_M_wake b_M_wake 3 (some .boolean) ∈ gW := gm_t 386 rfl rfl
theorem q_387 : Cond.methodLink R_L 43 y_M_start ∈ gW := gm_t 387 (by decide +kernel) (by decide +kernel)
theorem q_388 : Cond.instanceMethod y_M_start ∈ gW := gm_t 388 (by decide +kernel) (by decide +kernel)
theorem q_389 : Cond.selects R_M y_M_start y_M_start ∈ gW := gm_t 389 (by decide +kernel) (by decide +kernel)
set_option maxRecDepth 100000 in
theorem q_390 : Cond.code y_M_start b_M_start 3 (some .boolean) ∈ gW := gm_t 390 rfl rfl
theorem q_391 : Cond.methodLink R_L 48 y_M_run ∈ gW := gm_t 391 (by decide +kernel) (by decide +kernel)
theorem q_392 : Cond.instanceMethod y_M_run ∈ gW := gm_t 392 (by decide +kernel) (by decide +kernel)
theorem q_393 : Cond.selects R_M y_M_run y_M_run ∈ gW := gm_t 393 (by decide +kernel) (by decide +kernel)
set_option maxRecDepth 100000 in
theorem q_394 : Cond.code y_M_run b_M_run 5 (some .int) ∈ gW := gm_t 394 rfl rfl
theorem q_395 : Cond.methodLink R_M 128 y_M_waits ∈ gW := gm_t 395 (by decide +kernel) (by decide +kernel)
theorem q_397 : Cond.instanceMethod y_M_waits ∈ gW := gm_t 397 (by decide +kernel) (by decide +kernel)
set_option maxRecDepth 100000 in
theorem q_398 : Cond.code y_M_waits b_M_waits 2 (some .boolean) ∈ gW := gm_t 398 rfl rfl
theorem q_399 : Cond.methodLink R_M 62 y_M_hasConstant ∈ gW := gm_t 399 (by decide +kernel) (by decide +kernel)
theorem q_401 : Cond.instanceMethod y_M_hasConstant ∈ gW := gm_t 401 (by decide +kernel) (by decide +kernel)
set_option maxRecDepth 100000 in
theorem q_402 : Cond.code y_M_hasConstant b_M_hasConstant 1 (some .boolean) ∈ gW := gm_t 402 rfl rfl
theorem q_403 : Cond.methodLink R_M 134 y_M_act ∈ gW := gm_t 403 (by decide +kernel) (by decide +kernel)
theorem q_405 : Cond.instanceMethod y_M_act ∈ gW := gm_t 405 (by decide +kernel) (by decide +kernel)
set_option maxRecDepth 100000 in
theorem q_406 : Cond.code y_M_act b_M_act 5 none ∈ gW := gm_t 406 rfl rfl
theorem q_407 : Cond.methodLink R_M 101 y_M_shifted ∈ gW := gm_t 407 (by decide +kernel) (by decide +kernel)
theorem q_409 : Cond.instanceMethod y_M_shifted ∈ gW := gm_t 409 (by decide +kernel) (by decide +kernel)
set_option maxRecDepth 100000 in
theorem q_410 : Cond.code y_M_shifted b_M_shifted 1 (some .int) ∈ gW := gm_t 410 rfl rfl
theorem q_411 : Cond.methodLink R_M 105 y_M_bus ∈ gW := gm_t 411 (by decide +kernel) (by decide +kernel)
theorem q_413 : Cond.instanceMethod y_M_bus ∈ gW := gm_t 413 (by decide +kernel) (by decide +kernel)
set_option maxRecDepth 100000 in
theorem q_414 : Cond.code y_M_bus b_M_bus 1 (some .int) ∈ gW := gm_t 414 rfl rfl
theorem q_415 : Cond.methodLink R_M 108 y_M_reckon ∈ gW := gm_t 415 (by decide +kernel) (by decide +kernel)
theorem q_417 : Cond.instanceMethod y_M_reckon ∈ gW := gm_t 417 (by decide +kernel) (by decide +kernel)
set_option maxRecDepth 100000 in
theorem q_418 : Cond.code y_M_reckon b_M_reckon 2 none ∈ gW := gm_t 418 rfl rfl
theorem q_419 : Cond.methodLink R_M 90 y_M_add ∈ gW := gm_t 419 (by decide +kernel) (by decide +kernel)
theorem q_421 : Cond.instanceMethod y_M_add ∈ gW := gm_t 421 (by decide +kernel) (by decide +kernel)
set_option maxRecDepth 100000 in
theorem q_422 : Cond.code y_M_add b_M_add 2 none ∈ gW := gm_t 422 rfl rfl
theorem q_423 : Cond.methodLink R_M 94 y_M_take ∈ gW := gm_t 423 (by decide +kernel) (by decide +kernel)
theorem q_425 : Cond.instanceMethod y_M_take ∈ gW := gm_t 425 (by decide +kernel) (by decide +kernel)
set_option maxRecDepth 100000 in
theorem q_426 : Cond.code y_M_take b_M_take 3 none ∈ gW := gm_t 426 rfl rfl
theorem q_427 : Cond.methodLink R_M 111 y_M_change ∈ gW := gm_t 427 (by decide +kernel) (by decide +kernel)
theorem q_429 : Cond.instanceMethod y_M_change ∈ gW := gm_t 429 (by decide +kernel) (by decide +kernel)
set_option maxRecDepth 100000 in
theorem q_430 : Cond.code y_M_change b_M_change 3 (some .int) ∈ gW := gm_t 430 rfl rfl
theorem q_431 : Cond.methodLink R_M 115 y_M_isOfAlu ∈ gW := gm_t 431 (by decide +kernel) (by decide +kernel)
theorem q_433 : Cond.instanceMethod y_M_isOfAlu ∈ gW := gm_t 433 (by decide +kernel) (by decide +kernel)
set_option maxRecDepth 100000 in
theorem q_434 : Cond.code y_M_isOfAlu b_M_isOfAlu 1 (some .boolean) ∈ gW := gm_t 434 rfl rfl
theorem q_435 : Cond.methodLink R_M 137 y_M_give ∈ gW := gm_t 435 (by decide +kernel) (by decide +kernel)
theorem q_437 : Cond.instanceMethod y_M_give ∈ gW := gm_t 437 (by decide +kernel) (by decide +kernel)
set_option maxRecDepth 100000 in
theorem q_438 : Cond.code y_M_give b_M_give 4 none ∈ gW := gm_t 438 rfl rfl
theorem q_439 : Cond.methodLink R_L 52 y_M_register ∈ gW := gm_t 439 (by decide +kernel) (by decide +kernel)
theorem q_440 : Cond.instanceMethod y_M_register ∈ gW := gm_t 440 (by decide +kernel) (by decide +kernel)
theorem q_441 : Cond.selects R_M y_M_register y_M_register ∈ gW := gm_t 441 (by decide +kernel) (by decide +kernel)
set_option maxRecDepth 100000 in
theorem q_442 : Cond.code y_M_register b_M_register 2 (some .int) ∈ gW := gm_t 442 rfl rfl
theorem q_443 : Cond.methodLink R_L 56 y_M_peek ∈ gW := gm_t 443 (by decide +kernel) (by decide +kernel)
theorem q_444 : Cond.instanceMethod y_M_peek ∈ gW := gm_t 444 (by decide +kernel) (by decide +kernel)
theorem q_445 : Cond.selects R_M y_M_peek y_M_peek ∈ gW := gm_t 445 (by decide +kernel) (by decide +kernel)
set_option maxRecDepth 100000 in
theorem q_446 : Cond.code y_M_peek b_M_peek 2 (some .int) ∈ gW := gm_t 446 rfl rfl
theorem q_447 : Cond.methodLink R_L 61 y_M_task ∈ gW := gm_t 447 (by decide +kernel) (by decide +kernel)
theorem q_448 : Cond.instanceMethod y_M_task ∈ gW := gm_t 448 (by decide +kernel) (by decide +kernel)
theorem q_449 : Cond.selects R_M y_M_task y_M_task ∈ gW := gm_t 449 (by decide +kernel) (by decide +kernel)
set_option maxRecDepth 100000 in
theorem q_450 : Cond.code y_M_task b_M_task 3 (some .int) ∈ gW := gm_t 450 rfl rfl
theorem q_451 : Cond.methodLink R_L 66 y_M_now ∈ gW := gm_t 451 (by decide +kernel) (by decide +kernel)
theorem q_452 : Cond.instanceMethod y_M_now ∈ gW := gm_t 452 (by decide +kernel) (by decide +kernel)
theorem q_453 : Cond.selects R_M y_M_now y_M_now ∈ gW := gm_t 453 (by decide +kernel) (by decide +kernel)
set_option maxRecDepth 100000 in
theorem q_454 : Cond.code y_M_now b_M_now 1 (some .int) ∈ gW := gm_t 454 rfl rfl
theorem q_455 : Cond.methodLink R_L 70 y_M_out ∈ gW := gm_t 455 (by decide +kernel) (by decide +kernel)
theorem q_456 : Cond.instanceMethod y_M_out ∈ gW := gm_t 456 (by decide +kernel) (by decide +kernel)
theorem q_457 : Cond.selects R_M y_M_out y_M_out ∈ gW := gm_t 457 (by decide +kernel) (by decide +kernel)
set_option maxRecDepth 100000 in
theorem q_458 : Cond.code y_M_out b_M_out 2 (some .int) ∈ gW := gm_t 458 rfl rfl
theorem q_459 : Cond.methodLink R_L 74 y_M_count ∈ gW := gm_t 459 (by decide +kernel) (by decide +kernel)
theorem q_460 : Cond.instanceMethod y_M_count ∈ gW := gm_t 460 (by decide +kernel) (by decide +kernel)
theorem q_461 : Cond.selects R_M y_M_count y_M_count ∈ gW := gm_t 461 (by decide +kernel) (by decide +kernel)
set_option maxRecDepth 100000 in
theorem q_462 : Cond.code y_M_count b_M_count 2 (some .int) ∈ gW := gm_t 462 rfl rfl
theorem qs_C_isWaiting : Cond.selects R_C y_C_isWaiting y_C_isWaiting ∈ gW := gm_p (y := y_C_isWaiting) 0 22 (by decide +kernel) (by decide +kernel)
theorem qs_C_step : Cond.selects R_C y_C_step y_C_step ∈ gW := gm_p (y := y_C_step) 1 22 (by decide +kernel) (by decide +kernel)
theorem qs_C_shift : Cond.selects R_C y_C_shift y_C_shift ∈ gW := gm_p (y := y_C_shift) 2 22 (by decide +kernel) (by decide +kernel)
theorem qs_C_drive : Cond.selects R_C y_C_drive y_C_drive ∈ gW := gm_p (y := y_C_drive) 3 22 (by decide +kernel) (by decide +kernel)
theorem qs_C_reckon : Cond.selects R_C y_C_reckon y_C_reckon ∈ gW := gm_p (y := y_C_reckon) 4 22 (by decide +kernel) (by decide +kernel)
theorem qs_C_sum : Cond.selects R_C y_C_sum y_C_sum ∈ gW := gm_p (y := y_C_sum) 5 22 (by decide +kernel) (by decide +kernel)
theorem qs_C_difference : Cond.selects R_C y_C_difference y_C_difference ∈ gW := gm_p (y := y_C_difference) 6 22 (by decide +kernel) (by decide +kernel)
theorem qs_C_change : Cond.selects R_C y_C_change y_C_change ∈ gW := gm_p (y := y_C_change) 7 22 (by decide +kernel) (by decide +kernel)
theorem qs_C_send : Cond.selects R_C y_C_send y_C_send ∈ gW := gm_p (y := y_C_send) 8 22 (by decide +kernel) (by decide +kernel)
theorem qs_C_greatest : Cond.selects R_C y_C_greatest y_C_greatest ∈ gW := gm_p (y := y_C_greatest) 9 22 (by decide +kernel) (by decide +kernel)
theorem qs_M_waits : Cond.selects R_M y_M_waits y_M_waits ∈ gW := gm_p (y := y_M_waits) 10 28 (by decide +kernel) (by decide +kernel)
theorem qs_M_hasConstant : Cond.selects R_M y_M_hasConstant y_M_hasConstant ∈ gW := gm_p (y := y_M_hasConstant) 11 28 (by decide +kernel) (by decide +kernel)
theorem qs_M_act : Cond.selects R_M y_M_act y_M_act ∈ gW := gm_p (y := y_M_act) 12 28 (by decide +kernel) (by decide +kernel)
theorem qs_M_shifted : Cond.selects R_M y_M_shifted y_M_shifted ∈ gW := gm_p (y := y_M_shifted) 13 28 (by decide +kernel) (by decide +kernel)
theorem qs_M_bus : Cond.selects R_M y_M_bus y_M_bus ∈ gW := gm_p (y := y_M_bus) 14 28 (by decide +kernel) (by decide +kernel)
theorem qs_M_reckon : Cond.selects R_M y_M_reckon y_M_reckon ∈ gW := gm_p (y := y_M_reckon) 15 28 (by decide +kernel) (by decide +kernel)
theorem qs_M_add : Cond.selects R_M y_M_add y_M_add ∈ gW := gm_p (y := y_M_add) 16 28 (by decide +kernel) (by decide +kernel)
theorem qs_M_take : Cond.selects R_M y_M_take y_M_take ∈ gW := gm_p (y := y_M_take) 17 28 (by decide +kernel) (by decide +kernel)
theorem qs_M_change : Cond.selects R_M y_M_change y_M_change ∈ gW := gm_p (y := y_M_change) 18 28 (by decide +kernel) (by decide +kernel)
theorem qs_M_isOfAlu : Cond.selects R_M y_M_isOfAlu y_M_isOfAlu ∈ gW := gm_p (y := y_M_isOfAlu) 19 28 (by decide +kernel) (by decide +kernel)
theorem qs_M_give : Cond.selects R_M y_M_give y_M_give ∈ gW := gm_p (y := y_M_give) 20 28 (by decide +kernel) (by decide +kernel)
/-- the links of private members of nest mates: they hold at every state of the run -/
def nsW : List Cond := [.methodLinkNest R_C 38 y_K_init R_C, .fieldLinkNest R_C 96 R_K "rsel" "I" R_C, .fieldLinkNest R_C 141 R_K "aluf" "I" R_C, .fieldLinkNest R_C 80 R_K "bs" "I" R_C, .fieldLinkNest R_C 77 R_K "f1" "I" R_C, .fieldLinkNest R_C 87 R_K "f2" "I" R_C, .fieldLinkNest R_C 153 R_K "loadsT" "Z" R_C, .fieldLinkNest R_C 159 R_K "loadsL" "Z" R_C, .fieldLinkNest R_C 162 R_K "next" "I" R_C, .methodLinkNest R_C 39 y_S_init R_C, .fieldLinkNest R_C 68 R_S "place" "I" R_C, .fieldLinkNest R_C 71 R_S "change" "I" R_C, .fieldLinkNest R_C 165 R_S "done" "I" R_C, .fieldLinkNest R_C 40 R_S "woken" "Z" R_C]
def nW (U : State) : Prop := (∀ w ∈ nsW, va_Nw w U) ∧ va_AO R_K U ∧ va_AO R_S U
theorem nW.warm {s U : State} (hW : s.WarmedH U.vm) (h : nW s) : nW U := by
  refine ⟨?_, h.2.1.moved hW.alike, h.2.2.moved hW.alike⟩
  intro w hw
  have h0 := h.1 w hw
  simp only [nsW, List.mem_cons, List.not_mem_nil, or_false] at hw
  rcases hw with rfl | rfl | rfl | rfl | rfl | rfl | rfl | rfl | rfl | rfl | rfl | rfl | rfl | rfl <;> first | exact va_Nw.warmF hW h0 | exact va_Nw.warmM hW h0
theorem nW.same {s U : State} (hv : s.vm = U.vm) (h : nW s) : nW U := by
  refine ⟨?_, h.2.1.moved (by rw [hv]; exact Vm.Alike.refl _), h.2.2.moved (by rw [hv]; exact Vm.Alike.refl _)⟩
  intro w hw
  have h0 := h.1 w hw
  simp only [nsW, List.mem_cons, List.not_mem_nil, or_false] at hw
  rcases hw with rfl | rfl | rfl | rfl | rfl | rfl | rfl | rfl | rfl | rfl | rfl | rfl | rfl | rfl <;> exact va_Nw.same rfl hv h0
theorem nsW_tbl : ∀ w ∈ nsW, w ∈ lw_tbl := by decide +kernel
theorem ao_tbl : Cond.arrayOver (.object R_K) ∈ lw_tbl ∧ Cond.arrayOver (.object R_S) ∈ lw_tbl := by decide +kernel
theorem nW.of {args : Array Value} {s : State} (h : ∀ w ∈ lw_tbl, w.before args s = true) : nW s := by
  refine ⟨?_, va_AO.of (h _ ao_tbl.1), va_AO.of (h _ ao_tbl.2)⟩
  intro w hw
  have h0 := h w (nsW_tbl w hw)
  simp only [nsW, List.mem_cons, List.not_mem_nil, or_false] at hw
  rcases hw with rfl | rfl | rfl | rfl | rfl | rfl | rfl | rfl | rfl | rfl | rfl | rfl | rfl | rfl <;> exact va_Nw.of rfl h0
theorem q_19 : Cond.methodLinkNest R_C 38 y_K_init R_C ∈ nsW := List.mem_of_getElem? (i := 0) rfl
theorem q_24 : Cond.fieldLinkNest R_C 96 R_K "rsel" "I" R_C ∈ nsW := List.mem_of_getElem? (i := 1) rfl
theorem q_26 : Cond.fieldLinkNest R_C 141 R_K "aluf" "I" R_C ∈ nsW := List.mem_of_getElem? (i := 2) rfl
theorem q_28 : Cond.fieldLinkNest R_C 80 R_K "bs" "I" R_C ∈ nsW := List.mem_of_getElem? (i := 3) rfl
theorem q_30 : Cond.fieldLinkNest R_C 77 R_K "f1" "I" R_C ∈ nsW := List.mem_of_getElem? (i := 4) rfl
theorem q_32 : Cond.fieldLinkNest R_C 87 R_K "f2" "I" R_C ∈ nsW := List.mem_of_getElem? (i := 5) rfl
theorem q_34 : Cond.fieldLinkNest R_C 153 R_K "loadsT" "Z" R_C ∈ nsW := List.mem_of_getElem? (i := 6) rfl
theorem q_36 : Cond.fieldLinkNest R_C 159 R_K "loadsL" "Z" R_C ∈ nsW := List.mem_of_getElem? (i := 7) rfl
theorem q_38 : Cond.fieldLinkNest R_C 162 R_K "next" "I" R_C ∈ nsW := List.mem_of_getElem? (i := 8) rfl
theorem q_58 : Cond.methodLinkNest R_C 39 y_S_init R_C ∈ nsW := List.mem_of_getElem? (i := 9) rfl
theorem q_62 : Cond.fieldLinkNest R_C 68 R_S "place" "I" R_C ∈ nsW := List.mem_of_getElem? (i := 10) rfl
theorem q_63 : Cond.fieldLinkNest R_C 71 R_S "change" "I" R_C ∈ nsW := List.mem_of_getElem? (i := 11) rfl
theorem q_64 : Cond.fieldLinkNest R_C 165 R_S "done" "I" R_C ∈ nsW := List.mem_of_getElem? (i := 12) rfl
theorem q_65 : Cond.fieldLinkNest R_C 40 R_S "woken" "Z" R_C ∈ nsW := List.mem_of_getElem? (i := 13) rfl
end
section
theorem d_C_within_0 : decode b_C_within 0 = .ok (.lload_n 0, 1) := by decide +kernel
theorem d_C_within_1 : decode b_C_within 1 = .ok (.lload_n 2, 1) := by decide +kernel
theorem d_C_within_2 : decode b_C_within 2 = .ok (.lcmp, 1) := by decide +kernel
theorem d_C_within_3 : decode b_C_within 3 = .ok (.ifCond .lt 14, 3) := by decide +kernel
theorem d_C_within_6 : decode b_C_within 6 = .ok (.lload_n 0, 1) := by decide +kernel
theorem d_C_within_7 : decode b_C_within 7 = .ok (.lload 4, 2) := by decide +kernel
theorem d_C_within_9 : decode b_C_within 9 = .ok (.lcmp, 1) := by decide +kernel
theorem d_C_within_10 : decode b_C_within 10 = .ok (.ifCond .gt 7, 3) := by decide +kernel
theorem d_C_within_13 : decode b_C_within 13 = .ok (.iconst 1, 1) := by decide +kernel
theorem d_C_within_14 : decode b_C_within 14 = .ok (.goto 4, 3) := by decide +kernel
theorem d_C_within_17 : decode b_C_within 17 = .ok (.iconst 0, 1) := by decide +kernel
theorem d_C_within_18 : decode b_C_within 18 = .ok (.ireturn, 1) := by decide +kernel
theorem d_C_init_0 : decode b_C_init 0 = .ok (.aload_n 0, 1) := by decide +kernel
theorem d_C_init_1 : decode b_C_init 1 = .ok (.invokespecial 1, 3) := by decide +kernel
theorem d_C_init_4 : decode b_C_init 4 = .ok (.aload_n 0, 1) := by decide +kernel
theorem d_C_init_5 : decode b_C_init 5 = .ok (.sipush 1024, 3) := by decide +kernel
theorem d_C_init_8 : decode b_C_init 8 = .ok (.anewarray 7, 3) := by decide +kernel
theorem d_C_init_11 : decode b_C_init 11 = .ok (.putfield 9, 3) := by decide +kernel
theorem d_C_init_14 : decode b_C_init 14 = .ok (.aload_n 0, 1) := by decide +kernel
theorem d_C_init_15 : decode b_C_init 15 = .ok (.sipush 256, 3) := by decide +kernel
theorem d_C_init_18 : decode b_C_init 18 = .ok (.newarray .int, 2) := by decide +kernel
theorem d_C_init_20 : decode b_C_init 20 = .ok (.putfield 15, 3) := by decide +kernel
theorem d_C_init_23 : decode b_C_init 23 = .ok (.aload_n 0, 1) := by decide +kernel
theorem d_C_init_24 : decode b_C_init 24 = .ok (.sipush 1024, 3) := by decide +kernel
theorem d_C_init_27 : decode b_C_init 27 = .ok (.newarray .int, 2) := by decide +kernel
theorem d_C_init_29 : decode b_C_init 29 = .ok (.putfield 19, 3) := by decide +kernel
theorem d_C_init_32 : decode b_C_init 32 = .ok (.aload_n 0, 1) := by decide +kernel
theorem d_C_init_33 : decode b_C_init 33 = .ok (.bipush 32, 2) := by decide +kernel
theorem d_C_init_35 : decode b_C_init 35 = .ok (.newarray .int, 2) := by decide +kernel
theorem d_C_init_37 : decode b_C_init 37 = .ok (.putfield 22, 3) := by decide +kernel
theorem d_C_init_40 : decode b_C_init 40 = .ok (.aload_n 0, 1) := by decide +kernel
theorem d_C_init_41 : decode b_C_init 41 = .ok (.bipush 16, 2) := by decide +kernel
theorem d_C_init_43 : decode b_C_init 43 = .ok (.anewarray 25, 3) := by decide +kernel
theorem d_C_init_46 : decode b_C_init 46 = .ok (.putfield 27, 3) := by decide +kernel
theorem d_C_init_49 : decode b_C_init 49 = .ok (.aload_n 0, 1) := by decide +kernel
theorem d_C_init_50 : decode b_C_init 50 = .ok (.sipush 500, 3) := by decide +kernel
theorem d_C_init_53 : decode b_C_init 53 = .ok (.newarray .int, 2) := by decide +kernel
theorem d_C_init_55 : decode b_C_init 55 = .ok (.putfield 31, 3) := by decide +kernel
theorem d_C_init_58 : decode b_C_init 58 = .ok (.aload_n 0, 1) := by decide +kernel
theorem d_C_init_59 : decode b_C_init 59 = .ok (.bipush (-100), 2) := by decide +kernel
theorem d_C_init_61 : decode b_C_init 61 = .ok (.putfield 34, 3) := by decide +kernel
theorem d_C_init_64 : decode b_C_init 64 = .ok (.iconst 0, 1) := by decide +kernel
theorem d_C_init_65 : decode b_C_init 65 = .ok (.istore_n 1, 1) := by decide +kernel
theorem d_C_init_66 : decode b_C_init 66 = .ok (.iload_n 1, 1) := by decide +kernel
theorem d_C_init_67 : decode b_C_init 67 = .ok (.sipush 1024, 3) := by decide +kernel
theorem d_C_init_70 : decode b_C_init 70 = .ok (.if_icmp .ge 22, 3) := by decide +kernel
theorem d_C_init_73 : decode b_C_init 73 = .ok (.aload_n 0, 1) := by decide +kernel
theorem d_C_init_74 : decode b_C_init 74 = .ok (.getfield 9, 3) := by decide +kernel
theorem d_C_init_77 : decode b_C_init 77 = .ok (.iload_n 1, 1) := by decide +kernel
theorem d_C_init_78 : decode b_C_init 78 = .ok (.new 7, 3) := by decide +kernel
theorem d_C_init_81 : decode b_C_init 81 = .ok (.dup, 1) := by decide +kernel
theorem d_C_init_82 : decode b_C_init 82 = .ok (.invokespecial 38, 3) := by decide +kernel
theorem d_C_init_85 : decode b_C_init 85 = .ok (.aastore, 1) := by decide +kernel
theorem d_C_init_86 : decode b_C_init 86 = .ok (.iinc 1 1, 3) := by decide +kernel
theorem d_C_init_89 : decode b_C_init 89 = .ok (.goto (-23), 3) := by decide +kernel
theorem d_C_init_92 : decode b_C_init 92 = .ok (.iconst 0, 1) := by decide +kernel
theorem d_C_init_93 : decode b_C_init 93 = .ok (.istore_n 1, 1) := by decide +kernel
theorem d_C_init_94 : decode b_C_init 94 = .ok (.iload_n 1, 1) := by decide +kernel
theorem d_C_init_95 : decode b_C_init 95 = .ok (.bipush 16, 2) := by decide +kernel
theorem d_C_init_97 : decode b_C_init 97 = .ok (.if_icmp .ge 22, 3) := by decide +kernel
theorem d_C_init_100 : decode b_C_init 100 = .ok (.aload_n 0, 1) := by decide +kernel
theorem d_C_init_101 : decode b_C_init 101 = .ok (.getfield 27, 3) := by decide +kernel
theorem d_C_init_104 : decode b_C_init 104 = .ok (.iload_n 1, 1) := by decide +kernel
theorem d_C_init_105 : decode b_C_init 105 = .ok (.new 25, 3) := by decide +kernel
theorem d_C_init_108 : decode b_C_init 108 = .ok (.dup, 1) := by decide +kernel
theorem d_C_init_109 : decode b_C_init 109 = .ok (.invokespecial 39, 3) := by decide +kernel
theorem d_C_init_112 : decode b_C_init 112 = .ok (.aastore, 1) := by decide +kernel
theorem d_C_init_113 : decode b_C_init 113 = .ok (.iinc 1 1, 3) := by decide +kernel
theorem d_C_init_116 : decode b_C_init 116 = .ok (.goto (-22), 3) := by decide +kernel
theorem d_C_init_119 : decode b_C_init 119 = .ok (.aload_n 0, 1) := by decide +kernel
theorem d_C_init_120 : decode b_C_init 120 = .ok (.getfield 27, 3) := by decide +kernel
theorem d_C_init_123 : decode b_C_init 123 = .ok (.iconst 0, 1) := by decide +kernel
theorem d_C_init_124 : decode b_C_init 124 = .ok (.aaload, 1) := by decide +kernel
theorem d_C_init_125 : decode b_C_init 125 = .ok (.iconst 1, 1) := by decide +kernel
theorem d_C_init_126 : decode b_C_init 126 = .ok (.putfield 40, 3) := by decide +kernel
theorem d_C_init_129 : decode b_C_init 129 = .ok (.return_, 1) := by decide +kernel
theorem d_C_store_0 : decode b_C_store 0 = .ok (.iload_n 1, 1) := by decide +kernel
theorem d_C_store_1 : decode b_C_store 1 = .ok (.i2l, 1) := by decide +kernel
theorem d_C_store_2 : decode b_C_store 2 = .ok (.lconst 0, 1) := by decide +kernel
theorem d_C_store_3 : decode b_C_store 3 = .ok (.ldc2_w 44, 3) := by decide +kernel
theorem d_C_store_6 : decode b_C_store 6 = .ok (.invokestatic 46, 3) := by decide +kernel
theorem d_C_store_9 : decode b_C_store 9 = .ok (.ifCond .ne 5, 3) := by decide +kernel
theorem d_C_store_12 : decode b_C_store 12 = .ok (.iconst 0, 1) := by decide +kernel
theorem d_C_store_13 : decode b_C_store 13 = .ok (.ireturn, 1) := by decide +kernel
theorem d_C_store_14 : decode b_C_store 14 = .ok (.aload_n 0, 1) := by decide +kernel
theorem d_C_store_15 : decode b_C_store 15 = .ok (.getfield 9, 3) := by decide +kernel
theorem d_C_store_18 : decode b_C_store 18 = .ok (.iload_n 1, 1) := by decide +kernel
theorem d_C_store_19 : decode b_C_store 19 = .ok (.aaload, 1) := by decide +kernel
theorem d_C_store_20 : decode b_C_store 20 = .ok (.iload_n 2, 1) := by decide +kernel
theorem d_C_store_21 : decode b_C_store 21 = .ok (.invokevirtual 50, 3) := by decide +kernel
theorem d_C_store_24 : decode b_C_store 24 = .ok (.iconst 1, 1) := by decide +kernel
theorem d_C_store_25 : decode b_C_store 25 = .ok (.ireturn, 1) := by decide +kernel
theorem d_C_constant_0 : decode b_C_constant 0 = .ok (.iload_n 1, 1) := by decide +kernel
theorem d_C_constant_1 : decode b_C_constant 1 = .ok (.i2l, 1) := by decide +kernel
theorem d_C_constant_2 : decode b_C_constant 2 = .ok (.lconst 0, 1) := by decide +kernel
theorem d_C_constant_3 : decode b_C_constant 3 = .ok (.ldc2_w 54, 3) := by decide +kernel
theorem d_C_constant_6 : decode b_C_constant 6 = .ok (.invokestatic 46, 3) := by decide +kernel
theorem d_C_constant_9 : decode b_C_constant 9 = .ok (.ifCond .ne 5, 3) := by decide +kernel
theorem d_C_constant_12 : decode b_C_constant 12 = .ok (.iconst 0, 1) := by decide +kernel
theorem d_C_constant_13 : decode b_C_constant 13 = .ok (.ireturn, 1) := by decide +kernel
theorem d_C_constant_14 : decode b_C_constant 14 = .ok (.aload_n 0, 1) := by decide +kernel
theorem d_C_constant_15 : decode b_C_constant 15 = .ok (.getfield 15, 3) := by decide +kernel
theorem d_C_constant_18 : decode b_C_constant 18 = .ok (.iload_n 1, 1) := by decide +kernel
theorem d_C_constant_19 : decode b_C_constant 19 = .ok (.iload_n 2, 1) := by decide +kernel
theorem d_C_constant_20 : decode b_C_constant 20 = .ok (.ldc 56, 2) := by decide +kernel
theorem d_C_constant_22 : decode b_C_constant 22 = .ok (.iand, 1) := by decide +kernel
theorem d_C_constant_23 : decode b_C_constant 23 = .ok (.iastore, 1) := by decide +kernel
theorem d_C_constant_24 : decode b_C_constant 24 = .ok (.iconst 1, 1) := by decide +kernel
theorem d_C_constant_25 : decode b_C_constant 25 = .ok (.ireturn, 1) := by decide +kernel
theorem d_C_poke_0 : decode b_C_poke 0 = .ok (.iload_n 1, 1) := by decide +kernel
theorem d_C_poke_1 : decode b_C_poke 1 = .ok (.i2l, 1) := by decide +kernel
theorem d_C_poke_2 : decode b_C_poke 2 = .ok (.lconst 0, 1) := by decide +kernel
theorem d_C_poke_3 : decode b_C_poke 3 = .ok (.ldc2_w 44, 3) := by decide +kernel
theorem d_C_poke_6 : decode b_C_poke 6 = .ok (.invokestatic 46, 3) := by decide +kernel
theorem d_C_poke_9 : decode b_C_poke 9 = .ok (.ifCond .ne 5, 3) := by decide +kernel
theorem d_C_poke_12 : decode b_C_poke 12 = .ok (.iconst 0, 1) := by decide +kernel
theorem d_C_poke_13 : decode b_C_poke 13 = .ok (.ireturn, 1) := by decide +kernel
theorem d_C_poke_14 : decode b_C_poke 14 = .ok (.aload_n 0, 1) := by decide +kernel
theorem d_C_poke_15 : decode b_C_poke 15 = .ok (.getfield 19, 3) := by decide +kernel
theorem d_C_poke_18 : decode b_C_poke 18 = .ok (.iload_n 1, 1) := by decide +kernel
theorem d_C_poke_19 : decode b_C_poke 19 = .ok (.iload_n 2, 1) := by decide +kernel
theorem d_C_poke_20 : decode b_C_poke 20 = .ok (.ldc 56, 2) := by decide +kernel
theorem d_C_poke_22 : decode b_C_poke 22 = .ok (.iand, 1) := by decide +kernel
theorem d_C_poke_23 : decode b_C_poke 23 = .ok (.iastore, 1) := by decide +kernel
theorem d_C_poke_24 : decode b_C_poke 24 = .ok (.iconst 1, 1) := by decide +kernel
theorem d_C_poke_25 : decode b_C_poke 25 = .ok (.ireturn, 1) := by decide +kernel
theorem d_C_set_0 : decode b_C_set 0 = .ok (.iload_n 1, 1) := by decide +kernel
theorem d_C_set_1 : decode b_C_set 1 = .ok (.i2l, 1) := by decide +kernel
theorem d_C_set_2 : decode b_C_set 2 = .ok (.lconst 0, 1) := by decide +kernel
theorem d_C_set_3 : decode b_C_set 3 = .ok (.ldc2_w 57, 3) := by decide +kernel
theorem d_C_set_6 : decode b_C_set 6 = .ok (.invokestatic 46, 3) := by decide +kernel
theorem d_C_set_9 : decode b_C_set 9 = .ok (.ifCond .ne 5, 3) := by decide +kernel
theorem d_C_set_12 : decode b_C_set 12 = .ok (.iconst 0, 1) := by decide +kernel
theorem d_C_set_13 : decode b_C_set 13 = .ok (.ireturn, 1) := by decide +kernel
theorem d_C_set_14 : decode b_C_set 14 = .ok (.aload_n 0, 1) := by decide +kernel
theorem d_C_set_15 : decode b_C_set 15 = .ok (.getfield 22, 3) := by decide +kernel
theorem d_C_set_18 : decode b_C_set 18 = .ok (.iload_n 1, 1) := by decide +kernel
theorem d_C_set_19 : decode b_C_set 19 = .ok (.iload_n 2, 1) := by decide +kernel
theorem d_C_set_20 : decode b_C_set 20 = .ok (.ldc 56, 2) := by decide +kernel
theorem d_C_set_22 : decode b_C_set 22 = .ok (.iand, 1) := by decide +kernel
theorem d_C_set_23 : decode b_C_set 23 = .ok (.iastore, 1) := by decide +kernel
theorem d_C_set_24 : decode b_C_set 24 = .ok (.iconst 1, 1) := by decide +kernel
theorem d_C_set_25 : decode b_C_set 25 = .ok (.ireturn, 1) := by decide +kernel
theorem d_C_port_0 : decode b_C_port 0 = .ok (.aload_n 0, 1) := by decide +kernel
theorem d_C_port_1 : decode b_C_port 1 = .ok (.iload_n 1, 1) := by decide +kernel
theorem d_C_port_2 : decode b_C_port 2 = .ok (.ldc 56, 2) := by decide +kernel
theorem d_C_port_4 : decode b_C_port 4 = .ok (.iand, 1) := by decide +kernel
theorem d_C_port_5 : decode b_C_port 5 = .ok (.putfield 59, 3) := by decide +kernel
theorem d_C_port_8 : decode b_C_port 8 = .ok (.return_, 1) := by decide +kernel
theorem d_C_isTask_0 : decode b_C_isTask 0 = .ok (.iload_n 0, 1) := by decide +kernel
theorem d_C_isTask_1 : decode b_C_isTask 1 = .ok (.i2l, 1) := by decide +kernel
theorem d_C_isTask_2 : decode b_C_isTask 2 = .ok (.lconst 0, 1) := by decide +kernel
theorem d_C_isTask_3 : decode b_C_isTask 3 = .ok (.ldc2_w 62, 3) := by decide +kernel
theorem d_C_isTask_6 : decode b_C_isTask 6 = .ok (.invokestatic 46, 3) := by decide +kernel
theorem d_C_isTask_9 : decode b_C_isTask 9 = .ok (.ireturn, 1) := by decide +kernel
theorem d_C_wake_0 : decode b_C_wake 0 = .ok (.iload_n 1, 1) := by decide +kernel
theorem d_C_wake_1 : decode b_C_wake 1 = .ok (.invokestatic 64, 3) := by decide +kernel
theorem d_C_wake_4 : decode b_C_wake 4 = .ok (.ifCond .ne 5, 3) := by decide +kernel
theorem d_C_wake_7 : decode b_C_wake 7 = .ok (.iconst 0, 1) := by decide +kernel
theorem d_C_wake_8 : decode b_C_wake 8 = .ok (.ireturn, 1) := by decide +kernel
theorem d_C_wake_9 : decode b_C_wake 9 = .ok (.aload_n 0, 1) := by decide +kernel
theorem d_C_wake_10 : decode b_C_wake 10 = .ok (.getfield 27, 3) := by decide +kernel
theorem d_C_wake_13 : decode b_C_wake 13 = .ok (.iload_n 1, 1) := by decide +kernel
theorem d_C_wake_14 : decode b_C_wake 14 = .ok (.aaload, 1) := by decide +kernel
theorem d_C_wake_15 : decode b_C_wake 15 = .ok (.getfield 40, 3) := by decide +kernel
theorem d_C_wake_18 : decode b_C_wake 18 = .ok (.istore_n 2, 1) := by decide +kernel
theorem d_C_wake_19 : decode b_C_wake 19 = .ok (.aload_n 0, 1) := by decide +kernel
theorem d_C_wake_20 : decode b_C_wake 20 = .ok (.getfield 27, 3) := by decide +kernel
theorem d_C_wake_23 : decode b_C_wake 23 = .ok (.iload_n 1, 1) := by decide +kernel
theorem d_C_wake_24 : decode b_C_wake 24 = .ok (.aaload, 1) := by decide +kernel
theorem d_C_wake_25 : decode b_C_wake 25 = .ok (.iconst 1, 1) := by decide +kernel
theorem d_C_wake_26 : decode b_C_wake 26 = .ok (.putfield 40, 3) := by decide +kernel
theorem d_C_wake_29 : decode b_C_wake 29 = .ok (.iload_n 2, 1) := by decide +kernel
theorem d_C_wake_30 : decode b_C_wake 30 = .ok (.ireturn, 1) := by decide +kernel
theorem d_C_start_0 : decode b_C_start 0 = .ok (.iload_n 1, 1) := by decide +kernel
theorem d_C_start_1 : decode b_C_start 1 = .ok (.invokestatic 64, 3) := by decide +kernel
theorem d_C_start_4 : decode b_C_start 4 = .ok (.ifCond .eq 15, 3) := by decide +kernel
theorem d_C_start_7 : decode b_C_start 7 = .ok (.iload_n 2, 1) := by decide +kernel
theorem d_C_start_8 : decode b_C_start 8 = .ok (.i2l, 1) := by decide +kernel
theorem d_C_start_9 : decode b_C_start 9 = .ok (.lconst 0, 1) := by decide +kernel
theorem d_C_start_10 : decode b_C_start 10 = .ok (.ldc2_w 44, 3) := by decide +kernel
theorem d_C_start_13 : decode b_C_start 13 = .ok (.invokestatic 46, 3) := by decide +kernel
theorem d_C_start_16 : decode b_C_start 16 = .ok (.ifCond .ne 5, 3) := by decide +kernel
theorem d_C_start_19 : decode b_C_start 19 = .ok (.iconst 0, 1) := by decide +kernel
theorem d_C_start_20 : decode b_C_start 20 = .ok (.ireturn, 1) := by decide +kernel
theorem d_C_start_21 : decode b_C_start 21 = .ok (.aload_n 0, 1) := by decide +kernel
theorem d_C_start_22 : decode b_C_start 22 = .ok (.getfield 27, 3) := by decide +kernel
theorem d_C_start_25 : decode b_C_start 25 = .ok (.iload_n 1, 1) := by decide +kernel
theorem d_C_start_26 : decode b_C_start 26 = .ok (.aaload, 1) := by decide +kernel
theorem d_C_start_27 : decode b_C_start 27 = .ok (.iload_n 2, 1) := by decide +kernel
theorem d_C_start_28 : decode b_C_start 28 = .ok (.putfield 68, 3) := by decide +kernel
theorem d_C_start_31 : decode b_C_start 31 = .ok (.aload_n 0, 1) := by decide +kernel
theorem d_C_start_32 : decode b_C_start 32 = .ok (.getfield 27, 3) := by decide +kernel
theorem d_C_start_35 : decode b_C_start 35 = .ok (.iload_n 1, 1) := by decide +kernel
theorem d_C_start_36 : decode b_C_start 36 = .ok (.aaload, 1) := by decide +kernel
theorem d_C_start_37 : decode b_C_start 37 = .ok (.iconst 0, 1) := by decide +kernel
theorem d_C_start_38 : decode b_C_start 38 = .ok (.putfield 71, 3) := by decide +kernel
theorem d_C_start_41 : decode b_C_start 41 = .ok (.iconst 1, 1) := by decide +kernel
theorem d_C_start_42 : decode b_C_start 42 = .ok (.ireturn, 1) := by decide +kernel
theorem d_C_isWaiting_0 : decode b_C_isWaiting 0 = .ok (.aload_n 0, 1) := by decide +kernel
theorem d_C_isWaiting_1 : decode b_C_isWaiting 1 = .ok (.getfield 74, 3) := by decide +kernel
theorem d_C_isWaiting_4 : decode b_C_isWaiting 4 = .ok (.aload_n 0, 1) := by decide +kernel
theorem d_C_isWaiting_5 : decode b_C_isWaiting 5 = .ok (.getfield 34, 3) := by decide +kernel
theorem d_C_isWaiting_8 : decode b_C_isWaiting 8 = .ok (.isub, 1) := by decide +kernel
theorem d_C_isWaiting_9 : decode b_C_isWaiting 9 = .ok (.istore_n 2, 1) := by decide +kernel
theorem d_C_isWaiting_10 : decode b_C_isWaiting 10 = .ok (.aload_n 1, 1) := by decide +kernel
theorem d_C_isWaiting_11 : decode b_C_isWaiting 11 = .ok (.getfield 77, 3) := by decide +kernel
theorem d_C_isWaiting_14 : decode b_C_isWaiting 14 = .ok (.iconst 1, 1) := by decide +kernel
theorem d_C_isWaiting_15 : decode b_C_isWaiting 15 = .ok (.if_icmp .ne 8, 3) := by decide +kernel
theorem d_C_isWaiting_18 : decode b_C_isWaiting 18 = .ok (.iload_n 2, 1) := by decide +kernel
theorem d_C_isWaiting_19 : decode b_C_isWaiting 19 = .ok (.iconst 5, 1) := by decide +kernel
theorem d_C_isWaiting_20 : decode b_C_isWaiting 20 = .ok (.if_icmp .lt 37, 3) := by decide +kernel
theorem d_C_isWaiting_23 : decode b_C_isWaiting 23 = .ok (.aload_n 1, 1) := by decide +kernel
theorem d_C_isWaiting_24 : decode b_C_isWaiting 24 = .ok (.getfield 80, 3) := by decide +kernel
theorem d_C_isWaiting_27 : decode b_C_isWaiting 27 = .ok (.iconst 5, 1) := by decide +kernel
theorem d_C_isWaiting_28 : decode b_C_isWaiting 28 = .ok (.if_icmp .ne 15, 3) := by decide +kernel
theorem d_C_isWaiting_31 : decode b_C_isWaiting 31 = .ok (.aload_n 1, 1) := by decide +kernel
theorem d_C_isWaiting_32 : decode b_C_isWaiting 32 = .ok (.invokevirtual 83, 3) := by decide +kernel
theorem d_C_isWaiting_35 : decode b_C_isWaiting 35 = .ok (.ifCond .ne 8, 3) := by decide +kernel
theorem d_C_isWaiting_38 : decode b_C_isWaiting 38 = .ok (.iload_n 2, 1) := by decide +kernel
theorem d_C_isWaiting_39 : decode b_C_isWaiting 39 = .ok (.iconst 4, 1) := by decide +kernel
theorem d_C_isWaiting_40 : decode b_C_isWaiting 40 = .ok (.if_icmp .lt 17, 3) := by decide +kernel
theorem d_C_isWaiting_43 : decode b_C_isWaiting 43 = .ok (.aload_n 1, 1) := by decide +kernel
theorem d_C_isWaiting_44 : decode b_C_isWaiting 44 = .ok (.getfield 87, 3) := by decide +kernel
theorem d_C_isWaiting_47 : decode b_C_isWaiting 47 = .ok (.bipush 6, 2) := by decide +kernel
theorem d_C_isWaiting_49 : decode b_C_isWaiting 49 = .ok (.if_icmp .ne 12, 3) := by decide +kernel
theorem d_C_isWaiting_52 : decode b_C_isWaiting 52 = .ok (.iload_n 2, 1) := by decide +kernel
theorem d_C_isWaiting_53 : decode b_C_isWaiting 53 = .ok (.iconst 2, 1) := by decide +kernel
theorem d_C_isWaiting_54 : decode b_C_isWaiting 54 = .ok (.if_icmp .ge 7, 3) := by decide +kernel
theorem d_C_isWaiting_57 : decode b_C_isWaiting 57 = .ok (.iconst 1, 1) := by decide +kernel
theorem d_C_isWaiting_58 : decode b_C_isWaiting 58 = .ok (.goto 4, 3) := by decide +kernel
theorem d_C_isWaiting_61 : decode b_C_isWaiting 61 = .ok (.iconst 0, 1) := by decide +kernel
theorem d_C_isWaiting_62 : decode b_C_isWaiting 62 = .ok (.ireturn, 1) := by decide +kernel
theorem d_C_shift_0 : decode b_C_shift 0 = .ok (.aload_n 0, 1) := by decide +kernel
theorem d_C_shift_1 : decode b_C_shift 1 = .ok (.iload_n 1, 1) := by decide +kernel
theorem d_C_shift_2 : decode b_C_shift 2 = .ok (.iconst 4, 1) := by decide +kernel
theorem d_C_shift_3 : decode b_C_shift 3 = .ok (.if_icmp .ne 15, 3) := by decide +kernel
theorem d_C_shift_6 : decode b_C_shift 6 = .ok (.aload_n 0, 1) := by decide +kernel
theorem d_C_shift_7 : decode b_C_shift 7 = .ok (.getfield 90, 3) := by decide +kernel
theorem d_C_shift_10 : decode b_C_shift 10 = .ok (.iconst 1, 1) := by decide +kernel
theorem d_C_shift_11 : decode b_C_shift 11 = .ok (.ishl, 1) := by decide +kernel
theorem d_C_shift_12 : decode b_C_shift 12 = .ok (.ldc 56, 2) := by decide +kernel
theorem d_C_shift_14 : decode b_C_shift 14 = .ok (.iand, 1) := by decide +kernel
theorem d_C_shift_15 : decode b_C_shift 15 = .ok (.goto 48, 3) := by decide +kernel
theorem d_C_shift_18 : decode b_C_shift 18 = .ok (.iload_n 1, 1) := by decide +kernel
theorem d_C_shift_19 : decode b_C_shift 19 = .ok (.iconst 5, 1) := by decide +kernel
theorem d_C_shift_20 : decode b_C_shift 20 = .ok (.if_icmp .ne 12, 3) := by decide +kernel
theorem d_C_shift_23 : decode b_C_shift 23 = .ok (.aload_n 0, 1) := by decide +kernel
theorem d_C_shift_24 : decode b_C_shift 24 = .ok (.getfield 90, 3) := by decide +kernel
theorem d_C_shift_27 : decode b_C_shift 27 = .ok (.iconst 1, 1) := by decide +kernel
theorem d_C_shift_28 : decode b_C_shift 28 = .ok (.ishr, 1) := by decide +kernel
theorem d_C_shift_29 : decode b_C_shift 29 = .ok (.goto 34, 3) := by decide +kernel
theorem d_C_shift_32 : decode b_C_shift 32 = .ok (.iload_n 1, 1) := by decide +kernel
theorem d_C_shift_33 : decode b_C_shift 33 = .ok (.bipush 6, 2) := by decide +kernel
theorem d_C_shift_35 : decode b_C_shift 35 = .ok (.if_icmp .ne 24, 3) := by decide +kernel
theorem d_C_shift_38 : decode b_C_shift 38 = .ok (.aload_n 0, 1) := by decide +kernel
theorem d_C_shift_39 : decode b_C_shift 39 = .ok (.getfield 90, 3) := by decide +kernel
theorem d_C_shift_42 : decode b_C_shift 42 = .ok (.bipush 8, 2) := by decide +kernel
theorem d_C_shift_44 : decode b_C_shift 44 = .ok (.ishl, 1) := by decide +kernel
theorem d_C_shift_45 : decode b_C_shift 45 = .ok (.ldc 56, 2) := by decide +kernel
theorem d_C_shift_47 : decode b_C_shift 47 = .ok (.iand, 1) := by decide +kernel
theorem d_C_shift_48 : decode b_C_shift 48 = .ok (.aload_n 0, 1) := by decide +kernel
theorem d_C_shift_49 : decode b_C_shift 49 = .ok (.getfield 90, 3) := by decide +kernel
theorem d_C_shift_52 : decode b_C_shift 52 = .ok (.bipush 8, 2) := by decide +kernel
theorem d_C_shift_54 : decode b_C_shift 54 = .ok (.ishr, 1) := by decide +kernel
theorem d_C_shift_55 : decode b_C_shift 55 = .ok (.ior, 1) := by decide +kernel
theorem d_C_shift_56 : decode b_C_shift 56 = .ok (.goto 7, 3) := by decide +kernel
theorem d_C_shift_59 : decode b_C_shift 59 = .ok (.aload_n 0, 1) := by decide +kernel
theorem d_C_shift_60 : decode b_C_shift 60 = .ok (.getfield 90, 3) := by decide +kernel
theorem d_C_shift_63 : decode b_C_shift 63 = .ok (.putfield 93, 3) := by decide +kernel
theorem d_C_shift_66 : decode b_C_shift 66 = .ok (.return_, 1) := by decide +kernel
theorem d_C_drive_0 : decode b_C_drive 0 = .ok (.aload_n 1, 1) := by decide +kernel
theorem d_C_drive_1 : decode b_C_drive 1 = .ok (.invokevirtual 83, 3) := by decide +kernel
theorem d_C_drive_4 : decode b_C_drive 4 = .ok (.ifCond .eq 25, 3) := by decide +kernel
theorem d_C_drive_7 : decode b_C_drive 7 = .ok (.aload_n 0, 1) := by decide +kernel
theorem d_C_drive_8 : decode b_C_drive 8 = .ok (.aload_n 0, 1) := by decide +kernel
theorem d_C_drive_9 : decode b_C_drive 9 = .ok (.getfield 15, 3) := by decide +kernel
theorem d_C_drive_12 : decode b_C_drive 12 = .ok (.bipush 8, 2) := by decide +kernel
theorem d_C_drive_14 : decode b_C_drive 14 = .ok (.aload_n 1, 1) := by decide +kernel
theorem d_C_drive_15 : decode b_C_drive 15 = .ok (.getfield 96, 3) := by decide +kernel
theorem d_C_drive_18 : decode b_C_drive 18 = .ok (.imul, 1) := by decide +kernel
theorem d_C_drive_19 : decode b_C_drive 19 = .ok (.aload_n 1, 1) := by decide +kernel
theorem d_C_drive_20 : decode b_C_drive 20 = .ok (.getfield 80, 3) := by decide +kernel
theorem d_C_drive_23 : decode b_C_drive 23 = .ok (.iadd, 1) := by decide +kernel
theorem d_C_drive_24 : decode b_C_drive 24 = .ok (.iaload, 1) := by decide +kernel
theorem d_C_drive_25 : decode b_C_drive 25 = .ok (.putfield 99, 3) := by decide +kernel
theorem d_C_drive_28 : decode b_C_drive 28 = .ok (.return_, 1) := by decide +kernel
theorem d_C_drive_29 : decode b_C_drive 29 = .ok (.aload_n 1, 1) := by decide +kernel
theorem d_C_drive_30 : decode b_C_drive 30 = .ok (.getfield 80, 3) := by decide +kernel
theorem d_C_drive_33 : decode b_C_drive 33 = .ok (.tableswitch 129 0 6 #[43, 59, 67, 76, 87, 98, 118], 43) := by decide +kernel
theorem d_C_drive_76 : decode b_C_drive 76 = .ok (.aload_n 0, 1) := by decide +kernel
theorem d_C_drive_77 : decode b_C_drive 77 = .ok (.aload_n 0, 1) := by decide +kernel
theorem d_C_drive_78 : decode b_C_drive 78 = .ok (.getfield 22, 3) := by decide +kernel
theorem d_C_drive_81 : decode b_C_drive 81 = .ok (.aload_n 1, 1) := by decide +kernel
theorem d_C_drive_82 : decode b_C_drive 82 = .ok (.getfield 96, 3) := by decide +kernel
theorem d_C_drive_85 : decode b_C_drive 85 = .ok (.iaload, 1) := by decide +kernel
theorem d_C_drive_86 : decode b_C_drive 86 = .ok (.putfield 99, 3) := by decide +kernel
theorem d_C_drive_89 : decode b_C_drive 89 = .ok (.goto 81, 3) := by decide +kernel
theorem d_C_drive_92 : decode b_C_drive 92 = .ok (.aload_n 0, 1) := by decide +kernel
theorem d_C_drive_93 : decode b_C_drive 93 = .ok (.iconst 0, 1) := by decide +kernel
theorem d_C_drive_94 : decode b_C_drive 94 = .ok (.putfield 99, 3) := by decide +kernel
theorem d_C_drive_97 : decode b_C_drive 97 = .ok (.goto 73, 3) := by decide +kernel
theorem d_C_drive_100 : decode b_C_drive 100 = .ok (.aload_n 0, 1) := by decide +kernel
theorem d_C_drive_101 : decode b_C_drive 101 = .ok (.ldc 56, 2) := by decide +kernel
theorem d_C_drive_103 : decode b_C_drive 103 = .ok (.putfield 99, 3) := by decide +kernel
theorem d_C_drive_106 : decode b_C_drive 106 = .ok (.goto 64, 3) := by decide +kernel
theorem d_C_drive_109 : decode b_C_drive 109 = .ok (.aload_n 0, 1) := by decide +kernel
theorem d_C_drive_110 : decode b_C_drive 110 = .ok (.aload_n 0, 1) := by decide +kernel
theorem d_C_drive_111 : decode b_C_drive 111 = .ok (.getfield 59, 3) := by decide +kernel
theorem d_C_drive_114 : decode b_C_drive 114 = .ok (.putfield 99, 3) := by decide +kernel
theorem d_C_drive_117 : decode b_C_drive 117 = .ok (.goto 53, 3) := by decide +kernel
theorem d_C_drive_120 : decode b_C_drive 120 = .ok (.aload_n 0, 1) := by decide +kernel
theorem d_C_drive_121 : decode b_C_drive 121 = .ok (.aload_n 0, 1) := by decide +kernel
theorem d_C_drive_122 : decode b_C_drive 122 = .ok (.getfield 102, 3) := by decide +kernel
theorem d_C_drive_125 : decode b_C_drive 125 = .ok (.putfield 99, 3) := by decide +kernel
theorem d_C_drive_128 : decode b_C_drive 128 = .ok (.goto 42, 3) := by decide +kernel
theorem d_C_drive_131 : decode b_C_drive 131 = .ok (.aload_n 0, 1) := by decide +kernel
theorem d_C_drive_132 : decode b_C_drive 132 = .ok (.aload_n 0, 1) := by decide +kernel
theorem d_C_drive_133 : decode b_C_drive 133 = .ok (.getfield 19, 3) := by decide +kernel
theorem d_C_drive_136 : decode b_C_drive 136 = .ok (.aload_n 0, 1) := by decide +kernel
theorem d_C_drive_137 : decode b_C_drive 137 = .ok (.getfield 105, 3) := by decide +kernel
theorem d_C_drive_140 : decode b_C_drive 140 = .ok (.sipush 1023, 3) := by decide +kernel
theorem d_C_drive_143 : decode b_C_drive 143 = .ok (.iand, 1) := by decide +kernel
theorem d_C_drive_144 : decode b_C_drive 144 = .ok (.iaload, 1) := by decide +kernel
theorem d_C_drive_145 : decode b_C_drive 145 = .ok (.putfield 99, 3) := by decide +kernel
theorem d_C_drive_148 : decode b_C_drive 148 = .ok (.goto 22, 3) := by decide +kernel
theorem d_C_drive_151 : decode b_C_drive 151 = .ok (.aload_n 0, 1) := by decide +kernel
theorem d_C_drive_152 : decode b_C_drive 152 = .ok (.aload_n 0, 1) := by decide +kernel
theorem d_C_drive_153 : decode b_C_drive 153 = .ok (.getfield 90, 3) := by decide +kernel
theorem d_C_drive_156 : decode b_C_drive 156 = .ok (.putfield 99, 3) := by decide +kernel
theorem d_C_drive_159 : decode b_C_drive 159 = .ok (.goto 11, 3) := by decide +kernel
theorem d_C_drive_162 : decode b_C_drive 162 = .ok (.aload_n 0, 1) := by decide +kernel
theorem d_C_drive_163 : decode b_C_drive 163 = .ok (.aload_n 0, 1) := by decide +kernel
theorem d_C_drive_164 : decode b_C_drive 164 = .ok (.getfield 105, 3) := by decide +kernel
theorem d_C_drive_167 : decode b_C_drive 167 = .ok (.putfield 99, 3) := by decide +kernel
theorem d_C_drive_170 : decode b_C_drive 170 = .ok (.return_, 1) := by decide +kernel
theorem d_C_sum_0 : decode b_C_sum 0 = .ok (.aload_n 0, 1) := by decide +kernel
theorem d_C_sum_1 : decode b_C_sum 1 = .ok (.iload_n 1, 1) := by decide +kernel
theorem d_C_sum_2 : decode b_C_sum 2 = .ok (.ldc 56, 2) := by decide +kernel
theorem d_C_sum_4 : decode b_C_sum 4 = .ok (.iand, 1) := by decide +kernel
theorem d_C_sum_5 : decode b_C_sum 5 = .ok (.putfield 108, 3) := by decide +kernel
theorem d_C_sum_8 : decode b_C_sum 8 = .ok (.aload_n 0, 1) := by decide +kernel
theorem d_C_sum_9 : decode b_C_sum 9 = .ok (.iload_n 1, 1) := by decide +kernel
theorem d_C_sum_10 : decode b_C_sum 10 = .ok (.bipush 16, 2) := by decide +kernel
theorem d_C_sum_12 : decode b_C_sum 12 = .ok (.ishr, 1) := by decide +kernel
theorem d_C_sum_13 : decode b_C_sum 13 = .ok (.iconst 1, 1) := by decide +kernel
theorem d_C_sum_14 : decode b_C_sum 14 = .ok (.iand, 1) := by decide +kernel
theorem d_C_sum_15 : decode b_C_sum 15 = .ok (.putfield 111, 3) := by decide +kernel
theorem d_C_sum_18 : decode b_C_sum 18 = .ok (.return_, 1) := by decide +kernel
theorem d_C_difference_0 : decode b_C_difference 0 = .ok (.aload_n 0, 1) := by decide +kernel
theorem d_C_difference_1 : decode b_C_difference 1 = .ok (.aload_n 0, 1) := by decide +kernel
theorem d_C_difference_2 : decode b_C_difference 2 = .ok (.getfield 99, 3) := by decide +kernel
theorem d_C_difference_5 : decode b_C_difference 5 = .ok (.iload_n 1, 1) := by decide +kernel
theorem d_C_difference_6 : decode b_C_difference 6 = .ok (.isub, 1) := by decide +kernel
theorem d_C_difference_7 : decode b_C_difference 7 = .ok (.ldc 56, 2) := by decide +kernel
theorem d_C_difference_9 : decode b_C_difference 9 = .ok (.iand, 1) := by decide +kernel
theorem d_C_difference_10 : decode b_C_difference 10 = .ok (.putfield 108, 3) := by decide +kernel
theorem d_C_difference_13 : decode b_C_difference 13 = .ok (.aload_n 0, 1) := by decide +kernel
theorem d_C_difference_14 : decode b_C_difference 14 = .ok (.aload_n 0, 1) := by decide +kernel
theorem d_C_difference_15 : decode b_C_difference 15 = .ok (.getfield 99, 3) := by decide +kernel
theorem d_C_difference_18 : decode b_C_difference 18 = .ok (.iload_n 1, 1) := by decide +kernel
theorem d_C_difference_19 : decode b_C_difference 19 = .ok (.if_icmp .lt 7, 3) := by decide +kernel
theorem d_C_difference_22 : decode b_C_difference 22 = .ok (.iconst 1, 1) := by decide +kernel
theorem d_C_difference_23 : decode b_C_difference 23 = .ok (.goto 4, 3) := by decide +kernel
theorem d_C_difference_26 : decode b_C_difference 26 = .ok (.iconst 0, 1) := by decide +kernel
theorem d_C_difference_27 : decode b_C_difference 27 = .ok (.putfield 111, 3) := by decide +kernel
theorem d_C_difference_30 : decode b_C_difference 30 = .ok (.return_, 1) := by decide +kernel
theorem d_C_reckon_0 : decode b_C_reckon 0 = .ok (.aload_n 0, 1) := by decide +kernel
theorem d_C_reckon_1 : decode b_C_reckon 1 = .ok (.iconst 0, 1) := by decide +kernel
theorem d_C_reckon_2 : decode b_C_reckon 2 = .ok (.putfield 111, 3) := by decide +kernel
theorem d_C_reckon_5 : decode b_C_reckon 5 = .ok (.iload_n 1, 1) := by decide +kernel
theorem d_C_reckon_6 : decode b_C_reckon 6 = .ok (.tableswitch 253 0 13 #[70, 81, 92, 108, 124, 140, 153, 161, 177, 188, 201, 219, 108, 235], 70) := by decide +kernel
theorem d_C_reckon_76 : decode b_C_reckon 76 = .ok (.aload_n 0, 1) := by decide +kernel
theorem d_C_reckon_77 : decode b_C_reckon 77 = .ok (.aload_n 0, 1) := by decide +kernel
theorem d_C_reckon_78 : decode b_C_reckon 78 = .ok (.getfield 99, 3) := by decide +kernel
theorem d_C_reckon_81 : decode b_C_reckon 81 = .ok (.putfield 108, 3) := by decide +kernel
theorem d_C_reckon_84 : decode b_C_reckon 84 = .ok (.goto 180, 3) := by decide +kernel
theorem d_C_reckon_87 : decode b_C_reckon 87 = .ok (.aload_n 0, 1) := by decide +kernel
theorem d_C_reckon_88 : decode b_C_reckon 88 = .ok (.aload_n 0, 1) := by decide +kernel
theorem d_C_reckon_89 : decode b_C_reckon 89 = .ok (.getfield 114, 3) := by decide +kernel
theorem d_C_reckon_92 : decode b_C_reckon 92 = .ok (.putfield 108, 3) := by decide +kernel
theorem d_C_reckon_95 : decode b_C_reckon 95 = .ok (.goto 169, 3) := by decide +kernel
theorem d_C_reckon_98 : decode b_C_reckon 98 = .ok (.aload_n 0, 1) := by decide +kernel
theorem d_C_reckon_99 : decode b_C_reckon 99 = .ok (.aload_n 0, 1) := by decide +kernel
theorem d_C_reckon_100 : decode b_C_reckon 100 = .ok (.getfield 99, 3) := by decide +kernel
theorem d_C_reckon_103 : decode b_C_reckon 103 = .ok (.aload_n 0, 1) := by decide +kernel
theorem d_C_reckon_104 : decode b_C_reckon 104 = .ok (.getfield 114, 3) := by decide +kernel
theorem d_C_reckon_107 : decode b_C_reckon 107 = .ok (.ior, 1) := by decide +kernel
theorem d_C_reckon_108 : decode b_C_reckon 108 = .ok (.putfield 108, 3) := by decide +kernel
theorem d_C_reckon_111 : decode b_C_reckon 111 = .ok (.goto 153, 3) := by decide +kernel
theorem d_C_reckon_114 : decode b_C_reckon 114 = .ok (.aload_n 0, 1) := by decide +kernel
theorem d_C_reckon_115 : decode b_C_reckon 115 = .ok (.aload_n 0, 1) := by decide +kernel
theorem d_C_reckon_116 : decode b_C_reckon 116 = .ok (.getfield 99, 3) := by decide +kernel
theorem d_C_reckon_119 : decode b_C_reckon 119 = .ok (.aload_n 0, 1) := by decide +kernel
theorem d_C_reckon_120 : decode b_C_reckon 120 = .ok (.getfield 114, 3) := by decide +kernel
theorem d_C_reckon_123 : decode b_C_reckon 123 = .ok (.iand, 1) := by decide +kernel
theorem d_C_reckon_124 : decode b_C_reckon 124 = .ok (.putfield 108, 3) := by decide +kernel
theorem d_C_reckon_127 : decode b_C_reckon 127 = .ok (.goto 137, 3) := by decide +kernel
theorem d_C_reckon_130 : decode b_C_reckon 130 = .ok (.aload_n 0, 1) := by decide +kernel
theorem d_C_reckon_131 : decode b_C_reckon 131 = .ok (.aload_n 0, 1) := by decide +kernel
theorem d_C_reckon_132 : decode b_C_reckon 132 = .ok (.getfield 99, 3) := by decide +kernel
theorem d_C_reckon_135 : decode b_C_reckon 135 = .ok (.aload_n 0, 1) := by decide +kernel
theorem d_C_reckon_136 : decode b_C_reckon 136 = .ok (.getfield 114, 3) := by decide +kernel
theorem d_C_reckon_139 : decode b_C_reckon 139 = .ok (.ixor, 1) := by decide +kernel
theorem d_C_reckon_140 : decode b_C_reckon 140 = .ok (.putfield 108, 3) := by decide +kernel
theorem d_C_reckon_143 : decode b_C_reckon 143 = .ok (.goto 121, 3) := by decide +kernel
theorem d_C_reckon_146 : decode b_C_reckon 146 = .ok (.aload_n 0, 1) := by decide +kernel
theorem d_C_reckon_147 : decode b_C_reckon 147 = .ok (.aload_n 0, 1) := by decide +kernel
theorem d_C_reckon_148 : decode b_C_reckon 148 = .ok (.getfield 99, 3) := by decide +kernel
theorem d_C_reckon_151 : decode b_C_reckon 151 = .ok (.iconst 1, 1) := by decide +kernel
theorem d_C_reckon_152 : decode b_C_reckon 152 = .ok (.iadd, 1) := by decide +kernel
theorem d_C_reckon_153 : decode b_C_reckon 153 = .ok (.invokevirtual 117, 3) := by decide +kernel
theorem d_C_reckon_156 : decode b_C_reckon 156 = .ok (.goto 108, 3) := by decide +kernel
theorem d_C_reckon_159 : decode b_C_reckon 159 = .ok (.aload_n 0, 1) := by decide +kernel
theorem d_C_reckon_160 : decode b_C_reckon 160 = .ok (.iconst 1, 1) := by decide +kernel
theorem d_C_reckon_161 : decode b_C_reckon 161 = .ok (.invokevirtual 120, 3) := by decide +kernel
theorem d_C_reckon_164 : decode b_C_reckon 164 = .ok (.goto 100, 3) := by decide +kernel
theorem d_C_reckon_167 : decode b_C_reckon 167 = .ok (.aload_n 0, 1) := by decide +kernel
theorem d_C_reckon_168 : decode b_C_reckon 168 = .ok (.aload_n 0, 1) := by decide +kernel
theorem d_C_reckon_169 : decode b_C_reckon 169 = .ok (.getfield 99, 3) := by decide +kernel
theorem d_C_reckon_172 : decode b_C_reckon 172 = .ok (.aload_n 0, 1) := by decide +kernel
theorem d_C_reckon_173 : decode b_C_reckon 173 = .ok (.getfield 114, 3) := by decide +kernel
theorem d_C_reckon_176 : decode b_C_reckon 176 = .ok (.iadd, 1) := by decide +kernel
theorem d_C_reckon_177 : decode b_C_reckon 177 = .ok (.invokevirtual 117, 3) := by decide +kernel
theorem d_C_reckon_180 : decode b_C_reckon 180 = .ok (.goto 84, 3) := by decide +kernel
theorem d_C_reckon_183 : decode b_C_reckon 183 = .ok (.aload_n 0, 1) := by decide +kernel
theorem d_C_reckon_184 : decode b_C_reckon 184 = .ok (.aload_n 0, 1) := by decide +kernel
theorem d_C_reckon_185 : decode b_C_reckon 185 = .ok (.getfield 114, 3) := by decide +kernel
theorem d_C_reckon_188 : decode b_C_reckon 188 = .ok (.invokevirtual 120, 3) := by decide +kernel
theorem d_C_reckon_191 : decode b_C_reckon 191 = .ok (.goto 73, 3) := by decide +kernel
theorem d_C_reckon_194 : decode b_C_reckon 194 = .ok (.aload_n 0, 1) := by decide +kernel
theorem d_C_reckon_195 : decode b_C_reckon 195 = .ok (.aload_n 0, 1) := by decide +kernel
theorem d_C_reckon_196 : decode b_C_reckon 196 = .ok (.getfield 114, 3) := by decide +kernel
theorem d_C_reckon_199 : decode b_C_reckon 199 = .ok (.iconst 1, 1) := by decide +kernel
theorem d_C_reckon_200 : decode b_C_reckon 200 = .ok (.iadd, 1) := by decide +kernel
theorem d_C_reckon_201 : decode b_C_reckon 201 = .ok (.invokevirtual 120, 3) := by decide +kernel
theorem d_C_reckon_204 : decode b_C_reckon 204 = .ok (.goto 60, 3) := by decide +kernel
theorem d_C_reckon_207 : decode b_C_reckon 207 = .ok (.aload_n 0, 1) := by decide +kernel
theorem d_C_reckon_208 : decode b_C_reckon 208 = .ok (.aload_n 0, 1) := by decide +kernel
theorem d_C_reckon_209 : decode b_C_reckon 209 = .ok (.getfield 99, 3) := by decide +kernel
theorem d_C_reckon_212 : decode b_C_reckon 212 = .ok (.aload_n 0, 1) := by decide +kernel
theorem d_C_reckon_213 : decode b_C_reckon 213 = .ok (.getfield 114, 3) := by decide +kernel
theorem d_C_reckon_216 : decode b_C_reckon 216 = .ok (.iadd, 1) := by decide +kernel
theorem d_C_reckon_217 : decode b_C_reckon 217 = .ok (.iconst 1, 1) := by decide +kernel
theorem d_C_reckon_218 : decode b_C_reckon 218 = .ok (.iadd, 1) := by decide +kernel
theorem d_C_reckon_219 : decode b_C_reckon 219 = .ok (.invokevirtual 117, 3) := by decide +kernel
theorem d_C_reckon_222 : decode b_C_reckon 222 = .ok (.goto 42, 3) := by decide +kernel
theorem d_C_reckon_225 : decode b_C_reckon 225 = .ok (.aload_n 0, 1) := by decide +kernel
theorem d_C_reckon_226 : decode b_C_reckon 226 = .ok (.aload_n 0, 1) := by decide +kernel
theorem d_C_reckon_227 : decode b_C_reckon 227 = .ok (.getfield 99, 3) := by decide +kernel
theorem d_C_reckon_230 : decode b_C_reckon 230 = .ok (.aload_n 0, 1) := by decide +kernel
theorem d_C_reckon_231 : decode b_C_reckon 231 = .ok (.getfield 123, 3) := by decide +kernel
theorem d_C_reckon_234 : decode b_C_reckon 234 = .ok (.iadd, 1) := by decide +kernel
theorem d_C_reckon_235 : decode b_C_reckon 235 = .ok (.invokevirtual 117, 3) := by decide +kernel
theorem d_C_reckon_238 : decode b_C_reckon 238 = .ok (.goto 26, 3) := by decide +kernel
theorem d_C_reckon_241 : decode b_C_reckon 241 = .ok (.aload_n 0, 1) := by decide +kernel
theorem d_C_reckon_242 : decode b_C_reckon 242 = .ok (.aload_n 0, 1) := by decide +kernel
theorem d_C_reckon_243 : decode b_C_reckon 243 = .ok (.getfield 99, 3) := by decide +kernel
theorem d_C_reckon_246 : decode b_C_reckon 246 = .ok (.aload_n 0, 1) := by decide +kernel
theorem d_C_reckon_247 : decode b_C_reckon 247 = .ok (.getfield 114, 3) := by decide +kernel
theorem d_C_reckon_250 : decode b_C_reckon 250 = .ok (.iconst (-1), 1) := by decide +kernel
theorem d_C_reckon_251 : decode b_C_reckon 251 = .ok (.ixor, 1) := by decide +kernel
theorem d_C_reckon_252 : decode b_C_reckon 252 = .ok (.iand, 1) := by decide +kernel
theorem d_C_reckon_253 : decode b_C_reckon 253 = .ok (.putfield 108, 3) := by decide +kernel
theorem d_C_reckon_256 : decode b_C_reckon 256 = .ok (.goto 8, 3) := by decide +kernel
theorem d_C_reckon_259 : decode b_C_reckon 259 = .ok (.aload_n 0, 1) := by decide +kernel
theorem d_C_reckon_260 : decode b_C_reckon 260 = .ok (.iconst 0, 1) := by decide +kernel
theorem d_C_reckon_261 : decode b_C_reckon 261 = .ok (.putfield 108, 3) := by decide +kernel
theorem d_C_reckon_264 : decode b_C_reckon 264 = .ok (.return_, 1) := by decide +kernel
theorem d_C_isFromAlu_0 : decode b_C_isFromAlu 0 = .ok (.iload_n 0, 1) := by decide +kernel
theorem d_C_isFromAlu_1 : decode b_C_isFromAlu 1 = .ok (.ifCond .eq 33, 3) := by decide +kernel
theorem d_C_isFromAlu_4 : decode b_C_isFromAlu 4 = .ok (.iload_n 0, 1) := by decide +kernel
theorem d_C_isFromAlu_5 : decode b_C_isFromAlu 5 = .ok (.iconst 2, 1) := by decide +kernel
theorem d_C_isFromAlu_6 : decode b_C_isFromAlu 6 = .ok (.if_icmp .eq 28, 3) := by decide +kernel
theorem d_C_isFromAlu_9 : decode b_C_isFromAlu 9 = .ok (.iload_n 0, 1) := by decide +kernel
theorem d_C_isFromAlu_10 : decode b_C_isFromAlu 10 = .ok (.iconst 5, 1) := by decide +kernel
theorem d_C_isFromAlu_11 : decode b_C_isFromAlu 11 = .ok (.if_icmp .eq 23, 3) := by decide +kernel
theorem d_C_isFromAlu_14 : decode b_C_isFromAlu 14 = .ok (.iload_n 0, 1) := by decide +kernel
theorem d_C_isFromAlu_15 : decode b_C_isFromAlu 15 = .ok (.bipush 6, 2) := by decide +kernel
theorem d_C_isFromAlu_17 : decode b_C_isFromAlu 17 = .ok (.if_icmp .eq 17, 3) := by decide +kernel
theorem d_C_isFromAlu_20 : decode b_C_isFromAlu 20 = .ok (.iload_n 0, 1) := by decide +kernel
theorem d_C_isFromAlu_21 : decode b_C_isFromAlu 21 = .ok (.i2l, 1) := by decide +kernel
theorem d_C_isFromAlu_22 : decode b_C_isFromAlu 22 = .ok (.ldc2_w 126, 3) := by decide +kernel
theorem d_C_isFromAlu_25 : decode b_C_isFromAlu 25 = .ok (.ldc2_w 128, 3) := by decide +kernel
theorem d_C_isFromAlu_28 : decode b_C_isFromAlu 28 = .ok (.invokestatic 46, 3) := by decide +kernel
theorem d_C_isFromAlu_31 : decode b_C_isFromAlu 31 = .ok (.ifCond .eq 7, 3) := by decide +kernel
theorem d_C_isFromAlu_34 : decode b_C_isFromAlu 34 = .ok (.iconst 1, 1) := by decide +kernel
theorem d_C_isFromAlu_35 : decode b_C_isFromAlu 35 = .ok (.goto 4, 3) := by decide +kernel
theorem d_C_isFromAlu_38 : decode b_C_isFromAlu 38 = .ok (.iconst 0, 1) := by decide +kernel
theorem d_C_isFromAlu_39 : decode b_C_isFromAlu 39 = .ok (.ireturn, 1) := by decide +kernel
theorem d_C_change_0 : decode b_C_change 0 = .ok (.iload_n 1, 1) := by decide +kernel
theorem d_C_change_1 : decode b_C_change 1 = .ok (.tableswitch 110 1 8 #[47, 60, 76, 89, 98, 110, 110, 103], 47) := by decide +kernel
theorem d_C_change_48 : decode b_C_change 48 = .ok (.aload_n 0, 1) := by decide +kernel
theorem d_C_change_49 : decode b_C_change 49 = .ok (.getfield 99, 3) := by decide +kernel
theorem d_C_change_52 : decode b_C_change 52 = .ok (.ifCond .ne 7, 3) := by decide +kernel
theorem d_C_change_55 : decode b_C_change 55 = .ok (.iconst 1, 1) := by decide +kernel
theorem d_C_change_56 : decode b_C_change 56 = .ok (.goto 4, 3) := by decide +kernel
theorem d_C_change_59 : decode b_C_change 59 = .ok (.iconst 0, 1) := by decide +kernel
theorem d_C_change_60 : decode b_C_change 60 = .ok (.ireturn, 1) := by decide +kernel
theorem d_C_change_61 : decode b_C_change 61 = .ok (.aload_n 0, 1) := by decide +kernel
theorem d_C_change_62 : decode b_C_change 62 = .ok (.getfield 93, 3) := by decide +kernel
theorem d_C_change_65 : decode b_C_change 65 = .ok (.ldc 130, 2) := by decide +kernel
theorem d_C_change_67 : decode b_C_change 67 = .ok (.iand, 1) := by decide +kernel
theorem d_C_change_68 : decode b_C_change 68 = .ok (.ifCond .eq 7, 3) := by decide +kernel
theorem d_C_change_71 : decode b_C_change 71 = .ok (.iconst 1, 1) := by decide +kernel
theorem d_C_change_72 : decode b_C_change 72 = .ok (.goto 4, 3) := by decide +kernel
theorem d_C_change_75 : decode b_C_change 75 = .ok (.iconst 0, 1) := by decide +kernel
theorem d_C_change_76 : decode b_C_change 76 = .ok (.ireturn, 1) := by decide +kernel
theorem d_C_change_77 : decode b_C_change 77 = .ok (.aload_n 0, 1) := by decide +kernel
theorem d_C_change_78 : decode b_C_change 78 = .ok (.getfield 93, 3) := by decide +kernel
theorem d_C_change_81 : decode b_C_change 81 = .ok (.ifCond .ne 7, 3) := by decide +kernel
theorem d_C_change_84 : decode b_C_change 84 = .ok (.iconst 1, 1) := by decide +kernel
theorem d_C_change_85 : decode b_C_change 85 = .ok (.goto 4, 3) := by decide +kernel
theorem d_C_change_88 : decode b_C_change 88 = .ok (.iconst 0, 1) := by decide +kernel
theorem d_C_change_89 : decode b_C_change 89 = .ok (.ireturn, 1) := by decide +kernel
theorem d_C_change_90 : decode b_C_change 90 = .ok (.aload_n 0, 1) := by decide +kernel
theorem d_C_change_91 : decode b_C_change 91 = .ok (.getfield 99, 3) := by decide +kernel
theorem d_C_change_94 : decode b_C_change 94 = .ok (.sipush 1023, 3) := by decide +kernel
theorem d_C_change_97 : decode b_C_change 97 = .ok (.iand, 1) := by decide +kernel
theorem d_C_change_98 : decode b_C_change 98 = .ok (.ireturn, 1) := by decide +kernel
theorem d_C_change_99 : decode b_C_change 99 = .ok (.aload_n 0, 1) := by decide +kernel
theorem d_C_change_100 : decode b_C_change 100 = .ok (.getfield 123, 3) := by decide +kernel
theorem d_C_change_103 : decode b_C_change 103 = .ok (.ireturn, 1) := by decide +kernel
theorem d_C_change_104 : decode b_C_change 104 = .ok (.aload_n 0, 1) := by decide +kernel
theorem d_C_change_105 : decode b_C_change 105 = .ok (.getfield 59, 3) := by decide +kernel
theorem d_C_change_108 : decode b_C_change 108 = .ok (.iconst 1, 1) := by decide +kernel
theorem d_C_change_109 : decode b_C_change 109 = .ok (.iand, 1) := by decide +kernel
theorem d_C_change_110 : decode b_C_change 110 = .ok (.ireturn, 1) := by decide +kernel
theorem d_C_change_111 : decode b_C_change 111 = .ok (.iconst 0, 1) := by decide +kernel
theorem d_C_change_112 : decode b_C_change 112 = .ok (.ireturn, 1) := by decide +kernel
theorem d_C_send_0 : decode b_C_send 0 = .ok (.aload_n 0, 1) := by decide +kernel
theorem d_C_send_1 : decode b_C_send 1 = .ok (.getfield 131, 3) := by decide +kernel
theorem d_C_send_4 : decode b_C_send 4 = .ok (.sipush 500, 3) := by decide +kernel
theorem d_C_send_7 : decode b_C_send 7 = .ok (.if_icmp .ge 16, 3) := by decide +kernel
theorem d_C_send_10 : decode b_C_send 10 = .ok (.aload_n 0, 1) := by decide +kernel
theorem d_C_send_11 : decode b_C_send 11 = .ok (.getfield 31, 3) := by decide +kernel
theorem d_C_send_14 : decode b_C_send 14 = .ok (.aload_n 0, 1) := by decide +kernel
theorem d_C_send_15 : decode b_C_send 15 = .ok (.getfield 131, 3) := by decide +kernel
theorem d_C_send_18 : decode b_C_send 18 = .ok (.aload_n 0, 1) := by decide +kernel
theorem d_C_send_19 : decode b_C_send 19 = .ok (.getfield 99, 3) := by decide +kernel
theorem d_C_send_22 : decode b_C_send 22 = .ok (.iastore, 1) := by decide +kernel
theorem d_C_send_23 : decode b_C_send 23 = .ok (.aload_n 0, 1) := by decide +kernel
theorem d_C_send_24 : decode b_C_send 24 = .ok (.dup, 1) := by decide +kernel
theorem d_C_send_25 : decode b_C_send 25 = .ok (.getfield 131, 3) := by decide +kernel
theorem d_C_send_28 : decode b_C_send 28 = .ok (.iconst 1, 1) := by decide +kernel
theorem d_C_send_29 : decode b_C_send 29 = .ok (.iadd, 1) := by decide +kernel
theorem d_C_send_30 : decode b_C_send 30 = .ok (.putfield 131, 3) := by decide +kernel
theorem d_C_send_33 : decode b_C_send 33 = .ok (.return_, 1) := by decide +kernel
theorem d_C_step_0 : decode b_C_step 0 = .ok (.aload_n 0, 1) := by decide +kernel
theorem d_C_step_1 : decode b_C_step 1 = .ok (.aload_n 1, 1) := by decide +kernel
theorem d_C_step_2 : decode b_C_step 2 = .ok (.getfield 77, 3) := by decide +kernel
theorem d_C_step_5 : decode b_C_step 5 = .ok (.invokevirtual 134, 3) := by decide +kernel
theorem d_C_step_8 : decode b_C_step 8 = .ok (.aload_n 0, 1) := by decide +kernel
theorem d_C_step_9 : decode b_C_step 9 = .ok (.aload_n 1, 1) := by decide +kernel
theorem d_C_step_10 : decode b_C_step 10 = .ok (.invokevirtual 137, 3) := by decide +kernel
theorem d_C_step_13 : decode b_C_step 13 = .ok (.aload_n 0, 1) := by decide +kernel
theorem d_C_step_14 : decode b_C_step 14 = .ok (.aload_n 1, 1) := by decide +kernel
theorem d_C_step_15 : decode b_C_step 15 = .ok (.getfield 141, 3) := by decide +kernel
theorem d_C_step_18 : decode b_C_step 18 = .ok (.invokevirtual 144, 3) := by decide +kernel
theorem d_C_step_21 : decode b_C_step 21 = .ok (.aload_n 0, 1) := by decide +kernel
theorem d_C_step_22 : decode b_C_step 22 = .ok (.aload_n 1, 1) := by decide +kernel
theorem d_C_step_23 : decode b_C_step 23 = .ok (.getfield 87, 3) := by decide +kernel
theorem d_C_step_26 : decode b_C_step 26 = .ok (.invokevirtual 147, 3) := by decide +kernel
theorem d_C_step_29 : decode b_C_step 29 = .ok (.istore_n 3, 1) := by decide +kernel
theorem d_C_step_30 : decode b_C_step 30 = .ok (.aload_n 1, 1) := by decide +kernel
theorem d_C_step_31 : decode b_C_step 31 = .ok (.getfield 87, 3) := by decide +kernel
theorem d_C_step_34 : decode b_C_step 34 = .ok (.bipush 6, 2) := by decide +kernel
theorem d_C_step_36 : decode b_C_step 36 = .ok (.if_icmp .ne 20, 3) := by decide +kernel
theorem d_C_step_39 : decode b_C_step 39 = .ok (.aload_n 0, 1) := by decide +kernel
theorem d_C_step_40 : decode b_C_step 40 = .ok (.getfield 19, 3) := by decide +kernel
theorem d_C_step_43 : decode b_C_step 43 = .ok (.aload_n 0, 1) := by decide +kernel
theorem d_C_step_44 : decode b_C_step 44 = .ok (.getfield 105, 3) := by decide +kernel
theorem d_C_step_47 : decode b_C_step 47 = .ok (.sipush 1023, 3) := by decide +kernel
theorem d_C_step_50 : decode b_C_step 50 = .ok (.iand, 1) := by decide +kernel
theorem d_C_step_51 : decode b_C_step 51 = .ok (.aload_n 0, 1) := by decide +kernel
theorem d_C_step_52 : decode b_C_step 52 = .ok (.getfield 99, 3) := by decide +kernel
theorem d_C_step_55 : decode b_C_step 55 = .ok (.iastore, 1) := by decide +kernel
theorem d_C_step_56 : decode b_C_step 56 = .ok (.aload_n 1, 1) := by decide +kernel
theorem d_C_step_57 : decode b_C_step 57 = .ok (.getfield 80, 3) := by decide +kernel
theorem d_C_step_60 : decode b_C_step 60 = .ok (.iconst 1, 1) := by decide +kernel
theorem d_C_step_61 : decode b_C_step 61 = .ok (.if_icmp .ne 23, 3) := by decide +kernel
theorem d_C_step_64 : decode b_C_step 64 = .ok (.aload_n 1, 1) := by decide +kernel
theorem d_C_step_65 : decode b_C_step 65 = .ok (.invokevirtual 83, 3) := by decide +kernel
theorem d_C_step_68 : decode b_C_step 68 = .ok (.ifCond .ne 16, 3) := by decide +kernel
theorem d_C_step_71 : decode b_C_step 71 = .ok (.aload_n 0, 1) := by decide +kernel
theorem d_C_step_72 : decode b_C_step 72 = .ok (.getfield 22, 3) := by decide +kernel
theorem d_C_step_75 : decode b_C_step 75 = .ok (.aload_n 1, 1) := by decide +kernel
theorem d_C_step_76 : decode b_C_step 76 = .ok (.getfield 96, 3) := by decide +kernel
theorem d_C_step_79 : decode b_C_step 79 = .ok (.aload_n 0, 1) := by decide +kernel
theorem d_C_step_80 : decode b_C_step 80 = .ok (.getfield 93, 3) := by decide +kernel
theorem d_C_step_83 : decode b_C_step 83 = .ok (.iastore, 1) := by decide +kernel
theorem d_C_step_84 : decode b_C_step 84 = .ok (.aload_n 1, 1) := by decide +kernel
theorem d_C_step_85 : decode b_C_step 85 = .ok (.getfield 77, 3) := by decide +kernel
theorem d_C_step_88 : decode b_C_step 88 = .ok (.iconst 1, 1) := by decide +kernel
theorem d_C_step_89 : decode b_C_step 89 = .ok (.if_icmp .ne 19, 3) := by decide +kernel
theorem d_C_step_92 : decode b_C_step 92 = .ok (.aload_n 0, 1) := by decide +kernel
theorem d_C_step_93 : decode b_C_step 93 = .ok (.aload_n 0, 1) := by decide +kernel
theorem d_C_step_94 : decode b_C_step 94 = .ok (.getfield 108, 3) := by decide +kernel
theorem d_C_step_97 : decode b_C_step 97 = .ok (.putfield 105, 3) := by decide +kernel
theorem d_C_step_100 : decode b_C_step 100 = .ok (.aload_n 0, 1) := by decide +kernel
theorem d_C_step_101 : decode b_C_step 101 = .ok (.aload_n 0, 1) := by decide +kernel
theorem d_C_step_102 : decode b_C_step 102 = .ok (.getfield 74, 3) := by decide +kernel
theorem d_C_step_105 : decode b_C_step 105 = .ok (.putfield 34, 3) := by decide +kernel
theorem d_C_step_108 : decode b_C_step 108 = .ok (.aload_n 1, 1) := by decide +kernel
theorem d_C_step_109 : decode b_C_step 109 = .ok (.getfield 77, 3) := by decide +kernel
theorem d_C_step_112 : decode b_C_step 112 = .ok (.bipush 8, 2) := by decide +kernel
theorem d_C_step_114 : decode b_C_step 114 = .ok (.if_icmp .ne 7, 3) := by decide +kernel
theorem d_C_step_117 : decode b_C_step 117 = .ok (.aload_n 0, 1) := by decide +kernel
theorem d_C_step_118 : decode b_C_step 118 = .ok (.invokevirtual 150, 3) := by decide +kernel
theorem d_C_step_121 : decode b_C_step 121 = .ok (.aload_n 1, 1) := by decide +kernel
theorem d_C_step_122 : decode b_C_step 122 = .ok (.getfield 153, 3) := by decide +kernel
theorem d_C_step_125 : decode b_C_step 125 = .ok (.ifCond .eq 28, 3) := by decide +kernel
theorem d_C_step_128 : decode b_C_step 128 = .ok (.aload_n 0, 1) := by decide +kernel
theorem d_C_step_129 : decode b_C_step 129 = .ok (.aload_n 1, 1) := by decide +kernel
theorem d_C_step_130 : decode b_C_step 130 = .ok (.getfield 141, 3) := by decide +kernel
theorem d_C_step_133 : decode b_C_step 133 = .ok (.invokestatic 156, 3) := by decide +kernel
theorem d_C_step_136 : decode b_C_step 136 = .ok (.ifCond .eq 10, 3) := by decide +kernel
theorem d_C_step_139 : decode b_C_step 139 = .ok (.aload_n 0, 1) := by decide +kernel
theorem d_C_step_140 : decode b_C_step 140 = .ok (.getfield 108, 3) := by decide +kernel
theorem d_C_step_143 : decode b_C_step 143 = .ok (.goto 7, 3) := by decide +kernel
theorem d_C_step_146 : decode b_C_step 146 = .ok (.aload_n 0, 1) := by decide +kernel
theorem d_C_step_147 : decode b_C_step 147 = .ok (.getfield 99, 3) := by decide +kernel
theorem d_C_step_150 : decode b_C_step 150 = .ok (.putfield 114, 3) := by decide +kernel
theorem d_C_step_153 : decode b_C_step 153 = .ok (.aload_n 1, 1) := by decide +kernel
theorem d_C_step_154 : decode b_C_step 154 = .ok (.getfield 159, 3) := by decide +kernel
theorem d_C_step_157 : decode b_C_step 157 = .ok (.ifCond .eq 19, 3) := by decide +kernel
theorem d_C_step_160 : decode b_C_step 160 = .ok (.aload_n 0, 1) := by decide +kernel
theorem d_C_step_161 : decode b_C_step 161 = .ok (.aload_n 0, 1) := by decide +kernel
theorem d_C_step_162 : decode b_C_step 162 = .ok (.getfield 108, 3) := by decide +kernel
theorem d_C_step_165 : decode b_C_step 165 = .ok (.putfield 90, 3) := by decide +kernel
theorem d_C_step_168 : decode b_C_step 168 = .ok (.aload_n 0, 1) := by decide +kernel
theorem d_C_step_169 : decode b_C_step 169 = .ok (.aload_n 0, 1) := by decide +kernel
theorem d_C_step_170 : decode b_C_step 170 = .ok (.getfield 111, 3) := by decide +kernel
theorem d_C_step_173 : decode b_C_step 173 = .ok (.putfield 123, 3) := by decide +kernel
theorem d_C_step_176 : decode b_C_step 176 = .ok (.aload_n 1, 1) := by decide +kernel
theorem d_C_step_177 : decode b_C_step 177 = .ok (.getfield 77, 3) := by decide +kernel
theorem d_C_step_180 : decode b_C_step 180 = .ok (.iconst 3, 1) := by decide +kernel
theorem d_C_step_181 : decode b_C_step 181 = .ok (.if_icmp .ne 22, 3) := by decide +kernel
theorem d_C_step_184 : decode b_C_step 184 = .ok (.aload_n 2, 1) := by decide +kernel
theorem d_C_step_185 : decode b_C_step 185 = .ok (.aload_n 2, 1) := by decide +kernel
theorem d_C_step_186 : decode b_C_step 186 = .ok (.aload_n 0, 1) := by decide +kernel
theorem d_C_step_187 : decode b_C_step 187 = .ok (.getfield 27, 3) := by decide +kernel
theorem d_C_step_190 : decode b_C_step 190 = .ok (.iconst 0, 1) := by decide +kernel
theorem d_C_step_191 : decode b_C_step 191 = .ok (.aaload, 1) := by decide +kernel
theorem d_C_step_192 : decode b_C_step 192 = .ok (.if_acmp .ne 7, 3) := by decide +kernel
theorem d_C_step_195 : decode b_C_step 195 = .ok (.iconst 1, 1) := by decide +kernel
theorem d_C_step_196 : decode b_C_step 196 = .ok (.goto 4, 3) := by decide +kernel
theorem d_C_step_199 : decode b_C_step 199 = .ok (.iconst 0, 1) := by decide +kernel
theorem d_C_step_200 : decode b_C_step 200 = .ok (.putfield 40, 3) := by decide +kernel
theorem d_C_step_203 : decode b_C_step 203 = .ok (.aload_n 2, 1) := by decide +kernel
theorem d_C_step_204 : decode b_C_step 204 = .ok (.aload_n 1, 1) := by decide +kernel
theorem d_C_step_205 : decode b_C_step 205 = .ok (.getfield 162, 3) := by decide +kernel
theorem d_C_step_208 : decode b_C_step 208 = .ok (.aload_n 2, 1) := by decide +kernel
theorem d_C_step_209 : decode b_C_step 209 = .ok (.getfield 71, 3) := by decide +kernel
theorem d_C_step_212 : decode b_C_step 212 = .ok (.ior, 1) := by decide +kernel
theorem d_C_step_213 : decode b_C_step 213 = .ok (.putfield 68, 3) := by decide +kernel
theorem d_C_step_216 : decode b_C_step 216 = .ok (.aload_n 2, 1) := by decide +kernel
theorem d_C_step_217 : decode b_C_step 217 = .ok (.iload_n 3, 1) := by decide +kernel
theorem d_C_step_218 : decode b_C_step 218 = .ok (.putfield 71, 3) := by decide +kernel
theorem d_C_step_221 : decode b_C_step 221 = .ok (.aload_n 2, 1) := by decide +kernel
theorem d_C_step_222 : decode b_C_step 222 = .ok (.dup, 1) := by decide +kernel
theorem d_C_step_223 : decode b_C_step 223 = .ok (.getfield 165, 3) := by decide +kernel
theorem d_C_step_226 : decode b_C_step 226 = .ok (.iconst 1, 1) := by decide +kernel
theorem d_C_step_227 : decode b_C_step 227 = .ok (.iadd, 1) := by decide +kernel
theorem d_C_step_228 : decode b_C_step 228 = .ok (.putfield 165, 3) := by decide +kernel
theorem d_C_step_231 : decode b_C_step 231 = .ok (.return_, 1) := by decide +kernel
theorem d_C_greatest_0 : decode b_C_greatest 0 = .ok (.bipush 15, 2) := by decide +kernel
theorem d_C_greatest_2 : decode b_C_greatest 2 = .ok (.istore_n 1, 1) := by decide +kernel
theorem d_C_greatest_3 : decode b_C_greatest 3 = .ok (.aload_n 0, 1) := by decide +kernel
theorem d_C_greatest_4 : decode b_C_greatest 4 = .ok (.getfield 27, 3) := by decide +kernel
theorem d_C_greatest_7 : decode b_C_greatest 7 = .ok (.iload_n 1, 1) := by decide +kernel
theorem d_C_greatest_8 : decode b_C_greatest 8 = .ok (.aaload, 1) := by decide +kernel
theorem d_C_greatest_9 : decode b_C_greatest 9 = .ok (.getfield 40, 3) := by decide +kernel
theorem d_C_greatest_12 : decode b_C_greatest 12 = .ok (.ifCond .ne 9, 3) := by decide +kernel
theorem d_C_greatest_15 : decode b_C_greatest 15 = .ok (.iinc 1 (-1), 3) := by decide +kernel
theorem d_C_greatest_18 : decode b_C_greatest 18 = .ok (.goto (-15), 3) := by decide +kernel
theorem d_C_greatest_21 : decode b_C_greatest 21 = .ok (.iload_n 1, 1) := by decide +kernel
theorem d_C_greatest_22 : decode b_C_greatest 22 = .ok (.ireturn, 1) := by decide +kernel
theorem d_C_run_0 : decode b_C_run 0 = .ok (.iload_n 1, 1) := by decide +kernel
theorem d_C_run_1 : decode b_C_run 1 = .ok (.i2l, 1) := by decide +kernel
theorem d_C_run_2 : decode b_C_run 2 = .ok (.lconst 1, 1) := by decide +kernel
theorem d_C_run_3 : decode b_C_run 3 = .ok (.ldc2_w 168, 3) := by decide +kernel
theorem d_C_run_6 : decode b_C_run 6 = .ok (.invokestatic 46, 3) := by decide +kernel
theorem d_C_run_9 : decode b_C_run 9 = .ok (.ifCond .ne 5, 3) := by decide +kernel
theorem d_C_run_12 : decode b_C_run 12 = .ok (.iconst (-1), 1) := by decide +kernel
theorem d_C_run_13 : decode b_C_run 13 = .ok (.ireturn, 1) := by decide +kernel
theorem d_C_run_14 : decode b_C_run 14 = .ok (.iconst 0, 1) := by decide +kernel
theorem d_C_run_15 : decode b_C_run 15 = .ok (.istore_n 2, 1) := by decide +kernel
theorem d_C_run_16 : decode b_C_run 16 = .ok (.iconst 0, 1) := by decide +kernel
theorem d_C_run_17 : decode b_C_run 17 = .ok (.istore_n 3, 1) := by decide +kernel
theorem d_C_run_18 : decode b_C_run 18 = .ok (.iload_n 3, 1) := by decide +kernel
theorem d_C_run_19 : decode b_C_run 19 = .ok (.iload_n 1, 1) := by decide +kernel
theorem d_C_run_20 : decode b_C_run 20 = .ok (.if_icmp .ge 139, 3) := by decide +kernel
theorem d_C_run_23 : decode b_C_run 23 = .ok (.aload_n 0, 1) := by decide +kernel
theorem d_C_run_24 : decode b_C_run 24 = .ok (.getfield 27, 3) := by decide +kernel
theorem d_C_run_27 : decode b_C_run 27 = .ok (.aload_n 0, 1) := by decide +kernel
theorem d_C_run_28 : decode b_C_run 28 = .ok (.getfield 102, 3) := by decide +kernel
theorem d_C_run_31 : decode b_C_run 31 = .ok (.aaload, 1) := by decide +kernel
theorem d_C_run_32 : decode b_C_run 32 = .ok (.astore 4, 2) := by decide +kernel
theorem d_C_run_34 : decode b_C_run 34 = .ok (.aload_n 0, 1) := by decide +kernel
theorem d_C_run_35 : decode b_C_run 35 = .ok (.getfield 9, 3) := by decide +kernel
theorem d_C_run_38 : decode b_C_run 38 = .ok (.aload 4, 2) := by decide +kernel
theorem d_C_run_40 : decode b_C_run 40 = .ok (.getfield 68, 3) := by decide +kernel
theorem d_C_run_43 : decode b_C_run 43 = .ok (.aaload, 1) := by decide +kernel
theorem d_C_run_44 : decode b_C_run 44 = .ok (.astore 5, 2) := by decide +kernel
theorem d_C_run_46 : decode b_C_run 46 = .ok (.aload_n 0, 1) := by decide +kernel
theorem d_C_run_47 : decode b_C_run 47 = .ok (.aload 5, 2) := by decide +kernel
theorem d_C_run_49 : decode b_C_run 49 = .ok (.invokevirtual 170, 3) := by decide +kernel
theorem d_C_run_52 : decode b_C_run 52 = .ok (.ifCond .eq 16, 3) := by decide +kernel
theorem d_C_run_55 : decode b_C_run 55 = .ok (.aload_n 0, 1) := by decide +kernel
theorem d_C_run_56 : decode b_C_run 56 = .ok (.dup, 1) := by decide +kernel
theorem d_C_run_57 : decode b_C_run 57 = .ok (.getfield 174, 3) := by decide +kernel
theorem d_C_run_60 : decode b_C_run 60 = .ok (.iconst 1, 1) := by decide +kernel
theorem d_C_run_61 : decode b_C_run 61 = .ok (.iadd, 1) := by decide +kernel
theorem d_C_run_62 : decode b_C_run 62 = .ok (.putfield 174, 3) := by decide +kernel
theorem d_C_run_65 : decode b_C_run 65 = .ok (.goto 78, 3) := by decide +kernel
theorem d_C_run_68 : decode b_C_run 68 = .ok (.aload_n 0, 1) := by decide +kernel
theorem d_C_run_69 : decode b_C_run 69 = .ok (.aload 5, 2) := by decide +kernel
theorem d_C_run_71 : decode b_C_run 71 = .ok (.aload 4, 2) := by decide +kernel
theorem d_C_run_73 : decode b_C_run 73 = .ok (.invokevirtual 177, 3) := by decide +kernel
theorem d_C_run_76 : decode b_C_run 76 = .ok (.iinc 2 1, 3) := by decide +kernel
theorem d_C_run_79 : decode b_C_run 79 = .ok (.aload_n 0, 1) := by decide +kernel
theorem d_C_run_80 : decode b_C_run 80 = .ok (.getfield 181, 3) := by decide +kernel
theorem d_C_run_83 : decode b_C_run 83 = .ok (.istore 6, 2) := by decide +kernel
theorem d_C_run_85 : decode b_C_run 85 = .ok (.aload_n 0, 1) := by decide +kernel
theorem d_C_run_86 : decode b_C_run 86 = .ok (.aload 5, 2) := by decide +kernel
theorem d_C_run_88 : decode b_C_run 88 = .ok (.getfield 77, 3) := by decide +kernel
theorem d_C_run_91 : decode b_C_run 91 = .ok (.iconst 2, 1) := by decide +kernel
theorem d_C_run_92 : decode b_C_run 92 = .ok (.if_icmp .ne 7, 3) := by decide +kernel
theorem d_C_run_95 : decode b_C_run 95 = .ok (.iconst 1, 1) := by decide +kernel
theorem d_C_run_96 : decode b_C_run 96 = .ok (.goto 4, 3) := by decide +kernel
theorem d_C_run_99 : decode b_C_run 99 = .ok (.iconst 0, 1) := by decide +kernel
theorem d_C_run_100 : decode b_C_run 100 = .ok (.putfield 181, 3) := by decide +kernel
theorem d_C_run_103 : decode b_C_run 103 = .ok (.iload 6, 2) := by decide +kernel
theorem d_C_run_105 : decode b_C_run 105 = .ok (.ifCond .eq 38, 3) := by decide +kernel
theorem d_C_run_108 : decode b_C_run 108 = .ok (.aload_n 0, 1) := by decide +kernel
theorem d_C_run_109 : decode b_C_run 109 = .ok (.invokevirtual 184, 3) := by decide +kernel
theorem d_C_run_112 : decode b_C_run 112 = .ok (.istore 7, 2) := by decide +kernel
theorem d_C_run_114 : decode b_C_run 114 = .ok (.aload_n 0, 1) := by decide +kernel
theorem d_C_run_115 : decode b_C_run 115 = .ok (.dup, 1) := by decide +kernel
theorem d_C_run_116 : decode b_C_run 116 = .ok (.getfield 188, 3) := by decide +kernel
theorem d_C_run_119 : decode b_C_run 119 = .ok (.iload 7, 2) := by decide +kernel
theorem d_C_run_121 : decode b_C_run 121 = .ok (.aload_n 0, 1) := by decide +kernel
theorem d_C_run_122 : decode b_C_run 122 = .ok (.getfield 102, 3) := by decide +kernel
theorem d_C_run_125 : decode b_C_run 125 = .ok (.if_icmp .ne 7, 3) := by decide +kernel
theorem d_C_run_128 : decode b_C_run 128 = .ok (.iconst 0, 1) := by decide +kernel
theorem d_C_run_129 : decode b_C_run 129 = .ok (.goto 4, 3) := by decide +kernel
theorem d_C_run_132 : decode b_C_run 132 = .ok (.iconst 1, 1) := by decide +kernel
theorem d_C_run_133 : decode b_C_run 133 = .ok (.iadd, 1) := by decide +kernel
theorem d_C_run_134 : decode b_C_run 134 = .ok (.putfield 188, 3) := by decide +kernel
theorem d_C_run_137 : decode b_C_run 137 = .ok (.aload_n 0, 1) := by decide +kernel
theorem d_C_run_138 : decode b_C_run 138 = .ok (.iload 7, 2) := by decide +kernel
theorem d_C_run_140 : decode b_C_run 140 = .ok (.putfield 102, 3) := by decide +kernel
theorem d_C_run_143 : decode b_C_run 143 = .ok (.aload_n 0, 1) := by decide +kernel
theorem d_C_run_144 : decode b_C_run 144 = .ok (.dup, 1) := by decide +kernel
theorem d_C_run_145 : decode b_C_run 145 = .ok (.getfield 74, 3) := by decide +kernel
theorem d_C_run_148 : decode b_C_run 148 = .ok (.iconst 1, 1) := by decide +kernel
theorem d_C_run_149 : decode b_C_run 149 = .ok (.iadd, 1) := by decide +kernel
theorem d_C_run_150 : decode b_C_run 150 = .ok (.putfield 74, 3) := by decide +kernel
theorem d_C_run_153 : decode b_C_run 153 = .ok (.iinc 3 1, 3) := by decide +kernel
theorem d_C_run_156 : decode b_C_run 156 = .ok (.goto (-138), 3) := by decide +kernel
theorem d_C_run_159 : decode b_C_run 159 = .ok (.iload_n 2, 1) := by decide +kernel
theorem d_C_run_160 : decode b_C_run 160 = .ok (.ireturn, 1) := by decide +kernel
theorem d_C_register_0 : decode b_C_register 0 = .ok (.iload_n 1, 1) := by decide +kernel
theorem d_C_register_1 : decode b_C_register 1 = .ok (.tableswitch 51 32 35 #[31, 36, 41, 46], 31) := by decide +kernel
theorem d_C_register_32 : decode b_C_register 32 = .ok (.aload_n 0, 1) := by decide +kernel
theorem d_C_register_33 : decode b_C_register 33 = .ok (.getfield 114, 3) := by decide +kernel
theorem d_C_register_36 : decode b_C_register 36 = .ok (.ireturn, 1) := by decide +kernel
theorem d_C_register_37 : decode b_C_register 37 = .ok (.aload_n 0, 1) := by decide +kernel
theorem d_C_register_38 : decode b_C_register 38 = .ok (.getfield 90, 3) := by decide +kernel
theorem d_C_register_41 : decode b_C_register 41 = .ok (.ireturn, 1) := by decide +kernel
theorem d_C_register_42 : decode b_C_register 42 = .ok (.aload_n 0, 1) := by decide +kernel
theorem d_C_register_43 : decode b_C_register 43 = .ok (.getfield 123, 3) := by decide +kernel
theorem d_C_register_46 : decode b_C_register 46 = .ok (.ireturn, 1) := by decide +kernel
theorem d_C_register_47 : decode b_C_register 47 = .ok (.aload_n 0, 1) := by decide +kernel
theorem d_C_register_48 : decode b_C_register 48 = .ok (.getfield 105, 3) := by decide +kernel
theorem d_C_register_51 : decode b_C_register 51 = .ok (.ireturn, 1) := by decide +kernel
theorem d_C_register_52 : decode b_C_register 52 = .ok (.iload_n 1, 1) := by decide +kernel
theorem d_C_register_53 : decode b_C_register 53 = .ok (.i2l, 1) := by decide +kernel
theorem d_C_register_54 : decode b_C_register 54 = .ok (.lconst 0, 1) := by decide +kernel
theorem d_C_register_55 : decode b_C_register 55 = .ok (.ldc2_w 57, 3) := by decide +kernel
theorem d_C_register_58 : decode b_C_register 58 = .ok (.invokestatic 46, 3) := by decide +kernel
theorem d_C_register_61 : decode b_C_register 61 = .ok (.ifCond .eq 12, 3) := by decide +kernel
theorem d_C_register_64 : decode b_C_register 64 = .ok (.aload_n 0, 1) := by decide +kernel
theorem d_C_register_65 : decode b_C_register 65 = .ok (.getfield 22, 3) := by decide +kernel
theorem d_C_register_68 : decode b_C_register 68 = .ok (.iload_n 1, 1) := by decide +kernel
theorem d_C_register_69 : decode b_C_register 69 = .ok (.iaload, 1) := by decide +kernel
theorem d_C_register_70 : decode b_C_register 70 = .ok (.goto 4, 3) := by decide +kernel
theorem d_C_register_73 : decode b_C_register 73 = .ok (.iconst (-1), 1) := by decide +kernel
theorem d_C_register_74 : decode b_C_register 74 = .ok (.ireturn, 1) := by decide +kernel
theorem d_C_peek_0 : decode b_C_peek 0 = .ok (.iload_n 1, 1) := by decide +kernel
theorem d_C_peek_1 : decode b_C_peek 1 = .ok (.i2l, 1) := by decide +kernel
theorem d_C_peek_2 : decode b_C_peek 2 = .ok (.lconst 0, 1) := by decide +kernel
theorem d_C_peek_3 : decode b_C_peek 3 = .ok (.ldc2_w 44, 3) := by decide +kernel
theorem d_C_peek_6 : decode b_C_peek 6 = .ok (.invokestatic 46, 3) := by decide +kernel
theorem d_C_peek_9 : decode b_C_peek 9 = .ok (.ifCond .eq 12, 3) := by decide +kernel
theorem d_C_peek_12 : decode b_C_peek 12 = .ok (.aload_n 0, 1) := by decide +kernel
theorem d_C_peek_13 : decode b_C_peek 13 = .ok (.getfield 19, 3) := by decide +kernel
theorem d_C_peek_16 : decode b_C_peek 16 = .ok (.iload_n 1, 1) := by decide +kernel
theorem d_C_peek_17 : decode b_C_peek 17 = .ok (.iaload, 1) := by decide +kernel
theorem d_C_peek_18 : decode b_C_peek 18 = .ok (.goto 4, 3) := by decide +kernel
theorem d_C_peek_21 : decode b_C_peek 21 = .ok (.iconst (-1), 1) := by decide +kernel
theorem d_C_peek_22 : decode b_C_peek 22 = .ok (.ireturn, 1) := by decide +kernel
theorem d_C_task_0 : decode b_C_task 0 = .ok (.iload_n 1, 1) := by decide +kernel
theorem d_C_task_1 : decode b_C_task 1 = .ok (.invokestatic 64, 3) := by decide +kernel
theorem d_C_task_4 : decode b_C_task 4 = .ok (.ifCond .ne 5, 3) := by decide +kernel
theorem d_C_task_7 : decode b_C_task 7 = .ok (.iconst (-1), 1) := by decide +kernel
theorem d_C_task_8 : decode b_C_task 8 = .ok (.ireturn, 1) := by decide +kernel
theorem d_C_task_9 : decode b_C_task 9 = .ok (.aload_n 0, 1) := by decide +kernel
theorem d_C_task_10 : decode b_C_task 10 = .ok (.getfield 27, 3) := by decide +kernel
theorem d_C_task_13 : decode b_C_task 13 = .ok (.iload_n 1, 1) := by decide +kernel
theorem d_C_task_14 : decode b_C_task 14 = .ok (.aaload, 1) := by decide +kernel
theorem d_C_task_15 : decode b_C_task 15 = .ok (.astore_n 3, 1) := by decide +kernel
theorem d_C_task_16 : decode b_C_task 16 = .ok (.iload_n 2, 1) := by decide +kernel
theorem d_C_task_17 : decode b_C_task 17 = .ok (.tableswitch 59 0 3 #[31, 36, 41, 54], 31) := by decide +kernel
theorem d_C_task_48 : decode b_C_task 48 = .ok (.aload_n 3, 1) := by decide +kernel
theorem d_C_task_49 : decode b_C_task 49 = .ok (.getfield 68, 3) := by decide +kernel
theorem d_C_task_52 : decode b_C_task 52 = .ok (.ireturn, 1) := by decide +kernel
theorem d_C_task_53 : decode b_C_task 53 = .ok (.aload_n 3, 1) := by decide +kernel
theorem d_C_task_54 : decode b_C_task 54 = .ok (.getfield 71, 3) := by decide +kernel
theorem d_C_task_57 : decode b_C_task 57 = .ok (.ireturn, 1) := by decide +kernel
theorem d_C_task_58 : decode b_C_task 58 = .ok (.aload_n 3, 1) := by decide +kernel
theorem d_C_task_59 : decode b_C_task 59 = .ok (.getfield 40, 3) := by decide +kernel
theorem d_C_task_62 : decode b_C_task 62 = .ok (.ifCond .eq 7, 3) := by decide +kernel
theorem d_C_task_65 : decode b_C_task 65 = .ok (.iconst 1, 1) := by decide +kernel
theorem d_C_task_66 : decode b_C_task 66 = .ok (.goto 4, 3) := by decide +kernel
theorem d_C_task_69 : decode b_C_task 69 = .ok (.iconst 0, 1) := by decide +kernel
theorem d_C_task_70 : decode b_C_task 70 = .ok (.ireturn, 1) := by decide +kernel
theorem d_C_task_71 : decode b_C_task 71 = .ok (.aload_n 3, 1) := by decide +kernel
theorem d_C_task_72 : decode b_C_task 72 = .ok (.getfield 165, 3) := by decide +kernel
theorem d_C_task_75 : decode b_C_task 75 = .ok (.ireturn, 1) := by decide +kernel
theorem d_C_task_76 : decode b_C_task 76 = .ok (.iconst (-1), 1) := by decide +kernel
theorem d_C_task_77 : decode b_C_task 77 = .ok (.ireturn, 1) := by decide +kernel
theorem d_C_now_0 : decode b_C_now 0 = .ok (.aload_n 0, 1) := by decide +kernel
theorem d_C_now_1 : decode b_C_now 1 = .ok (.getfield 102, 3) := by decide +kernel
theorem d_C_now_4 : decode b_C_now 4 = .ok (.ireturn, 1) := by decide +kernel
theorem d_C_out_0 : decode b_C_out 0 = .ok (.iload_n 1, 1) := by decide +kernel
theorem d_C_out_1 : decode b_C_out 1 = .ok (.i2l, 1) := by decide +kernel
theorem d_C_out_2 : decode b_C_out 2 = .ok (.lconst 0, 1) := by decide +kernel
theorem d_C_out_3 : decode b_C_out 3 = .ok (.sipush 500, 3) := by decide +kernel
theorem d_C_out_6 : decode b_C_out 6 = .ok (.aload_n 0, 1) := by decide +kernel
theorem d_C_out_7 : decode b_C_out 7 = .ok (.getfield 131, 3) := by decide +kernel
theorem d_C_out_10 : decode b_C_out 10 = .ok (.invokestatic 191, 3) := by decide +kernel
theorem d_C_out_13 : decode b_C_out 13 = .ok (.iconst 1, 1) := by decide +kernel
theorem d_C_out_14 : decode b_C_out 14 = .ok (.isub, 1) := by decide +kernel
theorem d_C_out_15 : decode b_C_out 15 = .ok (.i2l, 1) := by decide +kernel
theorem d_C_out_16 : decode b_C_out 16 = .ok (.invokestatic 46, 3) := by decide +kernel
theorem d_C_out_19 : decode b_C_out 19 = .ok (.ifCond .eq 12, 3) := by decide +kernel
theorem d_C_out_22 : decode b_C_out 22 = .ok (.aload_n 0, 1) := by decide +kernel
theorem d_C_out_23 : decode b_C_out 23 = .ok (.getfield 31, 3) := by decide +kernel
theorem d_C_out_26 : decode b_C_out 26 = .ok (.iload_n 1, 1) := by decide +kernel
theorem d_C_out_27 : decode b_C_out 27 = .ok (.iaload, 1) := by decide +kernel
theorem d_C_out_28 : decode b_C_out 28 = .ok (.goto 4, 3) := by decide +kernel
theorem d_C_out_31 : decode b_C_out 31 = .ok (.iconst (-1), 1) := by decide +kernel
theorem d_C_out_32 : decode b_C_out 32 = .ok (.ireturn, 1) := by decide +kernel
theorem d_C_count_0 : decode b_C_count 0 = .ok (.iload_n 1, 1) := by decide +kernel
theorem d_C_count_1 : decode b_C_count 1 = .ok (.tableswitch 51 0 3 #[31, 36, 41, 46], 31) := by decide +kernel
theorem d_C_count_32 : decode b_C_count 32 = .ok (.aload_n 0, 1) := by decide +kernel
theorem d_C_count_33 : decode b_C_count 33 = .ok (.getfield 74, 3) := by decide +kernel
theorem d_C_count_36 : decode b_C_count 36 = .ok (.ireturn, 1) := by decide +kernel
theorem d_C_count_37 : decode b_C_count 37 = .ok (.aload_n 0, 1) := by decide +kernel
theorem d_C_count_38 : decode b_C_count 38 = .ok (.getfield 174, 3) := by decide +kernel
theorem d_C_count_41 : decode b_C_count 41 = .ok (.ireturn, 1) := by decide +kernel
theorem d_C_count_42 : decode b_C_count 42 = .ok (.aload_n 0, 1) := by decide +kernel
theorem d_C_count_43 : decode b_C_count 43 = .ok (.getfield 131, 3) := by decide +kernel
theorem d_C_count_46 : decode b_C_count 46 = .ok (.ireturn, 1) := by decide +kernel
theorem d_C_count_47 : decode b_C_count 47 = .ok (.aload_n 0, 1) := by decide +kernel
theorem d_C_count_48 : decode b_C_count 48 = .ok (.getfield 188, 3) := by decide +kernel
theorem d_C_count_51 : decode b_C_count 51 = .ok (.ireturn, 1) := by decide +kernel
theorem d_C_count_52 : decode b_C_count 52 = .ok (.iconst (-1), 1) := by decide +kernel
theorem d_C_count_53 : decode b_C_count 53 = .ok (.ireturn, 1) := by decide +kernel
theorem d_K_init_0 : decode b_K_init 0 = .ok (.aload_n 0, 1) := by decide +kernel
theorem d_K_init_1 : decode b_K_init 1 = .ok (.invokespecial 3, 3) := by decide +kernel
theorem d_K_init_4 : decode b_K_init 4 = .ok (.return_, 1) := by decide +kernel
theorem d_K_become_0 : decode b_K_become 0 = .ok (.aload_n 0, 1) := by decide +kernel
theorem d_K_become_1 : decode b_K_become 1 = .ok (.iload_n 1, 1) := by decide +kernel
theorem d_K_become_2 : decode b_K_become 2 = .ok (.bipush 27, 2) := by decide +kernel
theorem d_K_become_4 : decode b_K_become 4 = .ok (.iushr, 1) := by decide +kernel
theorem d_K_become_5 : decode b_K_become 5 = .ok (.putfield 9, 3) := by decide +kernel
theorem d_K_become_8 : decode b_K_become 8 = .ok (.aload_n 0, 1) := by decide +kernel
theorem d_K_become_9 : decode b_K_become 9 = .ok (.iload_n 1, 1) := by decide +kernel
theorem d_K_become_10 : decode b_K_become 10 = .ok (.bipush 23, 2) := by decide +kernel
theorem d_K_become_12 : decode b_K_become 12 = .ok (.iushr, 1) := by decide +kernel
theorem d_K_become_13 : decode b_K_become 13 = .ok (.bipush 15, 2) := by decide +kernel
theorem d_K_become_15 : decode b_K_become 15 = .ok (.iand, 1) := by decide +kernel
theorem d_K_become_16 : decode b_K_become 16 = .ok (.putfield 15, 3) := by decide +kernel
theorem d_K_become_19 : decode b_K_become 19 = .ok (.aload_n 0, 1) := by decide +kernel
theorem d_K_become_20 : decode b_K_become 20 = .ok (.iload_n 1, 1) := by decide +kernel
theorem d_K_become_21 : decode b_K_become 21 = .ok (.bipush 20, 2) := by decide +kernel
theorem d_K_become_23 : decode b_K_become 23 = .ok (.iushr, 1) := by decide +kernel
theorem d_K_become_24 : decode b_K_become 24 = .ok (.bipush 7, 2) := by decide +kernel
theorem d_K_become_26 : decode b_K_become 26 = .ok (.iand, 1) := by decide +kernel
theorem d_K_become_27 : decode b_K_become 27 = .ok (.putfield 18, 3) := by decide +kernel
theorem d_K_become_30 : decode b_K_become 30 = .ok (.aload_n 0, 1) := by decide +kernel
theorem d_K_become_31 : decode b_K_become 31 = .ok (.iload_n 1, 1) := by decide +kernel
theorem d_K_become_32 : decode b_K_become 32 = .ok (.bipush 16, 2) := by decide +kernel
theorem d_K_become_34 : decode b_K_become 34 = .ok (.iushr, 1) := by decide +kernel
theorem d_K_become_35 : decode b_K_become 35 = .ok (.bipush 15, 2) := by decide +kernel
theorem d_K_become_37 : decode b_K_become 37 = .ok (.iand, 1) := by decide +kernel
theorem d_K_become_38 : decode b_K_become 38 = .ok (.putfield 21, 3) := by decide +kernel
theorem d_K_become_41 : decode b_K_become 41 = .ok (.aload_n 0, 1) := by decide +kernel
theorem d_K_become_42 : decode b_K_become 42 = .ok (.iload_n 1, 1) := by decide +kernel
theorem d_K_become_43 : decode b_K_become 43 = .ok (.bipush 12, 2) := by decide +kernel
theorem d_K_become_45 : decode b_K_become 45 = .ok (.iushr, 1) := by decide +kernel
theorem d_K_become_46 : decode b_K_become 46 = .ok (.bipush 15, 2) := by decide +kernel
theorem d_K_become_48 : decode b_K_become 48 = .ok (.iand, 1) := by decide +kernel
theorem d_K_become_49 : decode b_K_become 49 = .ok (.putfield 24, 3) := by decide +kernel
theorem d_K_become_52 : decode b_K_become 52 = .ok (.aload_n 0, 1) := by decide +kernel
theorem d_K_become_53 : decode b_K_become 53 = .ok (.iload_n 1, 1) := by decide +kernel
theorem d_K_become_54 : decode b_K_become 54 = .ok (.bipush 11, 2) := by decide +kernel
theorem d_K_become_56 : decode b_K_become 56 = .ok (.ishr, 1) := by decide +kernel
theorem d_K_become_57 : decode b_K_become 57 = .ok (.iconst 1, 1) := by decide +kernel
theorem d_K_become_58 : decode b_K_become 58 = .ok (.iand, 1) := by decide +kernel
theorem d_K_become_59 : decode b_K_become 59 = .ok (.iconst 1, 1) := by decide +kernel
theorem d_K_become_60 : decode b_K_become 60 = .ok (.if_icmp .ne 7, 3) := by decide +kernel
theorem d_K_become_63 : decode b_K_become 63 = .ok (.iconst 1, 1) := by decide +kernel
theorem d_K_become_64 : decode b_K_become 64 = .ok (.goto 4, 3) := by decide +kernel
theorem d_K_become_67 : decode b_K_become 67 = .ok (.iconst 0, 1) := by decide +kernel
theorem d_K_become_68 : decode b_K_become 68 = .ok (.putfield 27, 3) := by decide +kernel
theorem d_K_become_71 : decode b_K_become 71 = .ok (.aload_n 0, 1) := by decide +kernel
theorem d_K_become_72 : decode b_K_become 72 = .ok (.iload_n 1, 1) := by decide +kernel
theorem d_K_become_73 : decode b_K_become 73 = .ok (.bipush 10, 2) := by decide +kernel
theorem d_K_become_75 : decode b_K_become 75 = .ok (.ishr, 1) := by decide +kernel
theorem d_K_become_76 : decode b_K_become 76 = .ok (.iconst 1, 1) := by decide +kernel
theorem d_K_become_77 : decode b_K_become 77 = .ok (.iand, 1) := by decide +kernel
theorem d_K_become_78 : decode b_K_become 78 = .ok (.iconst 1, 1) := by decide +kernel
theorem d_K_become_79 : decode b_K_become 79 = .ok (.if_icmp .ne 7, 3) := by decide +kernel
theorem d_K_become_82 : decode b_K_become 82 = .ok (.iconst 1, 1) := by decide +kernel
theorem d_K_become_83 : decode b_K_become 83 = .ok (.goto 4, 3) := by decide +kernel
theorem d_K_become_86 : decode b_K_become 86 = .ok (.iconst 0, 1) := by decide +kernel
theorem d_K_become_87 : decode b_K_become 87 = .ok (.putfield 31, 3) := by decide +kernel
theorem d_K_become_90 : decode b_K_become 90 = .ok (.aload_n 0, 1) := by decide +kernel
theorem d_K_become_91 : decode b_K_become 91 = .ok (.iload_n 1, 1) := by decide +kernel
theorem d_K_become_92 : decode b_K_become 92 = .ok (.sipush 1023, 3) := by decide +kernel
theorem d_K_become_95 : decode b_K_become 95 = .ok (.iand, 1) := by decide +kernel
theorem d_K_become_96 : decode b_K_become 96 = .ok (.putfield 34, 3) := by decide +kernel
theorem d_K_become_99 : decode b_K_become 99 = .ok (.return_, 1) := by decide +kernel
theorem d_K_isConstant_0 : decode b_K_isConstant 0 = .ok (.aload_n 0, 1) := by decide +kernel
theorem d_K_isConstant_1 : decode b_K_isConstant 1 = .ok (.getfield 21, 3) := by decide +kernel
theorem d_K_isConstant_4 : decode b_K_isConstant 4 = .ok (.bipush 7, 2) := by decide +kernel
theorem d_K_isConstant_6 : decode b_K_isConstant 6 = .ok (.if_icmp .eq 12, 3) := by decide +kernel
theorem d_K_isConstant_9 : decode b_K_isConstant 9 = .ok (.aload_n 0, 1) := by decide +kernel
theorem d_K_isConstant_10 : decode b_K_isConstant 10 = .ok (.getfield 24, 3) := by decide +kernel
theorem d_K_isConstant_13 : decode b_K_isConstant 13 = .ok (.bipush 7, 2) := by decide +kernel
theorem d_K_isConstant_15 : decode b_K_isConstant 15 = .ok (.if_icmp .ne 7, 3) := by decide +kernel
theorem d_K_isConstant_18 : decode b_K_isConstant 18 = .ok (.iconst 1, 1) := by decide +kernel
theorem d_K_isConstant_19 : decode b_K_isConstant 19 = .ok (.goto 4, 3) := by decide +kernel
theorem d_K_isConstant_22 : decode b_K_isConstant 22 = .ok (.iconst 0, 1) := by decide +kernel
theorem d_K_isConstant_23 : decode b_K_isConstant 23 = .ok (.ireturn, 1) := by decide +kernel
theorem d_S_init_0 : decode b_S_init 0 = .ok (.aload_n 0, 1) := by decide +kernel
theorem d_S_init_1 : decode b_S_init 1 = .ok (.invokespecial 1, 3) := by decide +kernel
theorem d_S_init_4 : decode b_S_init 4 = .ok (.return_, 1) := by decide +kernel
end
section
theorem d_M_init_0 : decode b_M_init 0 = .ok (.aload_n 0, 1) := by decide +kernel
theorem d_M_init_1 : decode b_M_init 1 = .ok (.invokespecial 1, 3) := by decide +kernel
theorem d_M_init_4 : decode b_M_init 4 = .ok (.aload_n 0, 1) := by decide +kernel
theorem d_M_init_5 : decode b_M_init 5 = .ok (.sipush 1024, 3) := by decide +kernel
theorem d_M_init_8 : decode b_M_init 8 = .ok (.newarray .int, 2) := by decide +kernel
theorem d_M_init_10 : decode b_M_init 10 = .ok (.putfield 7, 3) := by decide +kernel
theorem d_M_init_13 : decode b_M_init 13 = .ok (.aload_n 0, 1) := by decide +kernel
theorem d_M_init_14 : decode b_M_init 14 = .ok (.sipush 256, 3) := by decide +kernel
theorem d_M_init_17 : decode b_M_init 17 = .ok (.newarray .int, 2) := by decide +kernel
theorem d_M_init_19 : decode b_M_init 19 = .ok (.putfield 13, 3) := by decide +kernel
theorem d_M_init_22 : decode b_M_init 22 = .ok (.aload_n 0, 1) := by decide +kernel
theorem d_M_init_23 : decode b_M_init 23 = .ok (.sipush 1024, 3) := by decide +kernel
theorem d_M_init_26 : decode b_M_init 26 = .ok (.newarray .int, 2) := by decide +kernel
theorem d_M_init_28 : decode b_M_init 28 = .ok (.putfield 16, 3) := by decide +kernel
theorem d_M_init_31 : decode b_M_init 31 = .ok (.aload_n 0, 1) := by decide +kernel
theorem d_M_init_32 : decode b_M_init 32 = .ok (.bipush 32, 2) := by decide +kernel
theorem d_M_init_34 : decode b_M_init 34 = .ok (.newarray .int, 2) := by decide +kernel
theorem d_M_init_36 : decode b_M_init 36 = .ok (.putfield 19, 3) := by decide +kernel
theorem d_M_init_39 : decode b_M_init 39 = .ok (.aload_n 0, 1) := by decide +kernel
theorem d_M_init_40 : decode b_M_init 40 = .ok (.bipush 16, 2) := by decide +kernel
theorem d_M_init_42 : decode b_M_init 42 = .ok (.newarray .int, 2) := by decide +kernel
theorem d_M_init_44 : decode b_M_init 44 = .ok (.putfield 22, 3) := by decide +kernel
theorem d_M_init_47 : decode b_M_init 47 = .ok (.aload_n 0, 1) := by decide +kernel
theorem d_M_init_48 : decode b_M_init 48 = .ok (.bipush 16, 2) := by decide +kernel
theorem d_M_init_50 : decode b_M_init 50 = .ok (.newarray .int, 2) := by decide +kernel
theorem d_M_init_52 : decode b_M_init 52 = .ok (.putfield 25, 3) := by decide +kernel
theorem d_M_init_55 : decode b_M_init 55 = .ok (.aload_n 0, 1) := by decide +kernel
theorem d_M_init_56 : decode b_M_init 56 = .ok (.bipush 16, 2) := by decide +kernel
theorem d_M_init_58 : decode b_M_init 58 = .ok (.newarray .boolean, 2) := by decide +kernel
theorem d_M_init_60 : decode b_M_init 60 = .ok (.putfield 28, 3) := by decide +kernel
theorem d_M_init_63 : decode b_M_init 63 = .ok (.aload_n 0, 1) := by decide +kernel
theorem d_M_init_64 : decode b_M_init 64 = .ok (.bipush 16, 2) := by decide +kernel
theorem d_M_init_66 : decode b_M_init 66 = .ok (.newarray .int, 2) := by decide +kernel
theorem d_M_init_68 : decode b_M_init 68 = .ok (.putfield 32, 3) := by decide +kernel
theorem d_M_init_71 : decode b_M_init 71 = .ok (.aload_n 0, 1) := by decide +kernel
theorem d_M_init_72 : decode b_M_init 72 = .ok (.bipush (-100), 2) := by decide +kernel
theorem d_M_init_74 : decode b_M_init 74 = .ok (.putfield 35, 3) := by decide +kernel
theorem d_M_init_77 : decode b_M_init 77 = .ok (.aload_n 0, 1) := by decide +kernel
theorem d_M_init_78 : decode b_M_init 78 = .ok (.sipush 500, 3) := by decide +kernel
theorem d_M_init_81 : decode b_M_init 81 = .ok (.newarray .int, 2) := by decide +kernel
theorem d_M_init_83 : decode b_M_init 83 = .ok (.putfield 39, 3) := by decide +kernel
theorem d_M_init_86 : decode b_M_init 86 = .ok (.aload_n 0, 1) := by decide +kernel
theorem d_M_init_87 : decode b_M_init 87 = .ok (.getfield 28, 3) := by decide +kernel
theorem d_M_init_90 : decode b_M_init 90 = .ok (.iconst 0, 1) := by decide +kernel
theorem d_M_init_91 : decode b_M_init 91 = .ok (.iconst 1, 1) := by decide +kernel
theorem d_M_init_92 : decode b_M_init 92 = .ok (.bastore, 1) := by decide +kernel
theorem d_M_init_93 : decode b_M_init 93 = .ok (.return_, 1) := by decide +kernel
theorem d_M_within_0 : decode b_M_within 0 = .ok (.iload_n 0, 1) := by decide +kernel
theorem d_M_within_1 : decode b_M_within 1 = .ok (.ifCond .lt 12, 3) := by decide +kernel
theorem d_M_within_4 : decode b_M_within 4 = .ok (.iload_n 0, 1) := by decide +kernel
theorem d_M_within_5 : decode b_M_within 5 = .ok (.iload_n 1, 1) := by decide +kernel
theorem d_M_within_6 : decode b_M_within 6 = .ok (.if_icmp .gt 7, 3) := by decide +kernel
theorem d_M_within_9 : decode b_M_within 9 = .ok (.iconst 1, 1) := by decide +kernel
theorem d_M_within_10 : decode b_M_within 10 = .ok (.goto 4, 3) := by decide +kernel
theorem d_M_within_13 : decode b_M_within 13 = .ok (.iconst 0, 1) := by decide +kernel
theorem d_M_within_14 : decode b_M_within 14 = .ok (.ireturn, 1) := by decide +kernel
theorem d_M_store_0 : decode b_M_store 0 = .ok (.iload_n 1, 1) := by decide +kernel
theorem d_M_store_1 : decode b_M_store 1 = .ok (.sipush 1023, 3) := by decide +kernel
theorem d_M_store_4 : decode b_M_store 4 = .ok (.invokestatic 42, 3) := by decide +kernel
theorem d_M_store_7 : decode b_M_store 7 = .ok (.ifCond .ne 5, 3) := by decide +kernel
theorem d_M_store_10 : decode b_M_store 10 = .ok (.iconst 0, 1) := by decide +kernel
theorem d_M_store_11 : decode b_M_store 11 = .ok (.ireturn, 1) := by decide +kernel
theorem d_M_store_12 : decode b_M_store 12 = .ok (.aload_n 0, 1) := by decide +kernel
theorem d_M_store_13 : decode b_M_store 13 = .ok (.getfield 7, 3) := by decide +kernel
theorem d_M_store_16 : decode b_M_store 16 = .ok (.iload_n 1, 1) := by decide +kernel
theorem d_M_store_17 : decode b_M_store 17 = .ok (.iload_n 2, 1) := by decide +kernel
theorem d_M_store_18 : decode b_M_store 18 = .ok (.iastore, 1) := by decide +kernel
theorem d_M_store_19 : decode b_M_store 19 = .ok (.iconst 1, 1) := by decide +kernel
theorem d_M_store_20 : decode b_M_store 20 = .ok (.ireturn, 1) := by decide +kernel
theorem d_M_constant_0 : decode b_M_constant 0 = .ok (.iload_n 1, 1) := by decide +kernel
theorem d_M_constant_1 : decode b_M_constant 1 = .ok (.sipush 255, 3) := by decide +kernel
theorem d_M_constant_4 : decode b_M_constant 4 = .ok (.invokestatic 42, 3) := by decide +kernel
theorem d_M_constant_7 : decode b_M_constant 7 = .ok (.ifCond .ne 5, 3) := by decide +kernel
theorem d_M_constant_10 : decode b_M_constant 10 = .ok (.iconst 0, 1) := by decide +kernel
theorem d_M_constant_11 : decode b_M_constant 11 = .ok (.ireturn, 1) := by decide +kernel
theorem d_M_constant_12 : decode b_M_constant 12 = .ok (.aload_n 0, 1) := by decide +kernel
theorem d_M_constant_13 : decode b_M_constant 13 = .ok (.getfield 13, 3) := by decide +kernel
theorem d_M_constant_16 : decode b_M_constant 16 = .ok (.iload_n 1, 1) := by decide +kernel
theorem d_M_constant_17 : decode b_M_constant 17 = .ok (.iload_n 2, 1) := by decide +kernel
theorem d_M_constant_18 : decode b_M_constant 18 = .ok (.ldc 46, 2) := by decide +kernel
theorem d_M_constant_20 : decode b_M_constant 20 = .ok (.iand, 1) := by decide +kernel
theorem d_M_constant_21 : decode b_M_constant 21 = .ok (.iastore, 1) := by decide +kernel
theorem d_M_constant_22 : decode b_M_constant 22 = .ok (.iconst 1, 1) := by decide +kernel
theorem d_M_constant_23 : decode b_M_constant 23 = .ok (.ireturn, 1) := by decide +kernel
theorem d_M_poke_0 : decode b_M_poke 0 = .ok (.iload_n 1, 1) := by decide +kernel
theorem d_M_poke_1 : decode b_M_poke 1 = .ok (.sipush 1023, 3) := by decide +kernel
theorem d_M_poke_4 : decode b_M_poke 4 = .ok (.invokestatic 42, 3) := by decide +kernel
theorem d_M_poke_7 : decode b_M_poke 7 = .ok (.ifCond .ne 5, 3) := by decide +kernel
theorem d_M_poke_10 : decode b_M_poke 10 = .ok (.iconst 0, 1) := by decide +kernel
theorem d_M_poke_11 : decode b_M_poke 11 = .ok (.ireturn, 1) := by decide +kernel
theorem d_M_poke_12 : decode b_M_poke 12 = .ok (.aload_n 0, 1) := by decide +kernel
theorem d_M_poke_13 : decode b_M_poke 13 = .ok (.getfield 16, 3) := by decide +kernel
theorem d_M_poke_16 : decode b_M_poke 16 = .ok (.iload_n 1, 1) := by decide +kernel
theorem d_M_poke_17 : decode b_M_poke 17 = .ok (.iload_n 2, 1) := by decide +kernel
theorem d_M_poke_18 : decode b_M_poke 18 = .ok (.ldc 46, 2) := by decide +kernel
theorem d_M_poke_20 : decode b_M_poke 20 = .ok (.iand, 1) := by decide +kernel
theorem d_M_poke_21 : decode b_M_poke 21 = .ok (.iastore, 1) := by decide +kernel
theorem d_M_poke_22 : decode b_M_poke 22 = .ok (.iconst 1, 1) := by decide +kernel
theorem d_M_poke_23 : decode b_M_poke 23 = .ok (.ireturn, 1) := by decide +kernel
theorem d_M_set_0 : decode b_M_set 0 = .ok (.iload_n 1, 1) := by decide +kernel
theorem d_M_set_1 : decode b_M_set 1 = .ok (.bipush 31, 2) := by decide +kernel
theorem d_M_set_3 : decode b_M_set 3 = .ok (.invokestatic 42, 3) := by decide +kernel
theorem d_M_set_6 : decode b_M_set 6 = .ok (.ifCond .ne 5, 3) := by decide +kernel
theorem d_M_set_9 : decode b_M_set 9 = .ok (.iconst 0, 1) := by decide +kernel
theorem d_M_set_10 : decode b_M_set 10 = .ok (.ireturn, 1) := by decide +kernel
theorem d_M_set_11 : decode b_M_set 11 = .ok (.aload_n 0, 1) := by decide +kernel
theorem d_M_set_12 : decode b_M_set 12 = .ok (.getfield 19, 3) := by decide +kernel
theorem d_M_set_15 : decode b_M_set 15 = .ok (.iload_n 1, 1) := by decide +kernel
theorem d_M_set_16 : decode b_M_set 16 = .ok (.iload_n 2, 1) := by decide +kernel
theorem d_M_set_17 : decode b_M_set 17 = .ok (.ldc 46, 2) := by decide +kernel
theorem d_M_set_19 : decode b_M_set 19 = .ok (.iand, 1) := by decide +kernel
theorem d_M_set_20 : decode b_M_set 20 = .ok (.iastore, 1) := by decide +kernel
theorem d_M_set_21 : decode b_M_set 21 = .ok (.iconst 1, 1) := by decide +kernel
theorem d_M_set_22 : decode b_M_set 22 = .ok (.ireturn, 1) := by decide +kernel
theorem d_M_port_0 : decode b_M_port 0 = .ok (.aload_n 0, 1) := by decide +kernel
theorem d_M_port_1 : decode b_M_port 1 = .ok (.iload_n 1, 1) := by decide +kernel
theorem d_M_port_2 : decode b_M_port 2 = .ok (.ldc 46, 2) := by decide +kernel
theorem d_M_port_4 : decode b_M_port 4 = .ok (.iand, 1) := by decide +kernel
theorem d_M_port_5 : decode b_M_port 5 = .ok (.putfield 47, 3) := by decide +kernel
theorem d_M_port_8 : decode b_M_port 8 = .ok (.return_, 1) := by decide +kernel
theorem d_M_wake_0 : decode b_M_wake 0 = .ok (.iload_n 1, 1) := by decide +kernel
theorem d_M_wake_1 : decode b_M_wake 1 = .ok (.bipush 15, 2) := by decide +kernel
theorem d_M_wake_3 : decode b_M_wake 3 = .ok (.invokestatic 42, 3) := by decide +kernel
theorem d_M_wake_6 : decode b_M_wake 6 = .ok (.ifCond .ne 5, 3) := by decide +kernel
theorem d_M_wake_9 : decode b_M_wake 9 = .ok (.iconst 0, 1) := by decide +kernel
theorem d_M_wake_10 : decode b_M_wake 10 = .ok (.ireturn, 1) := by decide +kernel
theorem d_M_wake_11 : decode b_M_wake 11 = .ok (.aload_n 0, 1) := by decide +kernel
theorem d_M_wake_12 : decode b_M_wake 12 = .ok (.getfield 28, 3) := by decide +kernel
theorem d_M_wake_15 : decode b_M_wake 15 = .ok (.iload_n 1, 1) := by decide +kernel
theorem d_M_wake_16 : decode b_M_wake 16 = .ok (.baload, 1) := by decide +kernel
theorem d_M_wake_17 : decode b_M_wake 17 = .ok (.istore_n 2, 1) := by decide +kernel
theorem d_M_wake_18 : decode b_M_wake 18 = .ok (.aload_n 0, 1) := by decide +kernel
theorem d_M_wake_19 : decode b_M_wake 19 = .ok (.getfield 28, 3) := by decide +kernel
theorem d_M_wake_22 : decode b_M_wake 22 = .ok (.iload_n 1, 1) := by decide +kernel
theorem d_M_wake_23 : decode b_M_wake 23 = .ok (.iconst 1, 1) := by decide +kernel
theorem d_M_wake_24 : decode b_M_wake 24 = .ok (.bastore, 1) := by decide +kernel
theorem d_M_wake_25 : decode b_M_wake 25 = .ok (.iload_n 2, 1) := by decide +kernel
theorem d_M_wake_26 : decode b_M_wake 26 = .ok (.ireturn, 1) := by decide +kernel
theorem d_M_start_0 : decode b_M_start 0 = .ok (.iload_n 1, 1) := by decide +kernel
theorem d_M_start_1 : decode b_M_start 1 = .ok (.bipush 15, 2) := by decide +kernel
theorem d_M_start_3 : decode b_M_start 3 = .ok (.invokestatic 42, 3) := by decide +kernel
theorem d_M_start_6 : decode b_M_start 6 = .ok (.ifCond .eq 13, 3) := by decide +kernel
theorem d_M_start_9 : decode b_M_start 9 = .ok (.iload_n 2, 1) := by decide +kernel
theorem d_M_start_10 : decode b_M_start 10 = .ok (.sipush 1023, 3) := by decide +kernel
theorem d_M_start_13 : decode b_M_start 13 = .ok (.invokestatic 42, 3) := by decide +kernel
theorem d_M_start_16 : decode b_M_start 16 = .ok (.ifCond .ne 5, 3) := by decide +kernel
theorem d_M_start_19 : decode b_M_start 19 = .ok (.iconst 0, 1) := by decide +kernel
theorem d_M_start_20 : decode b_M_start 20 = .ok (.ireturn, 1) := by decide +kernel
theorem d_M_start_21 : decode b_M_start 21 = .ok (.aload_n 0, 1) := by decide +kernel
theorem d_M_start_22 : decode b_M_start 22 = .ok (.getfield 22, 3) := by decide +kernel
theorem d_M_start_25 : decode b_M_start 25 = .ok (.iload_n 1, 1) := by decide +kernel
theorem d_M_start_26 : decode b_M_start 26 = .ok (.iload_n 2, 1) := by decide +kernel
theorem d_M_start_27 : decode b_M_start 27 = .ok (.iastore, 1) := by decide +kernel
theorem d_M_start_28 : decode b_M_start 28 = .ok (.aload_n 0, 1) := by decide +kernel
theorem d_M_start_29 : decode b_M_start 29 = .ok (.getfield 25, 3) := by decide +kernel
theorem d_M_start_32 : decode b_M_start 32 = .ok (.iload_n 1, 1) := by decide +kernel
theorem d_M_start_33 : decode b_M_start 33 = .ok (.iconst 0, 1) := by decide +kernel
theorem d_M_start_34 : decode b_M_start 34 = .ok (.iastore, 1) := by decide +kernel
theorem d_M_start_35 : decode b_M_start 35 = .ok (.iconst 1, 1) := by decide +kernel
theorem d_M_start_36 : decode b_M_start 36 = .ok (.ireturn, 1) := by decide +kernel
theorem d_M_hasConstant_0 : decode b_M_hasConstant 0 = .ok (.aload_n 0, 1) := by decide +kernel
theorem d_M_hasConstant_1 : decode b_M_hasConstant 1 = .ok (.getfield 50, 3) := by decide +kernel
theorem d_M_hasConstant_4 : decode b_M_hasConstant 4 = .ok (.bipush 7, 2) := by decide +kernel
theorem d_M_hasConstant_6 : decode b_M_hasConstant 6 = .ok (.if_icmp .eq 12, 3) := by decide +kernel
theorem d_M_hasConstant_9 : decode b_M_hasConstant 9 = .ok (.aload_n 0, 1) := by decide +kernel
theorem d_M_hasConstant_10 : decode b_M_hasConstant 10 = .ok (.getfield 53, 3) := by decide +kernel
theorem d_M_hasConstant_13 : decode b_M_hasConstant 13 = .ok (.bipush 7, 2) := by decide +kernel
theorem d_M_hasConstant_15 : decode b_M_hasConstant 15 = .ok (.if_icmp .ne 7, 3) := by decide +kernel
theorem d_M_hasConstant_18 : decode b_M_hasConstant 18 = .ok (.iconst 1, 1) := by decide +kernel
theorem d_M_hasConstant_19 : decode b_M_hasConstant 19 = .ok (.goto 4, 3) := by decide +kernel
theorem d_M_hasConstant_22 : decode b_M_hasConstant 22 = .ok (.iconst 0, 1) := by decide +kernel
theorem d_M_hasConstant_23 : decode b_M_hasConstant 23 = .ok (.ireturn, 1) := by decide +kernel
theorem d_M_waits_0 : decode b_M_waits 0 = .ok (.aload_n 0, 1) := by decide +kernel
theorem d_M_waits_1 : decode b_M_waits 1 = .ok (.getfield 56, 3) := by decide +kernel
theorem d_M_waits_4 : decode b_M_waits 4 = .ok (.aload_n 0, 1) := by decide +kernel
theorem d_M_waits_5 : decode b_M_waits 5 = .ok (.getfield 35, 3) := by decide +kernel
theorem d_M_waits_8 : decode b_M_waits 8 = .ok (.isub, 1) := by decide +kernel
theorem d_M_waits_9 : decode b_M_waits 9 = .ok (.istore_n 1, 1) := by decide +kernel
theorem d_M_waits_10 : decode b_M_waits 10 = .ok (.aload_n 0, 1) := by decide +kernel
theorem d_M_waits_11 : decode b_M_waits 11 = .ok (.getfield 50, 3) := by decide +kernel
theorem d_M_waits_14 : decode b_M_waits 14 = .ok (.iconst 1, 1) := by decide +kernel
theorem d_M_waits_15 : decode b_M_waits 15 = .ok (.if_icmp .ne 8, 3) := by decide +kernel
theorem d_M_waits_18 : decode b_M_waits 18 = .ok (.iload_n 1, 1) := by decide +kernel
theorem d_M_waits_19 : decode b_M_waits 19 = .ok (.iconst 5, 1) := by decide +kernel
theorem d_M_waits_20 : decode b_M_waits 20 = .ok (.if_icmp .lt 37, 3) := by decide +kernel
theorem d_M_waits_23 : decode b_M_waits 23 = .ok (.aload_n 0, 1) := by decide +kernel
theorem d_M_waits_24 : decode b_M_waits 24 = .ok (.getfield 59, 3) := by decide +kernel
theorem d_M_waits_27 : decode b_M_waits 27 = .ok (.iconst 5, 1) := by decide +kernel
theorem d_M_waits_28 : decode b_M_waits 28 = .ok (.if_icmp .ne 15, 3) := by decide +kernel
theorem d_M_waits_31 : decode b_M_waits 31 = .ok (.aload_n 0, 1) := by decide +kernel
theorem d_M_waits_32 : decode b_M_waits 32 = .ok (.invokevirtual 62, 3) := by decide +kernel
theorem d_M_waits_35 : decode b_M_waits 35 = .ok (.ifCond .ne 8, 3) := by decide +kernel
theorem d_M_waits_38 : decode b_M_waits 38 = .ok (.iload_n 1, 1) := by decide +kernel
theorem d_M_waits_39 : decode b_M_waits 39 = .ok (.iconst 4, 1) := by decide +kernel
theorem d_M_waits_40 : decode b_M_waits 40 = .ok (.if_icmp .lt 17, 3) := by decide +kernel
theorem d_M_waits_43 : decode b_M_waits 43 = .ok (.aload_n 0, 1) := by decide +kernel
theorem d_M_waits_44 : decode b_M_waits 44 = .ok (.getfield 53, 3) := by decide +kernel
theorem d_M_waits_47 : decode b_M_waits 47 = .ok (.bipush 6, 2) := by decide +kernel
theorem d_M_waits_49 : decode b_M_waits 49 = .ok (.if_icmp .ne 12, 3) := by decide +kernel
theorem d_M_waits_52 : decode b_M_waits 52 = .ok (.iload_n 1, 1) := by decide +kernel
theorem d_M_waits_53 : decode b_M_waits 53 = .ok (.iconst 2, 1) := by decide +kernel
theorem d_M_waits_54 : decode b_M_waits 54 = .ok (.if_icmp .ge 7, 3) := by decide +kernel
theorem d_M_waits_57 : decode b_M_waits 57 = .ok (.iconst 1, 1) := by decide +kernel
theorem d_M_waits_58 : decode b_M_waits 58 = .ok (.goto 4, 3) := by decide +kernel
theorem d_M_waits_61 : decode b_M_waits 61 = .ok (.iconst 0, 1) := by decide +kernel
theorem d_M_waits_62 : decode b_M_waits 62 = .ok (.ireturn, 1) := by decide +kernel
theorem d_M_shifted_0 : decode b_M_shifted 0 = .ok (.aload_n 0, 1) := by decide +kernel
theorem d_M_shifted_1 : decode b_M_shifted 1 = .ok (.getfield 50, 3) := by decide +kernel
theorem d_M_shifted_4 : decode b_M_shifted 4 = .ok (.tableswitch 67 4 6 #[28, 38, 45], 28) := by decide +kernel
theorem d_M_shifted_32 : decode b_M_shifted 32 = .ok (.iconst 2, 1) := by decide +kernel
theorem d_M_shifted_33 : decode b_M_shifted 33 = .ok (.aload_n 0, 1) := by decide +kernel
theorem d_M_shifted_34 : decode b_M_shifted 34 = .ok (.getfield 66, 3) := by decide +kernel
theorem d_M_shifted_37 : decode b_M_shifted 37 = .ok (.imul, 1) := by decide +kernel
theorem d_M_shifted_38 : decode b_M_shifted 38 = .ok (.ldc 46, 2) := by decide +kernel
theorem d_M_shifted_40 : decode b_M_shifted 40 = .ok (.iand, 1) := by decide +kernel
theorem d_M_shifted_41 : decode b_M_shifted 41 = .ok (.ireturn, 1) := by decide +kernel
theorem d_M_shifted_42 : decode b_M_shifted 42 = .ok (.aload_n 0, 1) := by decide +kernel
theorem d_M_shifted_43 : decode b_M_shifted 43 = .ok (.getfield 66, 3) := by decide +kernel
theorem d_M_shifted_46 : decode b_M_shifted 46 = .ok (.iconst 2, 1) := by decide +kernel
theorem d_M_shifted_47 : decode b_M_shifted 47 = .ok (.idiv, 1) := by decide +kernel
theorem d_M_shifted_48 : decode b_M_shifted 48 = .ok (.ireturn, 1) := by decide +kernel
theorem d_M_shifted_49 : decode b_M_shifted 49 = .ok (.aload_n 0, 1) := by decide +kernel
theorem d_M_shifted_50 : decode b_M_shifted 50 = .ok (.getfield 66, 3) := by decide +kernel
theorem d_M_shifted_53 : decode b_M_shifted 53 = .ok (.sipush 256, 3) := by decide +kernel
theorem d_M_shifted_56 : decode b_M_shifted 56 = .ok (.irem, 1) := by decide +kernel
theorem d_M_shifted_57 : decode b_M_shifted 57 = .ok (.sipush 256, 3) := by decide +kernel
theorem d_M_shifted_60 : decode b_M_shifted 60 = .ok (.imul, 1) := by decide +kernel
theorem d_M_shifted_61 : decode b_M_shifted 61 = .ok (.aload_n 0, 1) := by decide +kernel
theorem d_M_shifted_62 : decode b_M_shifted 62 = .ok (.getfield 66, 3) := by decide +kernel
theorem d_M_shifted_65 : decode b_M_shifted 65 = .ok (.sipush 256, 3) := by decide +kernel
theorem d_M_shifted_68 : decode b_M_shifted 68 = .ok (.idiv, 1) := by decide +kernel
theorem d_M_shifted_69 : decode b_M_shifted 69 = .ok (.iadd, 1) := by decide +kernel
theorem d_M_shifted_70 : decode b_M_shifted 70 = .ok (.ireturn, 1) := by decide +kernel
theorem d_M_shifted_71 : decode b_M_shifted 71 = .ok (.aload_n 0, 1) := by decide +kernel
theorem d_M_shifted_72 : decode b_M_shifted 72 = .ok (.getfield 66, 3) := by decide +kernel
theorem d_M_shifted_75 : decode b_M_shifted 75 = .ok (.ireturn, 1) := by decide +kernel
theorem d_M_bus_0 : decode b_M_bus 0 = .ok (.aload_n 0, 1) := by decide +kernel
theorem d_M_bus_1 : decode b_M_bus 1 = .ok (.invokevirtual 62, 3) := by decide +kernel
theorem d_M_bus_4 : decode b_M_bus 4 = .ok (.ifCond .eq 21, 3) := by decide +kernel
theorem d_M_bus_7 : decode b_M_bus 7 = .ok (.aload_n 0, 1) := by decide +kernel
theorem d_M_bus_8 : decode b_M_bus 8 = .ok (.getfield 13, 3) := by decide +kernel
theorem d_M_bus_11 : decode b_M_bus 11 = .ok (.bipush 8, 2) := by decide +kernel
theorem d_M_bus_13 : decode b_M_bus 13 = .ok (.aload_n 0, 1) := by decide +kernel
theorem d_M_bus_14 : decode b_M_bus 14 = .ok (.getfield 69, 3) := by decide +kernel
theorem d_M_bus_17 : decode b_M_bus 17 = .ok (.imul, 1) := by decide +kernel
theorem d_M_bus_18 : decode b_M_bus 18 = .ok (.aload_n 0, 1) := by decide +kernel
theorem d_M_bus_19 : decode b_M_bus 19 = .ok (.getfield 59, 3) := by decide +kernel
theorem d_M_bus_22 : decode b_M_bus 22 = .ok (.iadd, 1) := by decide +kernel
theorem d_M_bus_23 : decode b_M_bus 23 = .ok (.iaload, 1) := by decide +kernel
theorem d_M_bus_24 : decode b_M_bus 24 = .ok (.ireturn, 1) := by decide +kernel
theorem d_M_bus_25 : decode b_M_bus 25 = .ok (.aload_n 0, 1) := by decide +kernel
theorem d_M_bus_26 : decode b_M_bus 26 = .ok (.getfield 59, 3) := by decide +kernel
theorem d_M_bus_29 : decode b_M_bus 29 = .ok (.tableswitch 87 0 6 #[43, 53, 55, 58, 63, 68, 82], 43) := by decide +kernel
theorem d_M_bus_72 : decode b_M_bus 72 = .ok (.aload_n 0, 1) := by decide +kernel
theorem d_M_bus_73 : decode b_M_bus 73 = .ok (.getfield 19, 3) := by decide +kernel
theorem d_M_bus_76 : decode b_M_bus 76 = .ok (.aload_n 0, 1) := by decide +kernel
theorem d_M_bus_77 : decode b_M_bus 77 = .ok (.getfield 69, 3) := by decide +kernel
theorem d_M_bus_80 : decode b_M_bus 80 = .ok (.iaload, 1) := by decide +kernel
theorem d_M_bus_81 : decode b_M_bus 81 = .ok (.ireturn, 1) := by decide +kernel
theorem d_M_bus_82 : decode b_M_bus 82 = .ok (.iconst 0, 1) := by decide +kernel
theorem d_M_bus_83 : decode b_M_bus 83 = .ok (.ireturn, 1) := by decide +kernel
theorem d_M_bus_84 : decode b_M_bus 84 = .ok (.ldc 46, 2) := by decide +kernel
theorem d_M_bus_86 : decode b_M_bus 86 = .ok (.ireturn, 1) := by decide +kernel
theorem d_M_bus_87 : decode b_M_bus 87 = .ok (.aload_n 0, 1) := by decide +kernel
theorem d_M_bus_88 : decode b_M_bus 88 = .ok (.getfield 47, 3) := by decide +kernel
theorem d_M_bus_91 : decode b_M_bus 91 = .ok (.ireturn, 1) := by decide +kernel
theorem d_M_bus_92 : decode b_M_bus 92 = .ok (.aload_n 0, 1) := by decide +kernel
theorem d_M_bus_93 : decode b_M_bus 93 = .ok (.getfield 72, 3) := by decide +kernel
theorem d_M_bus_96 : decode b_M_bus 96 = .ok (.ireturn, 1) := by decide +kernel
theorem d_M_bus_97 : decode b_M_bus 97 = .ok (.aload_n 0, 1) := by decide +kernel
theorem d_M_bus_98 : decode b_M_bus 98 = .ok (.getfield 16, 3) := by decide +kernel
theorem d_M_bus_101 : decode b_M_bus 101 = .ok (.aload_n 0, 1) := by decide +kernel
theorem d_M_bus_102 : decode b_M_bus 102 = .ok (.getfield 75, 3) := by decide +kernel
theorem d_M_bus_105 : decode b_M_bus 105 = .ok (.sipush 1024, 3) := by decide +kernel
theorem d_M_bus_108 : decode b_M_bus 108 = .ok (.irem, 1) := by decide +kernel
theorem d_M_bus_109 : decode b_M_bus 109 = .ok (.iaload, 1) := by decide +kernel
theorem d_M_bus_110 : decode b_M_bus 110 = .ok (.ireturn, 1) := by decide +kernel
theorem d_M_bus_111 : decode b_M_bus 111 = .ok (.aload_n 0, 1) := by decide +kernel
theorem d_M_bus_112 : decode b_M_bus 112 = .ok (.getfield 66, 3) := by decide +kernel
theorem d_M_bus_115 : decode b_M_bus 115 = .ok (.ireturn, 1) := by decide +kernel
theorem d_M_bus_116 : decode b_M_bus 116 = .ok (.aload_n 0, 1) := by decide +kernel
theorem d_M_bus_117 : decode b_M_bus 117 = .ok (.getfield 75, 3) := by decide +kernel
theorem d_M_bus_120 : decode b_M_bus 120 = .ok (.ireturn, 1) := by decide +kernel
theorem d_M_add_0 : decode b_M_add 0 = .ok (.aload_n 0, 1) := by decide +kernel
theorem d_M_add_1 : decode b_M_add 1 = .ok (.iload_n 1, 1) := by decide +kernel
theorem d_M_add_2 : decode b_M_add 2 = .ok (.ldc 46, 2) := by decide +kernel
theorem d_M_add_4 : decode b_M_add 4 = .ok (.iand, 1) := by decide +kernel
theorem d_M_add_5 : decode b_M_add 5 = .ok (.putfield 78, 3) := by decide +kernel
theorem d_M_add_8 : decode b_M_add 8 = .ok (.aload_n 0, 1) := by decide +kernel
theorem d_M_add_9 : decode b_M_add 9 = .ok (.iload_n 1, 1) := by decide +kernel
theorem d_M_add_10 : decode b_M_add 10 = .ok (.bipush 16, 2) := by decide +kernel
theorem d_M_add_12 : decode b_M_add 12 = .ok (.ishr, 1) := by decide +kernel
theorem d_M_add_13 : decode b_M_add 13 = .ok (.iconst 1, 1) := by decide +kernel
theorem d_M_add_14 : decode b_M_add 14 = .ok (.iand, 1) := by decide +kernel
theorem d_M_add_15 : decode b_M_add 15 = .ok (.putfield 81, 3) := by decide +kernel
theorem d_M_add_18 : decode b_M_add 18 = .ok (.return_, 1) := by decide +kernel
theorem d_M_take_0 : decode b_M_take 0 = .ok (.aload_n 0, 1) := by decide +kernel
theorem d_M_take_1 : decode b_M_take 1 = .ok (.iload_n 1, 1) := by decide +kernel
theorem d_M_take_2 : decode b_M_take 2 = .ok (.iload_n 2, 1) := by decide +kernel
theorem d_M_take_3 : decode b_M_take 3 = .ok (.isub, 1) := by decide +kernel
theorem d_M_take_4 : decode b_M_take 4 = .ok (.ldc 46, 2) := by decide +kernel
theorem d_M_take_6 : decode b_M_take 6 = .ok (.iand, 1) := by decide +kernel
theorem d_M_take_7 : decode b_M_take 7 = .ok (.putfield 78, 3) := by decide +kernel
theorem d_M_take_10 : decode b_M_take 10 = .ok (.aload_n 0, 1) := by decide +kernel
theorem d_M_take_11 : decode b_M_take 11 = .ok (.iload_n 1, 1) := by decide +kernel
theorem d_M_take_12 : decode b_M_take 12 = .ok (.iload_n 2, 1) := by decide +kernel
theorem d_M_take_13 : decode b_M_take 13 = .ok (.if_icmp .lt 7, 3) := by decide +kernel
theorem d_M_take_16 : decode b_M_take 16 = .ok (.iconst 1, 1) := by decide +kernel
theorem d_M_take_17 : decode b_M_take 17 = .ok (.goto 4, 3) := by decide +kernel
theorem d_M_take_20 : decode b_M_take 20 = .ok (.iconst 0, 1) := by decide +kernel
theorem d_M_take_21 : decode b_M_take 21 = .ok (.putfield 81, 3) := by decide +kernel
theorem d_M_take_24 : decode b_M_take 24 = .ok (.return_, 1) := by decide +kernel
theorem d_M_reckon_0 : decode b_M_reckon 0 = .ok (.aload_n 0, 1) := by decide +kernel
theorem d_M_reckon_1 : decode b_M_reckon 1 = .ok (.iconst 0, 1) := by decide +kernel
theorem d_M_reckon_2 : decode b_M_reckon 2 = .ok (.putfield 81, 3) := by decide +kernel
theorem d_M_reckon_5 : decode b_M_reckon 5 = .ok (.aload_n 0, 1) := by decide +kernel
theorem d_M_reckon_6 : decode b_M_reckon 6 = .ok (.getfield 84, 3) := by decide +kernel
theorem d_M_reckon_9 : decode b_M_reckon 9 = .ok (.tableswitch 231 0 13 #[71, 79, 90, 103, 116, 129, 139, 148, 161, 173, 187, 202, 103, 215], 71) := by decide +kernel
theorem d_M_reckon_80 : decode b_M_reckon 80 = .ok (.aload_n 0, 1) := by decide +kernel
theorem d_M_reckon_81 : decode b_M_reckon 81 = .ok (.iload_n 1, 1) := by decide +kernel
theorem d_M_reckon_82 : decode b_M_reckon 82 = .ok (.putfield 78, 3) := by decide +kernel
theorem d_M_reckon_85 : decode b_M_reckon 85 = .ok (.goto 160, 3) := by decide +kernel
theorem d_M_reckon_88 : decode b_M_reckon 88 = .ok (.aload_n 0, 1) := by decide +kernel
theorem d_M_reckon_89 : decode b_M_reckon 89 = .ok (.aload_n 0, 1) := by decide +kernel
theorem d_M_reckon_90 : decode b_M_reckon 90 = .ok (.getfield 87, 3) := by decide +kernel
theorem d_M_reckon_93 : decode b_M_reckon 93 = .ok (.putfield 78, 3) := by decide +kernel
theorem d_M_reckon_96 : decode b_M_reckon 96 = .ok (.goto 149, 3) := by decide +kernel
theorem d_M_reckon_99 : decode b_M_reckon 99 = .ok (.aload_n 0, 1) := by decide +kernel
theorem d_M_reckon_100 : decode b_M_reckon 100 = .ok (.iload_n 1, 1) := by decide +kernel
theorem d_M_reckon_101 : decode b_M_reckon 101 = .ok (.aload_n 0, 1) := by decide +kernel
theorem d_M_reckon_102 : decode b_M_reckon 102 = .ok (.getfield 87, 3) := by decide +kernel
theorem d_M_reckon_105 : decode b_M_reckon 105 = .ok (.ior, 1) := by decide +kernel
theorem d_M_reckon_106 : decode b_M_reckon 106 = .ok (.putfield 78, 3) := by decide +kernel
theorem d_M_reckon_109 : decode b_M_reckon 109 = .ok (.goto 136, 3) := by decide +kernel
theorem d_M_reckon_112 : decode b_M_reckon 112 = .ok (.aload_n 0, 1) := by decide +kernel
theorem d_M_reckon_113 : decode b_M_reckon 113 = .ok (.iload_n 1, 1) := by decide +kernel
theorem d_M_reckon_114 : decode b_M_reckon 114 = .ok (.aload_n 0, 1) := by decide +kernel
theorem d_M_reckon_115 : decode b_M_reckon 115 = .ok (.getfield 87, 3) := by decide +kernel
theorem d_M_reckon_118 : decode b_M_reckon 118 = .ok (.iand, 1) := by decide +kernel
theorem d_M_reckon_119 : decode b_M_reckon 119 = .ok (.putfield 78, 3) := by decide +kernel
theorem d_M_reckon_122 : decode b_M_reckon 122 = .ok (.goto 123, 3) := by decide +kernel
theorem d_M_reckon_125 : decode b_M_reckon 125 = .ok (.aload_n 0, 1) := by decide +kernel
theorem d_M_reckon_126 : decode b_M_reckon 126 = .ok (.iload_n 1, 1) := by decide +kernel
theorem d_M_reckon_127 : decode b_M_reckon 127 = .ok (.aload_n 0, 1) := by decide +kernel
theorem d_M_reckon_128 : decode b_M_reckon 128 = .ok (.getfield 87, 3) := by decide +kernel
theorem d_M_reckon_131 : decode b_M_reckon 131 = .ok (.ixor, 1) := by decide +kernel
theorem d_M_reckon_132 : decode b_M_reckon 132 = .ok (.putfield 78, 3) := by decide +kernel
theorem d_M_reckon_135 : decode b_M_reckon 135 = .ok (.goto 110, 3) := by decide +kernel
theorem d_M_reckon_138 : decode b_M_reckon 138 = .ok (.aload_n 0, 1) := by decide +kernel
theorem d_M_reckon_139 : decode b_M_reckon 139 = .ok (.iload_n 1, 1) := by decide +kernel
theorem d_M_reckon_140 : decode b_M_reckon 140 = .ok (.iconst 1, 1) := by decide +kernel
theorem d_M_reckon_141 : decode b_M_reckon 141 = .ok (.iadd, 1) := by decide +kernel
theorem d_M_reckon_142 : decode b_M_reckon 142 = .ok (.invokevirtual 90, 3) := by decide +kernel
theorem d_M_reckon_145 : decode b_M_reckon 145 = .ok (.goto 100, 3) := by decide +kernel
theorem d_M_reckon_148 : decode b_M_reckon 148 = .ok (.aload_n 0, 1) := by decide +kernel
theorem d_M_reckon_149 : decode b_M_reckon 149 = .ok (.iload_n 1, 1) := by decide +kernel
theorem d_M_reckon_150 : decode b_M_reckon 150 = .ok (.iconst 1, 1) := by decide +kernel
theorem d_M_reckon_151 : decode b_M_reckon 151 = .ok (.invokevirtual 94, 3) := by decide +kernel
theorem d_M_reckon_154 : decode b_M_reckon 154 = .ok (.goto 91, 3) := by decide +kernel
theorem d_M_reckon_157 : decode b_M_reckon 157 = .ok (.aload_n 0, 1) := by decide +kernel
theorem d_M_reckon_158 : decode b_M_reckon 158 = .ok (.iload_n 1, 1) := by decide +kernel
theorem d_M_reckon_159 : decode b_M_reckon 159 = .ok (.aload_n 0, 1) := by decide +kernel
theorem d_M_reckon_160 : decode b_M_reckon 160 = .ok (.getfield 87, 3) := by decide +kernel
theorem d_M_reckon_163 : decode b_M_reckon 163 = .ok (.iadd, 1) := by decide +kernel
theorem d_M_reckon_164 : decode b_M_reckon 164 = .ok (.invokevirtual 90, 3) := by decide +kernel
theorem d_M_reckon_167 : decode b_M_reckon 167 = .ok (.goto 78, 3) := by decide +kernel
theorem d_M_reckon_170 : decode b_M_reckon 170 = .ok (.aload_n 0, 1) := by decide +kernel
theorem d_M_reckon_171 : decode b_M_reckon 171 = .ok (.iload_n 1, 1) := by decide +kernel
theorem d_M_reckon_172 : decode b_M_reckon 172 = .ok (.aload_n 0, 1) := by decide +kernel
theorem d_M_reckon_173 : decode b_M_reckon 173 = .ok (.getfield 87, 3) := by decide +kernel
theorem d_M_reckon_176 : decode b_M_reckon 176 = .ok (.invokevirtual 94, 3) := by decide +kernel
theorem d_M_reckon_179 : decode b_M_reckon 179 = .ok (.goto 66, 3) := by decide +kernel
theorem d_M_reckon_182 : decode b_M_reckon 182 = .ok (.aload_n 0, 1) := by decide +kernel
theorem d_M_reckon_183 : decode b_M_reckon 183 = .ok (.iload_n 1, 1) := by decide +kernel
theorem d_M_reckon_184 : decode b_M_reckon 184 = .ok (.aload_n 0, 1) := by decide +kernel
theorem d_M_reckon_185 : decode b_M_reckon 185 = .ok (.getfield 87, 3) := by decide +kernel
theorem d_M_reckon_188 : decode b_M_reckon 188 = .ok (.iconst 1, 1) := by decide +kernel
theorem d_M_reckon_189 : decode b_M_reckon 189 = .ok (.iadd, 1) := by decide +kernel
theorem d_M_reckon_190 : decode b_M_reckon 190 = .ok (.invokevirtual 94, 3) := by decide +kernel
theorem d_M_reckon_193 : decode b_M_reckon 193 = .ok (.goto 52, 3) := by decide +kernel
theorem d_M_reckon_196 : decode b_M_reckon 196 = .ok (.aload_n 0, 1) := by decide +kernel
theorem d_M_reckon_197 : decode b_M_reckon 197 = .ok (.iload_n 1, 1) := by decide +kernel
theorem d_M_reckon_198 : decode b_M_reckon 198 = .ok (.aload_n 0, 1) := by decide +kernel
theorem d_M_reckon_199 : decode b_M_reckon 199 = .ok (.getfield 87, 3) := by decide +kernel
theorem d_M_reckon_202 : decode b_M_reckon 202 = .ok (.iadd, 1) := by decide +kernel
theorem d_M_reckon_203 : decode b_M_reckon 203 = .ok (.iconst 1, 1) := by decide +kernel
theorem d_M_reckon_204 : decode b_M_reckon 204 = .ok (.iadd, 1) := by decide +kernel
theorem d_M_reckon_205 : decode b_M_reckon 205 = .ok (.invokevirtual 90, 3) := by decide +kernel
theorem d_M_reckon_208 : decode b_M_reckon 208 = .ok (.goto 37, 3) := by decide +kernel
theorem d_M_reckon_211 : decode b_M_reckon 211 = .ok (.aload_n 0, 1) := by decide +kernel
theorem d_M_reckon_212 : decode b_M_reckon 212 = .ok (.iload_n 1, 1) := by decide +kernel
theorem d_M_reckon_213 : decode b_M_reckon 213 = .ok (.aload_n 0, 1) := by decide +kernel
theorem d_M_reckon_214 : decode b_M_reckon 214 = .ok (.getfield 98, 3) := by decide +kernel
theorem d_M_reckon_217 : decode b_M_reckon 217 = .ok (.iadd, 1) := by decide +kernel
theorem d_M_reckon_218 : decode b_M_reckon 218 = .ok (.invokevirtual 90, 3) := by decide +kernel
theorem d_M_reckon_221 : decode b_M_reckon 221 = .ok (.goto 24, 3) := by decide +kernel
theorem d_M_reckon_224 : decode b_M_reckon 224 = .ok (.aload_n 0, 1) := by decide +kernel
theorem d_M_reckon_225 : decode b_M_reckon 225 = .ok (.iload_n 1, 1) := by decide +kernel
theorem d_M_reckon_226 : decode b_M_reckon 226 = .ok (.ldc 46, 2) := by decide +kernel
theorem d_M_reckon_228 : decode b_M_reckon 228 = .ok (.aload_n 0, 1) := by decide +kernel
theorem d_M_reckon_229 : decode b_M_reckon 229 = .ok (.getfield 87, 3) := by decide +kernel
theorem d_M_reckon_232 : decode b_M_reckon 232 = .ok (.isub, 1) := by decide +kernel
theorem d_M_reckon_233 : decode b_M_reckon 233 = .ok (.iand, 1) := by decide +kernel
theorem d_M_reckon_234 : decode b_M_reckon 234 = .ok (.putfield 78, 3) := by decide +kernel
theorem d_M_reckon_237 : decode b_M_reckon 237 = .ok (.goto 8, 3) := by decide +kernel
theorem d_M_reckon_240 : decode b_M_reckon 240 = .ok (.aload_n 0, 1) := by decide +kernel
theorem d_M_reckon_241 : decode b_M_reckon 241 = .ok (.iconst 0, 1) := by decide +kernel
theorem d_M_reckon_242 : decode b_M_reckon 242 = .ok (.putfield 78, 3) := by decide +kernel
theorem d_M_reckon_245 : decode b_M_reckon 245 = .ok (.return_, 1) := by decide +kernel
theorem d_M_isOfAlu_0 : decode b_M_isOfAlu 0 = .ok (.aload_n 0, 1) := by decide +kernel
theorem d_M_isOfAlu_1 : decode b_M_isOfAlu 1 = .ok (.getfield 84, 3) := by decide +kernel
theorem d_M_isOfAlu_4 : decode b_M_isOfAlu 4 = .ok (.ifCond .eq 46, 3) := by decide +kernel
theorem d_M_isOfAlu_7 : decode b_M_isOfAlu 7 = .ok (.aload_n 0, 1) := by decide +kernel
theorem d_M_isOfAlu_8 : decode b_M_isOfAlu 8 = .ok (.getfield 84, 3) := by decide +kernel
theorem d_M_isOfAlu_11 : decode b_M_isOfAlu 11 = .ok (.iconst 2, 1) := by decide +kernel
theorem d_M_isOfAlu_12 : decode b_M_isOfAlu 12 = .ok (.if_icmp .eq 38, 3) := by decide +kernel
theorem d_M_isOfAlu_15 : decode b_M_isOfAlu 15 = .ok (.aload_n 0, 1) := by decide +kernel
theorem d_M_isOfAlu_16 : decode b_M_isOfAlu 16 = .ok (.getfield 84, 3) := by decide +kernel
theorem d_M_isOfAlu_19 : decode b_M_isOfAlu 19 = .ok (.iconst 5, 1) := by decide +kernel
theorem d_M_isOfAlu_20 : decode b_M_isOfAlu 20 = .ok (.if_icmp .eq 30, 3) := by decide +kernel
theorem d_M_isOfAlu_23 : decode b_M_isOfAlu 23 = .ok (.aload_n 0, 1) := by decide +kernel
theorem d_M_isOfAlu_24 : decode b_M_isOfAlu 24 = .ok (.getfield 84, 3) := by decide +kernel
theorem d_M_isOfAlu_27 : decode b_M_isOfAlu 27 = .ok (.bipush 6, 2) := by decide +kernel
theorem d_M_isOfAlu_29 : decode b_M_isOfAlu 29 = .ok (.if_icmp .eq 21, 3) := by decide +kernel
theorem d_M_isOfAlu_32 : decode b_M_isOfAlu 32 = .ok (.aload_n 0, 1) := by decide +kernel
theorem d_M_isOfAlu_33 : decode b_M_isOfAlu 33 = .ok (.getfield 84, 3) := by decide +kernel
theorem d_M_isOfAlu_36 : decode b_M_isOfAlu 36 = .ok (.bipush 10, 2) := by decide +kernel
theorem d_M_isOfAlu_38 : decode b_M_isOfAlu 38 = .ok (.if_icmp .lt 16, 3) := by decide +kernel
theorem d_M_isOfAlu_41 : decode b_M_isOfAlu 41 = .ok (.aload_n 0, 1) := by decide +kernel
theorem d_M_isOfAlu_42 : decode b_M_isOfAlu 42 = .ok (.getfield 84, 3) := by decide +kernel
theorem d_M_isOfAlu_45 : decode b_M_isOfAlu 45 = .ok (.bipush 12, 2) := by decide +kernel
theorem d_M_isOfAlu_47 : decode b_M_isOfAlu 47 = .ok (.if_icmp .gt 7, 3) := by decide +kernel
theorem d_M_isOfAlu_50 : decode b_M_isOfAlu 50 = .ok (.iconst 1, 1) := by decide +kernel
theorem d_M_isOfAlu_51 : decode b_M_isOfAlu 51 = .ok (.goto 4, 3) := by decide +kernel
theorem d_M_isOfAlu_54 : decode b_M_isOfAlu 54 = .ok (.iconst 0, 1) := by decide +kernel
theorem d_M_isOfAlu_55 : decode b_M_isOfAlu 55 = .ok (.ireturn, 1) := by decide +kernel
theorem d_M_change_0 : decode b_M_change 0 = .ok (.aload_n 0, 1) := by decide +kernel
theorem d_M_change_1 : decode b_M_change 1 = .ok (.getfield 53, 3) := by decide +kernel
theorem d_M_change_4 : decode b_M_change 4 = .ok (.tableswitch 91 1 8 #[48, 58, 63, 73, 79, 91, 91, 84], 48) := by decide +kernel
theorem d_M_change_52 : decode b_M_change 52 = .ok (.iload_n 1, 1) := by decide +kernel
theorem d_M_change_53 : decode b_M_change 53 = .ok (.ifCond .ne 7, 3) := by decide +kernel
theorem d_M_change_56 : decode b_M_change 56 = .ok (.iconst 1, 1) := by decide +kernel
theorem d_M_change_57 : decode b_M_change 57 = .ok (.goto 4, 3) := by decide +kernel
theorem d_M_change_60 : decode b_M_change 60 = .ok (.iconst 0, 1) := by decide +kernel
theorem d_M_change_61 : decode b_M_change 61 = .ok (.ireturn, 1) := by decide +kernel
theorem d_M_change_62 : decode b_M_change 62 = .ok (.iload_n 2, 1) := by decide +kernel
theorem d_M_change_63 : decode b_M_change 63 = .ok (.bipush 15, 2) := by decide +kernel
theorem d_M_change_65 : decode b_M_change 65 = .ok (.ishr, 1) := by decide +kernel
theorem d_M_change_66 : decode b_M_change 66 = .ok (.ireturn, 1) := by decide +kernel
theorem d_M_change_67 : decode b_M_change 67 = .ok (.iload_n 2, 1) := by decide +kernel
theorem d_M_change_68 : decode b_M_change 68 = .ok (.ifCond .ne 7, 3) := by decide +kernel
theorem d_M_change_71 : decode b_M_change 71 = .ok (.iconst 1, 1) := by decide +kernel
theorem d_M_change_72 : decode b_M_change 72 = .ok (.goto 4, 3) := by decide +kernel
theorem d_M_change_75 : decode b_M_change 75 = .ok (.iconst 0, 1) := by decide +kernel
theorem d_M_change_76 : decode b_M_change 76 = .ok (.ireturn, 1) := by decide +kernel
theorem d_M_change_77 : decode b_M_change 77 = .ok (.iload_n 1, 1) := by decide +kernel
theorem d_M_change_78 : decode b_M_change 78 = .ok (.sipush 1024, 3) := by decide +kernel
theorem d_M_change_81 : decode b_M_change 81 = .ok (.irem, 1) := by decide +kernel
theorem d_M_change_82 : decode b_M_change 82 = .ok (.ireturn, 1) := by decide +kernel
theorem d_M_change_83 : decode b_M_change 83 = .ok (.aload_n 0, 1) := by decide +kernel
theorem d_M_change_84 : decode b_M_change 84 = .ok (.getfield 98, 3) := by decide +kernel
theorem d_M_change_87 : decode b_M_change 87 = .ok (.ireturn, 1) := by decide +kernel
theorem d_M_change_88 : decode b_M_change 88 = .ok (.aload_n 0, 1) := by decide +kernel
theorem d_M_change_89 : decode b_M_change 89 = .ok (.getfield 47, 3) := by decide +kernel
theorem d_M_change_92 : decode b_M_change 92 = .ok (.iconst 2, 1) := by decide +kernel
theorem d_M_change_93 : decode b_M_change 93 = .ok (.irem, 1) := by decide +kernel
theorem d_M_change_94 : decode b_M_change 94 = .ok (.ireturn, 1) := by decide +kernel
theorem d_M_change_95 : decode b_M_change 95 = .ok (.iconst 0, 1) := by decide +kernel
theorem d_M_change_96 : decode b_M_change 96 = .ok (.ireturn, 1) := by decide +kernel
theorem d_M_act_0 : decode b_M_act 0 = .ok (.aload_n 0, 1) := by decide +kernel
theorem d_M_act_1 : decode b_M_act 1 = .ok (.invokevirtual 101, 3) := by decide +kernel
theorem d_M_act_4 : decode b_M_act 4 = .ok (.istore_n 2, 1) := by decide +kernel
theorem d_M_act_5 : decode b_M_act 5 = .ok (.aload_n 0, 1) := by decide +kernel
theorem d_M_act_6 : decode b_M_act 6 = .ok (.invokevirtual 105, 3) := by decide +kernel
theorem d_M_act_9 : decode b_M_act 9 = .ok (.istore_n 3, 1) := by decide +kernel
theorem d_M_act_10 : decode b_M_act 10 = .ok (.aload_n 0, 1) := by decide +kernel
theorem d_M_act_11 : decode b_M_act 11 = .ok (.iload_n 3, 1) := by decide +kernel
theorem d_M_act_12 : decode b_M_act 12 = .ok (.invokevirtual 108, 3) := by decide +kernel
theorem d_M_act_15 : decode b_M_act 15 = .ok (.aload_n 0, 1) := by decide +kernel
theorem d_M_act_16 : decode b_M_act 16 = .ok (.iload_n 3, 1) := by decide +kernel
theorem d_M_act_17 : decode b_M_act 17 = .ok (.iload_n 2, 1) := by decide +kernel
theorem d_M_act_18 : decode b_M_act 18 = .ok (.invokevirtual 111, 3) := by decide +kernel
theorem d_M_act_21 : decode b_M_act 21 = .ok (.istore 4, 2) := by decide +kernel
theorem d_M_act_23 : decode b_M_act 23 = .ok (.aload_n 0, 1) := by decide +kernel
theorem d_M_act_24 : decode b_M_act 24 = .ok (.getfield 59, 3) := by decide +kernel
theorem d_M_act_27 : decode b_M_act 27 = .ok (.iconst 1, 1) := by decide +kernel
theorem d_M_act_28 : decode b_M_act 28 = .ok (.if_icmp .ne 20, 3) := by decide +kernel
theorem d_M_act_31 : decode b_M_act 31 = .ok (.aload_n 0, 1) := by decide +kernel
theorem d_M_act_32 : decode b_M_act 32 = .ok (.invokevirtual 62, 3) := by decide +kernel
theorem d_M_act_35 : decode b_M_act 35 = .ok (.ifCond .ne 13, 3) := by decide +kernel
theorem d_M_act_38 : decode b_M_act 38 = .ok (.aload_n 0, 1) := by decide +kernel
theorem d_M_act_39 : decode b_M_act 39 = .ok (.getfield 19, 3) := by decide +kernel
theorem d_M_act_42 : decode b_M_act 42 = .ok (.aload_n 0, 1) := by decide +kernel
theorem d_M_act_43 : decode b_M_act 43 = .ok (.getfield 69, 3) := by decide +kernel
theorem d_M_act_46 : decode b_M_act 46 = .ok (.iload_n 2, 1) := by decide +kernel
theorem d_M_act_47 : decode b_M_act 47 = .ok (.iastore, 1) := by decide +kernel
theorem d_M_act_48 : decode b_M_act 48 = .ok (.aload_n 0, 1) := by decide +kernel
theorem d_M_act_49 : decode b_M_act 49 = .ok (.getfield 53, 3) := by decide +kernel
theorem d_M_act_52 : decode b_M_act 52 = .ok (.bipush 6, 2) := by decide +kernel
theorem d_M_act_54 : decode b_M_act 54 = .ok (.if_icmp .ne 17, 3) := by decide +kernel
theorem d_M_act_57 : decode b_M_act 57 = .ok (.aload_n 0, 1) := by decide +kernel
theorem d_M_act_58 : decode b_M_act 58 = .ok (.getfield 16, 3) := by decide +kernel
theorem d_M_act_61 : decode b_M_act 61 = .ok (.aload_n 0, 1) := by decide +kernel
theorem d_M_act_62 : decode b_M_act 62 = .ok (.getfield 75, 3) := by decide +kernel
theorem d_M_act_65 : decode b_M_act 65 = .ok (.sipush 1024, 3) := by decide +kernel
theorem d_M_act_68 : decode b_M_act 68 = .ok (.irem, 1) := by decide +kernel
theorem d_M_act_69 : decode b_M_act 69 = .ok (.iload_n 3, 1) := by decide +kernel
theorem d_M_act_70 : decode b_M_act 70 = .ok (.iastore, 1) := by decide +kernel
theorem d_M_act_71 : decode b_M_act 71 = .ok (.iload_n 1, 1) := by decide +kernel
theorem d_M_act_72 : decode b_M_act 72 = .ok (.bipush 11, 2) := by decide +kernel
theorem d_M_act_74 : decode b_M_act 74 = .ok (.ishr, 1) := by decide +kernel
theorem d_M_act_75 : decode b_M_act 75 = .ok (.iconst 1, 1) := by decide +kernel
theorem d_M_act_76 : decode b_M_act 76 = .ok (.iand, 1) := by decide +kernel
theorem d_M_act_77 : decode b_M_act 77 = .ok (.iconst 1, 1) := by decide +kernel
theorem d_M_act_78 : decode b_M_act 78 = .ok (.if_icmp .ne 22, 3) := by decide +kernel
theorem d_M_act_81 : decode b_M_act 81 = .ok (.aload_n 0, 1) := by decide +kernel
theorem d_M_act_82 : decode b_M_act 82 = .ok (.aload_n 0, 1) := by decide +kernel
theorem d_M_act_83 : decode b_M_act 83 = .ok (.invokevirtual 115, 3) := by decide +kernel
theorem d_M_act_86 : decode b_M_act 86 = .ok (.ifCond .eq 10, 3) := by decide +kernel
theorem d_M_act_89 : decode b_M_act 89 = .ok (.aload_n 0, 1) := by decide +kernel
theorem d_M_act_90 : decode b_M_act 90 = .ok (.getfield 78, 3) := by decide +kernel
theorem d_M_act_93 : decode b_M_act 93 = .ok (.goto 4, 3) := by decide +kernel
theorem d_M_act_96 : decode b_M_act 96 = .ok (.iload_n 3, 1) := by decide +kernel
theorem d_M_act_97 : decode b_M_act 97 = .ok (.putfield 87, 3) := by decide +kernel
theorem d_M_act_100 : decode b_M_act 100 = .ok (.iload_n 1, 1) := by decide +kernel
theorem d_M_act_101 : decode b_M_act 101 = .ok (.bipush 10, 2) := by decide +kernel
theorem d_M_act_103 : decode b_M_act 103 = .ok (.ishr, 1) := by decide +kernel
theorem d_M_act_104 : decode b_M_act 104 = .ok (.iconst 1, 1) := by decide +kernel
theorem d_M_act_105 : decode b_M_act 105 = .ok (.iand, 1) := by decide +kernel
theorem d_M_act_106 : decode b_M_act 106 = .ok (.iconst 1, 1) := by decide +kernel
theorem d_M_act_107 : decode b_M_act 107 = .ok (.if_icmp .ne 19, 3) := by decide +kernel
theorem d_M_act_110 : decode b_M_act 110 = .ok (.aload_n 0, 1) := by decide +kernel
theorem d_M_act_111 : decode b_M_act 111 = .ok (.aload_n 0, 1) := by decide +kernel
theorem d_M_act_112 : decode b_M_act 112 = .ok (.getfield 78, 3) := by decide +kernel
theorem d_M_act_115 : decode b_M_act 115 = .ok (.putfield 66, 3) := by decide +kernel
theorem d_M_act_118 : decode b_M_act 118 = .ok (.aload_n 0, 1) := by decide +kernel
theorem d_M_act_119 : decode b_M_act 119 = .ok (.aload_n 0, 1) := by decide +kernel
theorem d_M_act_120 : decode b_M_act 120 = .ok (.getfield 81, 3) := by decide +kernel
theorem d_M_act_123 : decode b_M_act 123 = .ok (.putfield 98, 3) := by decide +kernel
theorem d_M_act_126 : decode b_M_act 126 = .ok (.aload_n 0, 1) := by decide +kernel
theorem d_M_act_127 : decode b_M_act 127 = .ok (.getfield 50, 3) := by decide +kernel
theorem d_M_act_130 : decode b_M_act 130 = .ok (.iconst 1, 1) := by decide +kernel
theorem d_M_act_131 : decode b_M_act 131 = .ok (.if_icmp .ne 19, 3) := by decide +kernel
theorem d_M_act_134 : decode b_M_act 134 = .ok (.aload_n 0, 1) := by decide +kernel
theorem d_M_act_135 : decode b_M_act 135 = .ok (.aload_n 0, 1) := by decide +kernel
theorem d_M_act_136 : decode b_M_act 136 = .ok (.getfield 78, 3) := by decide +kernel
theorem d_M_act_139 : decode b_M_act 139 = .ok (.putfield 75, 3) := by decide +kernel
theorem d_M_act_142 : decode b_M_act 142 = .ok (.aload_n 0, 1) := by decide +kernel
theorem d_M_act_143 : decode b_M_act 143 = .ok (.aload_n 0, 1) := by decide +kernel
theorem d_M_act_144 : decode b_M_act 144 = .ok (.getfield 56, 3) := by decide +kernel
theorem d_M_act_147 : decode b_M_act 147 = .ok (.putfield 35, 3) := by decide +kernel
theorem d_M_act_150 : decode b_M_act 150 = .ok (.aload_n 0, 1) := by decide +kernel
theorem d_M_act_151 : decode b_M_act 151 = .ok (.getfield 50, 3) := by decide +kernel
theorem d_M_act_154 : decode b_M_act 154 = .ok (.iconst 3, 1) := by decide +kernel
theorem d_M_act_155 : decode b_M_act 155 = .ok (.if_icmp .ne 20, 3) := by decide +kernel
theorem d_M_act_158 : decode b_M_act 158 = .ok (.aload_n 0, 1) := by decide +kernel
theorem d_M_act_159 : decode b_M_act 159 = .ok (.getfield 72, 3) := by decide +kernel
theorem d_M_act_162 : decode b_M_act 162 = .ok (.ifCond .le 13, 3) := by decide +kernel
theorem d_M_act_165 : decode b_M_act 165 = .ok (.aload_n 0, 1) := by decide +kernel
theorem d_M_act_166 : decode b_M_act 166 = .ok (.getfield 28, 3) := by decide +kernel
theorem d_M_act_169 : decode b_M_act 169 = .ok (.aload_n 0, 1) := by decide +kernel
theorem d_M_act_170 : decode b_M_act 170 = .ok (.getfield 72, 3) := by decide +kernel
theorem d_M_act_173 : decode b_M_act 173 = .ok (.iconst 0, 1) := by decide +kernel
theorem d_M_act_174 : decode b_M_act 174 = .ok (.bastore, 1) := by decide +kernel
theorem d_M_act_175 : decode b_M_act 175 = .ok (.aload_n 0, 1) := by decide +kernel
theorem d_M_act_176 : decode b_M_act 176 = .ok (.getfield 50, 3) := by decide +kernel
theorem d_M_act_179 : decode b_M_act 179 = .ok (.bipush 8, 2) := by decide +kernel
theorem d_M_act_181 : decode b_M_act 181 = .ok (.if_icmp .ne 33, 3) := by decide +kernel
theorem d_M_act_184 : decode b_M_act 184 = .ok (.aload_n 0, 1) := by decide +kernel
theorem d_M_act_185 : decode b_M_act 185 = .ok (.getfield 118, 3) := by decide +kernel
theorem d_M_act_188 : decode b_M_act 188 = .ok (.sipush 500, 3) := by decide +kernel
theorem d_M_act_191 : decode b_M_act 191 = .ok (.if_icmp .ge 13, 3) := by decide +kernel
theorem d_M_act_194 : decode b_M_act 194 = .ok (.aload_n 0, 1) := by decide +kernel
theorem d_M_act_195 : decode b_M_act 195 = .ok (.getfield 39, 3) := by decide +kernel
theorem d_M_act_198 : decode b_M_act 198 = .ok (.aload_n 0, 1) := by decide +kernel
theorem d_M_act_199 : decode b_M_act 199 = .ok (.getfield 118, 3) := by decide +kernel
theorem d_M_act_202 : decode b_M_act 202 = .ok (.iload_n 3, 1) := by decide +kernel
theorem d_M_act_203 : decode b_M_act 203 = .ok (.iastore, 1) := by decide +kernel
theorem d_M_act_204 : decode b_M_act 204 = .ok (.aload_n 0, 1) := by decide +kernel
theorem d_M_act_205 : decode b_M_act 205 = .ok (.dup, 1) := by decide +kernel
theorem d_M_act_206 : decode b_M_act 206 = .ok (.getfield 118, 3) := by decide +kernel
theorem d_M_act_209 : decode b_M_act 209 = .ok (.iconst 1, 1) := by decide +kernel
theorem d_M_act_210 : decode b_M_act 210 = .ok (.iadd, 1) := by decide +kernel
theorem d_M_act_211 : decode b_M_act 211 = .ok (.putfield 118, 3) := by decide +kernel
theorem d_M_act_214 : decode b_M_act 214 = .ok (.aload_n 0, 1) := by decide +kernel
theorem d_M_act_215 : decode b_M_act 215 = .ok (.getfield 22, 3) := by decide +kernel
theorem d_M_act_218 : decode b_M_act 218 = .ok (.aload_n 0, 1) := by decide +kernel
theorem d_M_act_219 : decode b_M_act 219 = .ok (.getfield 72, 3) := by decide +kernel
theorem d_M_act_222 : decode b_M_act 222 = .ok (.iload_n 1, 1) := by decide +kernel
theorem d_M_act_223 : decode b_M_act 223 = .ok (.sipush 1023, 3) := by decide +kernel
theorem d_M_act_226 : decode b_M_act 226 = .ok (.iand, 1) := by decide +kernel
theorem d_M_act_227 : decode b_M_act 227 = .ok (.aload_n 0, 1) := by decide +kernel
theorem d_M_act_228 : decode b_M_act 228 = .ok (.getfield 25, 3) := by decide +kernel
theorem d_M_act_231 : decode b_M_act 231 = .ok (.aload_n 0, 1) := by decide +kernel
theorem d_M_act_232 : decode b_M_act 232 = .ok (.getfield 72, 3) := by decide +kernel
theorem d_M_act_235 : decode b_M_act 235 = .ok (.iaload, 1) := by decide +kernel
theorem d_M_act_236 : decode b_M_act 236 = .ok (.ior, 1) := by decide +kernel
theorem d_M_act_237 : decode b_M_act 237 = .ok (.iastore, 1) := by decide +kernel
theorem d_M_act_238 : decode b_M_act 238 = .ok (.aload_n 0, 1) := by decide +kernel
theorem d_M_act_239 : decode b_M_act 239 = .ok (.getfield 25, 3) := by decide +kernel
theorem d_M_act_242 : decode b_M_act 242 = .ok (.aload_n 0, 1) := by decide +kernel
theorem d_M_act_243 : decode b_M_act 243 = .ok (.getfield 72, 3) := by decide +kernel
theorem d_M_act_246 : decode b_M_act 246 = .ok (.iload 4, 2) := by decide +kernel
theorem d_M_act_248 : decode b_M_act 248 = .ok (.iastore, 1) := by decide +kernel
theorem d_M_act_249 : decode b_M_act 249 = .ok (.aload_n 0, 1) := by decide +kernel
theorem d_M_act_250 : decode b_M_act 250 = .ok (.getfield 32, 3) := by decide +kernel
theorem d_M_act_253 : decode b_M_act 253 = .ok (.aload_n 0, 1) := by decide +kernel
theorem d_M_act_254 : decode b_M_act 254 = .ok (.getfield 72, 3) := by decide +kernel
theorem d_M_act_257 : decode b_M_act 257 = .ok (.dup2, 1) := by decide +kernel
theorem d_M_act_258 : decode b_M_act 258 = .ok (.iaload, 1) := by decide +kernel
theorem d_M_act_259 : decode b_M_act 259 = .ok (.iconst 1, 1) := by decide +kernel
theorem d_M_act_260 : decode b_M_act 260 = .ok (.iadd, 1) := by decide +kernel
theorem d_M_act_261 : decode b_M_act 261 = .ok (.iastore, 1) := by decide +kernel
theorem d_M_act_262 : decode b_M_act 262 = .ok (.return_, 1) := by decide +kernel
theorem d_M_give_0 : decode b_M_give 0 = .ok (.aload_n 0, 1) := by decide +kernel
theorem d_M_give_1 : decode b_M_give 1 = .ok (.getfield 121, 3) := by decide +kernel
theorem d_M_give_4 : decode b_M_give 4 = .ok (.istore_n 2, 1) := by decide +kernel
theorem d_M_give_5 : decode b_M_give 5 = .ok (.aload_n 0, 1) := by decide +kernel
theorem d_M_give_6 : decode b_M_give 6 = .ok (.iload_n 1, 1) := by decide +kernel
theorem d_M_give_7 : decode b_M_give 7 = .ok (.putfield 121, 3) := by decide +kernel
theorem d_M_give_10 : decode b_M_give 10 = .ok (.iload_n 2, 1) := by decide +kernel
theorem d_M_give_11 : decode b_M_give 11 = .ok (.ifCond .eq 51, 3) := by decide +kernel
theorem d_M_give_14 : decode b_M_give 14 = .ok (.bipush 15, 2) := by decide +kernel
theorem d_M_give_16 : decode b_M_give 16 = .ok (.istore_n 3, 1) := by decide +kernel
theorem d_M_give_17 : decode b_M_give 17 = .ok (.aload_n 0, 1) := by decide +kernel
theorem d_M_give_18 : decode b_M_give 18 = .ok (.getfield 28, 3) := by decide +kernel
theorem d_M_give_21 : decode b_M_give 21 = .ok (.iload_n 3, 1) := by decide +kernel
theorem d_M_give_22 : decode b_M_give 22 = .ok (.baload, 1) := by decide +kernel
theorem d_M_give_23 : decode b_M_give 23 = .ok (.ifCond .ne 9, 3) := by decide +kernel
theorem d_M_give_26 : decode b_M_give 26 = .ok (.iinc 3 (-1), 3) := by decide +kernel
theorem d_M_give_29 : decode b_M_give 29 = .ok (.goto (-12), 3) := by decide +kernel
theorem d_M_give_32 : decode b_M_give 32 = .ok (.aload_n 0, 1) := by decide +kernel
theorem d_M_give_33 : decode b_M_give 33 = .ok (.iload_n 3, 1) := by decide +kernel
theorem d_M_give_34 : decode b_M_give 34 = .ok (.aload_n 0, 1) := by decide +kernel
theorem d_M_give_35 : decode b_M_give 35 = .ok (.getfield 72, 3) := by decide +kernel
theorem d_M_give_38 : decode b_M_give 38 = .ok (.if_icmp .ne 10, 3) := by decide +kernel
theorem d_M_give_41 : decode b_M_give 41 = .ok (.aload_n 0, 1) := by decide +kernel
theorem d_M_give_42 : decode b_M_give 42 = .ok (.getfield 125, 3) := by decide +kernel
theorem d_M_give_45 : decode b_M_give 45 = .ok (.goto 9, 3) := by decide +kernel
theorem d_M_give_48 : decode b_M_give 48 = .ok (.aload_n 0, 1) := by decide +kernel
theorem d_M_give_49 : decode b_M_give 49 = .ok (.getfield 125, 3) := by decide +kernel
theorem d_M_give_52 : decode b_M_give 52 = .ok (.iconst 1, 1) := by decide +kernel
theorem d_M_give_53 : decode b_M_give 53 = .ok (.iadd, 1) := by decide +kernel
theorem d_M_give_54 : decode b_M_give 54 = .ok (.putfield 125, 3) := by decide +kernel
theorem d_M_give_57 : decode b_M_give 57 = .ok (.aload_n 0, 1) := by decide +kernel
theorem d_M_give_58 : decode b_M_give 58 = .ok (.iload_n 3, 1) := by decide +kernel
theorem d_M_give_59 : decode b_M_give 59 = .ok (.putfield 72, 3) := by decide +kernel
theorem d_M_give_62 : decode b_M_give 62 = .ok (.return_, 1) := by decide +kernel
theorem d_M_run_0 : decode b_M_run 0 = .ok (.iload_n 1, 1) := by decide +kernel
theorem d_M_run_1 : decode b_M_run 1 = .ok (.iconst 1, 1) := by decide +kernel
theorem d_M_run_2 : decode b_M_run 2 = .ok (.if_icmp .lt 10, 3) := by decide +kernel
theorem d_M_run_5 : decode b_M_run 5 = .ok (.iload_n 1, 1) := by decide +kernel
theorem d_M_run_6 : decode b_M_run 6 = .ok (.sipush 5000, 3) := by decide +kernel
theorem d_M_run_9 : decode b_M_run 9 = .ok (.if_icmp .le 5, 3) := by decide +kernel
theorem d_M_run_12 : decode b_M_run 12 = .ok (.iconst (-1), 1) := by decide +kernel
theorem d_M_run_13 : decode b_M_run 13 = .ok (.ireturn, 1) := by decide +kernel
theorem d_M_run_14 : decode b_M_run 14 = .ok (.iconst 0, 1) := by decide +kernel
theorem d_M_run_15 : decode b_M_run 15 = .ok (.istore_n 2, 1) := by decide +kernel
theorem d_M_run_16 : decode b_M_run 16 = .ok (.iconst 0, 1) := by decide +kernel
theorem d_M_run_17 : decode b_M_run 17 = .ok (.istore_n 3, 1) := by decide +kernel
theorem d_M_run_18 : decode b_M_run 18 = .ok (.iload_n 3, 1) := by decide +kernel
theorem d_M_run_19 : decode b_M_run 19 = .ok (.iload_n 1, 1) := by decide +kernel
theorem d_M_run_20 : decode b_M_run 20 = .ok (.if_icmp .ge 138, 3) := by decide +kernel
theorem d_M_run_23 : decode b_M_run 23 = .ok (.aload_n 0, 1) := by decide +kernel
theorem d_M_run_24 : decode b_M_run 24 = .ok (.getfield 7, 3) := by decide +kernel
theorem d_M_run_27 : decode b_M_run 27 = .ok (.aload_n 0, 1) := by decide +kernel
theorem d_M_run_28 : decode b_M_run 28 = .ok (.getfield 22, 3) := by decide +kernel
theorem d_M_run_31 : decode b_M_run 31 = .ok (.aload_n 0, 1) := by decide +kernel
theorem d_M_run_32 : decode b_M_run 32 = .ok (.getfield 72, 3) := by decide +kernel
theorem d_M_run_35 : decode b_M_run 35 = .ok (.iaload, 1) := by decide +kernel
theorem d_M_run_36 : decode b_M_run 36 = .ok (.iaload, 1) := by decide +kernel
theorem d_M_run_37 : decode b_M_run 37 = .ok (.istore 4, 2) := by decide +kernel
theorem d_M_run_39 : decode b_M_run 39 = .ok (.aload_n 0, 1) := by decide +kernel
theorem d_M_run_40 : decode b_M_run 40 = .ok (.iload 4, 2) := by decide +kernel
theorem d_M_run_42 : decode b_M_run 42 = .ok (.bipush 27, 2) := by decide +kernel
theorem d_M_run_44 : decode b_M_run 44 = .ok (.iushr, 1) := by decide +kernel
theorem d_M_run_45 : decode b_M_run 45 = .ok (.putfield 69, 3) := by decide +kernel
theorem d_M_run_48 : decode b_M_run 48 = .ok (.aload_n 0, 1) := by decide +kernel
theorem d_M_run_49 : decode b_M_run 49 = .ok (.iload 4, 2) := by decide +kernel
theorem d_M_run_51 : decode b_M_run 51 = .ok (.bipush 23, 2) := by decide +kernel
theorem d_M_run_53 : decode b_M_run 53 = .ok (.iushr, 1) := by decide +kernel
theorem d_M_run_54 : decode b_M_run 54 = .ok (.bipush 15, 2) := by decide +kernel
theorem d_M_run_56 : decode b_M_run 56 = .ok (.iand, 1) := by decide +kernel
theorem d_M_run_57 : decode b_M_run 57 = .ok (.putfield 84, 3) := by decide +kernel
theorem d_M_run_60 : decode b_M_run 60 = .ok (.aload_n 0, 1) := by decide +kernel
theorem d_M_run_61 : decode b_M_run 61 = .ok (.iload 4, 2) := by decide +kernel
theorem d_M_run_63 : decode b_M_run 63 = .ok (.bipush 20, 2) := by decide +kernel
theorem d_M_run_65 : decode b_M_run 65 = .ok (.iushr, 1) := by decide +kernel
theorem d_M_run_66 : decode b_M_run 66 = .ok (.bipush 7, 2) := by decide +kernel
theorem d_M_run_68 : decode b_M_run 68 = .ok (.iand, 1) := by decide +kernel
theorem d_M_run_69 : decode b_M_run 69 = .ok (.putfield 59, 3) := by decide +kernel
theorem d_M_run_72 : decode b_M_run 72 = .ok (.aload_n 0, 1) := by decide +kernel
theorem d_M_run_73 : decode b_M_run 73 = .ok (.iload 4, 2) := by decide +kernel
theorem d_M_run_75 : decode b_M_run 75 = .ok (.bipush 16, 2) := by decide +kernel
theorem d_M_run_77 : decode b_M_run 77 = .ok (.iushr, 1) := by decide +kernel
theorem d_M_run_78 : decode b_M_run 78 = .ok (.bipush 15, 2) := by decide +kernel
theorem d_M_run_80 : decode b_M_run 80 = .ok (.iand, 1) := by decide +kernel
theorem d_M_run_81 : decode b_M_run 81 = .ok (.putfield 50, 3) := by decide +kernel
theorem d_M_run_84 : decode b_M_run 84 = .ok (.aload_n 0, 1) := by decide +kernel
theorem d_M_run_85 : decode b_M_run 85 = .ok (.iload 4, 2) := by decide +kernel
theorem d_M_run_87 : decode b_M_run 87 = .ok (.bipush 12, 2) := by decide +kernel
theorem d_M_run_89 : decode b_M_run 89 = .ok (.iushr, 1) := by decide +kernel
theorem d_M_run_90 : decode b_M_run 90 = .ok (.bipush 15, 2) := by decide +kernel
theorem d_M_run_92 : decode b_M_run 92 = .ok (.iand, 1) := by decide +kernel
theorem d_M_run_93 : decode b_M_run 93 = .ok (.putfield 53, 3) := by decide +kernel
theorem d_M_run_96 : decode b_M_run 96 = .ok (.aload_n 0, 1) := by decide +kernel
theorem d_M_run_97 : decode b_M_run 97 = .ok (.invokevirtual 128, 3) := by decide +kernel
theorem d_M_run_100 : decode b_M_run 100 = .ok (.ifCond .eq 16, 3) := by decide +kernel
theorem d_M_run_103 : decode b_M_run 103 = .ok (.aload_n 0, 1) := by decide +kernel
theorem d_M_run_104 : decode b_M_run 104 = .ok (.dup, 1) := by decide +kernel
theorem d_M_run_105 : decode b_M_run 105 = .ok (.getfield 131, 3) := by decide +kernel
theorem d_M_run_108 : decode b_M_run 108 = .ok (.iconst 1, 1) := by decide +kernel
theorem d_M_run_109 : decode b_M_run 109 = .ok (.iadd, 1) := by decide +kernel
theorem d_M_run_110 : decode b_M_run 110 = .ok (.putfield 131, 3) := by decide +kernel
theorem d_M_run_113 : decode b_M_run 113 = .ok (.goto 29, 3) := by decide +kernel
theorem d_M_run_116 : decode b_M_run 116 = .ok (.iinc 2 1, 3) := by decide +kernel
theorem d_M_run_119 : decode b_M_run 119 = .ok (.aload_n 0, 1) := by decide +kernel
theorem d_M_run_120 : decode b_M_run 120 = .ok (.iload 4, 2) := by decide +kernel
theorem d_M_run_122 : decode b_M_run 122 = .ok (.invokevirtual 134, 3) := by decide +kernel
theorem d_M_run_125 : decode b_M_run 125 = .ok (.aload_n 0, 1) := by decide +kernel
theorem d_M_run_126 : decode b_M_run 126 = .ok (.aload_n 0, 1) := by decide +kernel
theorem d_M_run_127 : decode b_M_run 127 = .ok (.getfield 50, 3) := by decide +kernel
theorem d_M_run_130 : decode b_M_run 130 = .ok (.iconst 2, 1) := by decide +kernel
theorem d_M_run_131 : decode b_M_run 131 = .ok (.if_icmp .ne 7, 3) := by decide +kernel
theorem d_M_run_134 : decode b_M_run 134 = .ok (.iconst 1, 1) := by decide +kernel
theorem d_M_run_135 : decode b_M_run 135 = .ok (.goto 4, 3) := by decide +kernel
theorem d_M_run_138 : decode b_M_run 138 = .ok (.iconst 0, 1) := by decide +kernel
theorem d_M_run_139 : decode b_M_run 139 = .ok (.invokevirtual 137, 3) := by decide +kernel
theorem d_M_run_142 : decode b_M_run 142 = .ok (.aload_n 0, 1) := by decide +kernel
theorem d_M_run_143 : decode b_M_run 143 = .ok (.dup, 1) := by decide +kernel
theorem d_M_run_144 : decode b_M_run 144 = .ok (.getfield 56, 3) := by decide +kernel
theorem d_M_run_147 : decode b_M_run 147 = .ok (.iconst 1, 1) := by decide +kernel
theorem d_M_run_148 : decode b_M_run 148 = .ok (.iadd, 1) := by decide +kernel
theorem d_M_run_149 : decode b_M_run 149 = .ok (.putfield 56, 3) := by decide +kernel
theorem d_M_run_152 : decode b_M_run 152 = .ok (.iinc 3 1, 3) := by decide +kernel
theorem d_M_run_155 : decode b_M_run 155 = .ok (.goto (-137), 3) := by decide +kernel
theorem d_M_run_158 : decode b_M_run 158 = .ok (.iload_n 2, 1) := by decide +kernel
theorem d_M_run_159 : decode b_M_run 159 = .ok (.ireturn, 1) := by decide +kernel
theorem d_M_register_0 : decode b_M_register 0 = .ok (.iload_n 1, 1) := by decide +kernel
theorem d_M_register_1 : decode b_M_register 1 = .ok (.bipush 31, 2) := by decide +kernel
theorem d_M_register_3 : decode b_M_register 3 = .ok (.invokestatic 42, 3) := by decide +kernel
theorem d_M_register_6 : decode b_M_register 6 = .ok (.ifCond .eq 12, 3) := by decide +kernel
theorem d_M_register_9 : decode b_M_register 9 = .ok (.aload_n 0, 1) := by decide +kernel
theorem d_M_register_10 : decode b_M_register 10 = .ok (.getfield 19, 3) := by decide +kernel
theorem d_M_register_13 : decode b_M_register 13 = .ok (.iload_n 1, 1) := by decide +kernel
theorem d_M_register_14 : decode b_M_register 14 = .ok (.iaload, 1) := by decide +kernel
theorem d_M_register_15 : decode b_M_register 15 = .ok (.goto 56, 3) := by decide +kernel
theorem d_M_register_18 : decode b_M_register 18 = .ok (.iload_n 1, 1) := by decide +kernel
theorem d_M_register_19 : decode b_M_register 19 = .ok (.bipush 32, 2) := by decide +kernel
theorem d_M_register_21 : decode b_M_register 21 = .ok (.if_icmp .ne 10, 3) := by decide +kernel
theorem d_M_register_24 : decode b_M_register 24 = .ok (.aload_n 0, 1) := by decide +kernel
theorem d_M_register_25 : decode b_M_register 25 = .ok (.getfield 87, 3) := by decide +kernel
theorem d_M_register_28 : decode b_M_register 28 = .ok (.goto 43, 3) := by decide +kernel
theorem d_M_register_31 : decode b_M_register 31 = .ok (.iload_n 1, 1) := by decide +kernel
theorem d_M_register_32 : decode b_M_register 32 = .ok (.bipush 33, 2) := by decide +kernel
theorem d_M_register_34 : decode b_M_register 34 = .ok (.if_icmp .ne 10, 3) := by decide +kernel
theorem d_M_register_37 : decode b_M_register 37 = .ok (.aload_n 0, 1) := by decide +kernel
theorem d_M_register_38 : decode b_M_register 38 = .ok (.getfield 66, 3) := by decide +kernel
theorem d_M_register_41 : decode b_M_register 41 = .ok (.goto 30, 3) := by decide +kernel
theorem d_M_register_44 : decode b_M_register 44 = .ok (.iload_n 1, 1) := by decide +kernel
theorem d_M_register_45 : decode b_M_register 45 = .ok (.bipush 34, 2) := by decide +kernel
theorem d_M_register_47 : decode b_M_register 47 = .ok (.if_icmp .ne 10, 3) := by decide +kernel
theorem d_M_register_50 : decode b_M_register 50 = .ok (.aload_n 0, 1) := by decide +kernel
theorem d_M_register_51 : decode b_M_register 51 = .ok (.getfield 98, 3) := by decide +kernel
theorem d_M_register_54 : decode b_M_register 54 = .ok (.goto 17, 3) := by decide +kernel
theorem d_M_register_57 : decode b_M_register 57 = .ok (.iload_n 1, 1) := by decide +kernel
theorem d_M_register_58 : decode b_M_register 58 = .ok (.bipush 35, 2) := by decide +kernel
theorem d_M_register_60 : decode b_M_register 60 = .ok (.if_icmp .ne 10, 3) := by decide +kernel
theorem d_M_register_63 : decode b_M_register 63 = .ok (.aload_n 0, 1) := by decide +kernel
theorem d_M_register_64 : decode b_M_register 64 = .ok (.getfield 75, 3) := by decide +kernel
theorem d_M_register_67 : decode b_M_register 67 = .ok (.goto 4, 3) := by decide +kernel
theorem d_M_register_70 : decode b_M_register 70 = .ok (.iconst (-1), 1) := by decide +kernel
theorem d_M_register_71 : decode b_M_register 71 = .ok (.ireturn, 1) := by decide +kernel
theorem d_M_peek_0 : decode b_M_peek 0 = .ok (.iload_n 1, 1) := by decide +kernel
theorem d_M_peek_1 : decode b_M_peek 1 = .ok (.sipush 1023, 3) := by decide +kernel
theorem d_M_peek_4 : decode b_M_peek 4 = .ok (.invokestatic 42, 3) := by decide +kernel
theorem d_M_peek_7 : decode b_M_peek 7 = .ok (.ifCond .eq 12, 3) := by decide +kernel
theorem d_M_peek_10 : decode b_M_peek 10 = .ok (.aload_n 0, 1) := by decide +kernel
theorem d_M_peek_11 : decode b_M_peek 11 = .ok (.getfield 16, 3) := by decide +kernel
theorem d_M_peek_14 : decode b_M_peek 14 = .ok (.iload_n 1, 1) := by decide +kernel
theorem d_M_peek_15 : decode b_M_peek 15 = .ok (.iaload, 1) := by decide +kernel
theorem d_M_peek_16 : decode b_M_peek 16 = .ok (.goto 4, 3) := by decide +kernel
theorem d_M_peek_19 : decode b_M_peek 19 = .ok (.iconst (-1), 1) := by decide +kernel
theorem d_M_peek_20 : decode b_M_peek 20 = .ok (.ireturn, 1) := by decide +kernel
theorem d_M_task_0 : decode b_M_task 0 = .ok (.iload_n 1, 1) := by decide +kernel
theorem d_M_task_1 : decode b_M_task 1 = .ok (.bipush 15, 2) := by decide +kernel
theorem d_M_task_3 : decode b_M_task 3 = .ok (.invokestatic 42, 3) := by decide +kernel
theorem d_M_task_6 : decode b_M_task 6 = .ok (.ifCond .eq 11, 3) := by decide +kernel
theorem d_M_task_9 : decode b_M_task 9 = .ok (.iload_n 2, 1) := by decide +kernel
theorem d_M_task_10 : decode b_M_task 10 = .ok (.iconst 3, 1) := by decide +kernel
theorem d_M_task_11 : decode b_M_task 11 = .ok (.invokestatic 42, 3) := by decide +kernel
theorem d_M_task_14 : decode b_M_task 14 = .ok (.ifCond .ne 5, 3) := by decide +kernel
theorem d_M_task_17 : decode b_M_task 17 = .ok (.iconst (-1), 1) := by decide +kernel
theorem d_M_task_18 : decode b_M_task 18 = .ok (.ireturn, 1) := by decide +kernel
theorem d_M_task_19 : decode b_M_task 19 = .ok (.iload_n 2, 1) := by decide +kernel
theorem d_M_task_20 : decode b_M_task 20 = .ok (.ifCond .ne 12, 3) := by decide +kernel
theorem d_M_task_23 : decode b_M_task 23 = .ok (.aload_n 0, 1) := by decide +kernel
theorem d_M_task_24 : decode b_M_task 24 = .ok (.getfield 22, 3) := by decide +kernel
theorem d_M_task_27 : decode b_M_task 27 = .ok (.iload_n 1, 1) := by decide +kernel
theorem d_M_task_28 : decode b_M_task 28 = .ok (.iaload, 1) := by decide +kernel
theorem d_M_task_29 : decode b_M_task 29 = .ok (.goto 45, 3) := by decide +kernel
theorem d_M_task_32 : decode b_M_task 32 = .ok (.iload_n 2, 1) := by decide +kernel
theorem d_M_task_33 : decode b_M_task 33 = .ok (.iconst 1, 1) := by decide +kernel
theorem d_M_task_34 : decode b_M_task 34 = .ok (.if_icmp .ne 12, 3) := by decide +kernel
theorem d_M_task_37 : decode b_M_task 37 = .ok (.aload_n 0, 1) := by decide +kernel
theorem d_M_task_38 : decode b_M_task 38 = .ok (.getfield 25, 3) := by decide +kernel
theorem d_M_task_41 : decode b_M_task 41 = .ok (.iload_n 1, 1) := by decide +kernel
theorem d_M_task_42 : decode b_M_task 42 = .ok (.iaload, 1) := by decide +kernel
theorem d_M_task_43 : decode b_M_task 43 = .ok (.goto 31, 3) := by decide +kernel
theorem d_M_task_46 : decode b_M_task 46 = .ok (.iload_n 2, 1) := by decide +kernel
theorem d_M_task_47 : decode b_M_task 47 = .ok (.iconst 2, 1) := by decide +kernel
theorem d_M_task_48 : decode b_M_task 48 = .ok (.if_icmp .ne 20, 3) := by decide +kernel
theorem d_M_task_51 : decode b_M_task 51 = .ok (.aload_n 0, 1) := by decide +kernel
theorem d_M_task_52 : decode b_M_task 52 = .ok (.getfield 28, 3) := by decide +kernel
theorem d_M_task_55 : decode b_M_task 55 = .ok (.iload_n 1, 1) := by decide +kernel
theorem d_M_task_56 : decode b_M_task 56 = .ok (.baload, 1) := by decide +kernel
theorem d_M_task_57 : decode b_M_task 57 = .ok (.ifCond .eq 7, 3) := by decide +kernel
theorem d_M_task_60 : decode b_M_task 60 = .ok (.iconst 1, 1) := by decide +kernel
theorem d_M_task_61 : decode b_M_task 61 = .ok (.goto 13, 3) := by decide +kernel
theorem d_M_task_64 : decode b_M_task 64 = .ok (.iconst 0, 1) := by decide +kernel
theorem d_M_task_65 : decode b_M_task 65 = .ok (.goto 9, 3) := by decide +kernel
theorem d_M_task_68 : decode b_M_task 68 = .ok (.aload_n 0, 1) := by decide +kernel
theorem d_M_task_69 : decode b_M_task 69 = .ok (.getfield 32, 3) := by decide +kernel
theorem d_M_task_72 : decode b_M_task 72 = .ok (.iload_n 1, 1) := by decide +kernel
theorem d_M_task_73 : decode b_M_task 73 = .ok (.iaload, 1) := by decide +kernel
theorem d_M_task_74 : decode b_M_task 74 = .ok (.ireturn, 1) := by decide +kernel
theorem d_M_now_0 : decode b_M_now 0 = .ok (.aload_n 0, 1) := by decide +kernel
theorem d_M_now_1 : decode b_M_now 1 = .ok (.getfield 72, 3) := by decide +kernel
theorem d_M_now_4 : decode b_M_now 4 = .ok (.ireturn, 1) := by decide +kernel
theorem d_M_out_0 : decode b_M_out 0 = .ok (.iload_n 1, 1) := by decide +kernel
theorem d_M_out_1 : decode b_M_out 1 = .ok (.ifCond .lt 27, 3) := by decide +kernel
theorem d_M_out_4 : decode b_M_out 4 = .ok (.iload_n 1, 1) := by decide +kernel
theorem d_M_out_5 : decode b_M_out 5 = .ok (.aload_n 0, 1) := by decide +kernel
theorem d_M_out_6 : decode b_M_out 6 = .ok (.getfield 118, 3) := by decide +kernel
theorem d_M_out_9 : decode b_M_out 9 = .ok (.if_icmp .ge 19, 3) := by decide +kernel
theorem d_M_out_12 : decode b_M_out 12 = .ok (.iload_n 1, 1) := by decide +kernel
theorem d_M_out_13 : decode b_M_out 13 = .ok (.sipush 500, 3) := by decide +kernel
theorem d_M_out_16 : decode b_M_out 16 = .ok (.if_icmp .ge 12, 3) := by decide +kernel
theorem d_M_out_19 : decode b_M_out 19 = .ok (.aload_n 0, 1) := by decide +kernel
theorem d_M_out_20 : decode b_M_out 20 = .ok (.getfield 39, 3) := by decide +kernel
theorem d_M_out_23 : decode b_M_out 23 = .ok (.iload_n 1, 1) := by decide +kernel
theorem d_M_out_24 : decode b_M_out 24 = .ok (.iaload, 1) := by decide +kernel
theorem d_M_out_25 : decode b_M_out 25 = .ok (.goto 4, 3) := by decide +kernel
theorem d_M_out_28 : decode b_M_out 28 = .ok (.iconst (-1), 1) := by decide +kernel
theorem d_M_out_29 : decode b_M_out 29 = .ok (.ireturn, 1) := by decide +kernel
theorem d_M_count_0 : decode b_M_count 0 = .ok (.iload_n 1, 1) := by decide +kernel
theorem d_M_count_1 : decode b_M_count 1 = .ok (.tableswitch 51 0 3 #[31, 36, 41, 46], 31) := by decide +kernel
theorem d_M_count_32 : decode b_M_count 32 = .ok (.aload_n 0, 1) := by decide +kernel
theorem d_M_count_33 : decode b_M_count 33 = .ok (.getfield 56, 3) := by decide +kernel
theorem d_M_count_36 : decode b_M_count 36 = .ok (.ireturn, 1) := by decide +kernel
theorem d_M_count_37 : decode b_M_count 37 = .ok (.aload_n 0, 1) := by decide +kernel
theorem d_M_count_38 : decode b_M_count 38 = .ok (.getfield 131, 3) := by decide +kernel
theorem d_M_count_41 : decode b_M_count 41 = .ok (.ireturn, 1) := by decide +kernel
theorem d_M_count_42 : decode b_M_count 42 = .ok (.aload_n 0, 1) := by decide +kernel
theorem d_M_count_43 : decode b_M_count 43 = .ok (.getfield 118, 3) := by decide +kernel
theorem d_M_count_46 : decode b_M_count 46 = .ok (.ireturn, 1) := by decide +kernel
theorem d_M_count_47 : decode b_M_count 47 = .ok (.aload_n 0, 1) := by decide +kernel
theorem d_M_count_48 : decode b_M_count 48 = .ok (.getfield 125, 3) := by decide +kernel
theorem d_M_count_51 : decode b_M_count 51 = .ok (.ireturn, 1) := by decide +kernel
theorem d_M_count_52 : decode b_M_count 52 = .ok (.iconst (-1), 1) := by decide +kernel
theorem d_M_count_53 : decode b_M_count 53 = .ok (.ireturn, 1) := by decide +kernel
end
section
theorem d_L_law_0 : decode code 0 = .ok (.new 7, 3) := by decide +kernel
theorem d_L_law_3 : decode code 3 = .ok (.dup, 1) := by decide +kernel
theorem d_L_law_4 : decode code 4 = .ok (.invokespecial 9, 3) := by decide +kernel
theorem d_L_law_7 : decode code 7 = .ok (.astore_n 1, 1) := by decide +kernel
theorem d_L_law_8 : decode code 8 = .ok (.new 10, 3) := by decide +kernel
theorem d_L_law_11 : decode code 11 = .ok (.dup, 1) := by decide +kernel
theorem d_L_law_12 : decode code 12 = .ok (.invokespecial 12, 3) := by decide +kernel
theorem d_L_law_15 : decode code 15 = .ok (.astore_n 2, 1) := by decide +kernel
theorem d_L_law_16 : decode code 16 = .ok (.iconst 0, 1) := by decide +kernel
theorem d_L_law_17 : decode code 17 = .ok (.istore_n 3, 1) := by decide +kernel
theorem d_L_law_18 : decode code 18 = .ok (.iload_n 3, 1) := by decide +kernel
theorem d_L_law_19 : decode code 19 = .ok (.aload_n 0, 1) := by decide +kernel
theorem d_L_law_20 : decode code 20 = .ok (.arraylength, 1) := by decide +kernel
theorem d_L_law_21 : decode code 21 = .ok (.iconst 3, 1) := by decide +kernel
theorem d_L_law_22 : decode code 22 = .ok (.isub, 1) := by decide +kernel
theorem d_L_law_23 : decode code 23 = .ok (.if_icmp .gt 457, 3) := by decide +kernel
theorem d_L_law_26 : decode code 26 = .ok (.aload_n 0, 1) := by decide +kernel
theorem d_L_law_27 : decode code 27 = .ok (.iload_n 3, 1) := by decide +kernel
theorem d_L_law_28 : decode code 28 = .ok (.iaload, 1) := by decide +kernel
theorem d_L_law_29 : decode code 29 = .ok (.bipush 15, 2) := by decide +kernel
theorem d_L_law_31 : decode code 31 = .ok (.iand, 1) := by decide +kernel
theorem d_L_law_32 : decode code 32 = .ok (.tableswitch 442 0 13 #[72, 105, 138, 171, 204, 225, 248, 281, 304, 327, 350, 383, 396, 419], 72) := by decide +kernel
theorem d_L_law_104 : decode code 104 = .ok (.aload_n 1, 1) := by decide +kernel
theorem d_L_law_105 : decode code 105 = .ok (.aload_n 0, 1) := by decide +kernel
theorem d_L_law_106 : decode code 106 = .ok (.iload_n 3, 1) := by decide +kernel
theorem d_L_law_107 : decode code 107 = .ok (.iconst 1, 1) := by decide +kernel
theorem d_L_law_108 : decode code 108 = .ok (.iadd, 1) := by decide +kernel
theorem d_L_law_109 : decode code 109 = .ok (.iaload, 1) := by decide +kernel
theorem d_L_law_110 : decode code 110 = .ok (.aload_n 0, 1) := by decide +kernel
theorem d_L_law_111 : decode code 111 = .ok (.iload_n 3, 1) := by decide +kernel
theorem d_L_law_112 : decode code 112 = .ok (.iconst 2, 1) := by decide +kernel
theorem d_L_law_113 : decode code 113 = .ok (.iadd, 1) := by decide +kernel
theorem d_L_law_114 : decode code 114 = .ok (.iaload, 1) := by decide +kernel
theorem d_L_law_115 : decode code 115 = .ok (.invokevirtual 13, 3) := by decide +kernel
theorem d_L_law_118 : decode code 118 = .ok (.aload_n 2, 1) := by decide +kernel
theorem d_L_law_119 : decode code 119 = .ok (.aload_n 0, 1) := by decide +kernel
theorem d_L_law_120 : decode code 120 = .ok (.iload_n 3, 1) := by decide +kernel
theorem d_L_law_121 : decode code 121 = .ok (.iconst 1, 1) := by decide +kernel
theorem d_L_law_122 : decode code 122 = .ok (.iadd, 1) := by decide +kernel
theorem d_L_law_123 : decode code 123 = .ok (.iaload, 1) := by decide +kernel
theorem d_L_law_124 : decode code 124 = .ok (.aload_n 0, 1) := by decide +kernel
theorem d_L_law_125 : decode code 125 = .ok (.iload_n 3, 1) := by decide +kernel
theorem d_L_law_126 : decode code 126 = .ok (.iconst 2, 1) := by decide +kernel
theorem d_L_law_127 : decode code 127 = .ok (.iadd, 1) := by decide +kernel
theorem d_L_law_128 : decode code 128 = .ok (.iaload, 1) := by decide +kernel
theorem d_L_law_129 : decode code 129 = .ok (.invokevirtual 17, 3) := by decide +kernel
theorem d_L_law_132 : decode code 132 = .ok (.if_icmp .eq 342, 3) := by decide +kernel
theorem d_L_law_135 : decode code 135 = .ok (.iconst 0, 1) := by decide +kernel
theorem d_L_law_136 : decode code 136 = .ok (.ireturn, 1) := by decide +kernel
theorem d_L_law_137 : decode code 137 = .ok (.aload_n 1, 1) := by decide +kernel
theorem d_L_law_138 : decode code 138 = .ok (.aload_n 0, 1) := by decide +kernel
theorem d_L_law_139 : decode code 139 = .ok (.iload_n 3, 1) := by decide +kernel
theorem d_L_law_140 : decode code 140 = .ok (.iconst 1, 1) := by decide +kernel
theorem d_L_law_141 : decode code 141 = .ok (.iadd, 1) := by decide +kernel
theorem d_L_law_142 : decode code 142 = .ok (.iaload, 1) := by decide +kernel
theorem d_L_law_143 : decode code 143 = .ok (.aload_n 0, 1) := by decide +kernel
theorem d_L_law_144 : decode code 144 = .ok (.iload_n 3, 1) := by decide +kernel
theorem d_L_law_145 : decode code 145 = .ok (.iconst 2, 1) := by decide +kernel
theorem d_L_law_146 : decode code 146 = .ok (.iadd, 1) := by decide +kernel
theorem d_L_law_147 : decode code 147 = .ok (.iaload, 1) := by decide +kernel
theorem d_L_law_148 : decode code 148 = .ok (.invokevirtual 18, 3) := by decide +kernel
theorem d_L_law_151 : decode code 151 = .ok (.aload_n 2, 1) := by decide +kernel
theorem d_L_law_152 : decode code 152 = .ok (.aload_n 0, 1) := by decide +kernel
theorem d_L_law_153 : decode code 153 = .ok (.iload_n 3, 1) := by decide +kernel
theorem d_L_law_154 : decode code 154 = .ok (.iconst 1, 1) := by decide +kernel
theorem d_L_law_155 : decode code 155 = .ok (.iadd, 1) := by decide +kernel
theorem d_L_law_156 : decode code 156 = .ok (.iaload, 1) := by decide +kernel
theorem d_L_law_157 : decode code 157 = .ok (.aload_n 0, 1) := by decide +kernel
theorem d_L_law_158 : decode code 158 = .ok (.iload_n 3, 1) := by decide +kernel
theorem d_L_law_159 : decode code 159 = .ok (.iconst 2, 1) := by decide +kernel
theorem d_L_law_160 : decode code 160 = .ok (.iadd, 1) := by decide +kernel
theorem d_L_law_161 : decode code 161 = .ok (.iaload, 1) := by decide +kernel
theorem d_L_law_162 : decode code 162 = .ok (.invokevirtual 21, 3) := by decide +kernel
theorem d_L_law_165 : decode code 165 = .ok (.if_icmp .eq 309, 3) := by decide +kernel
theorem d_L_law_168 : decode code 168 = .ok (.iconst 0, 1) := by decide +kernel
theorem d_L_law_169 : decode code 169 = .ok (.ireturn, 1) := by decide +kernel
theorem d_L_law_170 : decode code 170 = .ok (.aload_n 1, 1) := by decide +kernel
theorem d_L_law_171 : decode code 171 = .ok (.aload_n 0, 1) := by decide +kernel
theorem d_L_law_172 : decode code 172 = .ok (.iload_n 3, 1) := by decide +kernel
theorem d_L_law_173 : decode code 173 = .ok (.iconst 1, 1) := by decide +kernel
theorem d_L_law_174 : decode code 174 = .ok (.iadd, 1) := by decide +kernel
theorem d_L_law_175 : decode code 175 = .ok (.iaload, 1) := by decide +kernel
theorem d_L_law_176 : decode code 176 = .ok (.aload_n 0, 1) := by decide +kernel
theorem d_L_law_177 : decode code 177 = .ok (.iload_n 3, 1) := by decide +kernel
theorem d_L_law_178 : decode code 178 = .ok (.iconst 2, 1) := by decide +kernel
theorem d_L_law_179 : decode code 179 = .ok (.iadd, 1) := by decide +kernel
theorem d_L_law_180 : decode code 180 = .ok (.iaload, 1) := by decide +kernel
theorem d_L_law_181 : decode code 181 = .ok (.invokevirtual 22, 3) := by decide +kernel
theorem d_L_law_184 : decode code 184 = .ok (.aload_n 2, 1) := by decide +kernel
theorem d_L_law_185 : decode code 185 = .ok (.aload_n 0, 1) := by decide +kernel
theorem d_L_law_186 : decode code 186 = .ok (.iload_n 3, 1) := by decide +kernel
theorem d_L_law_187 : decode code 187 = .ok (.iconst 1, 1) := by decide +kernel
theorem d_L_law_188 : decode code 188 = .ok (.iadd, 1) := by decide +kernel
theorem d_L_law_189 : decode code 189 = .ok (.iaload, 1) := by decide +kernel
theorem d_L_law_190 : decode code 190 = .ok (.aload_n 0, 1) := by decide +kernel
theorem d_L_law_191 : decode code 191 = .ok (.iload_n 3, 1) := by decide +kernel
theorem d_L_law_192 : decode code 192 = .ok (.iconst 2, 1) := by decide +kernel
theorem d_L_law_193 : decode code 193 = .ok (.iadd, 1) := by decide +kernel
theorem d_L_law_194 : decode code 194 = .ok (.iaload, 1) := by decide +kernel
theorem d_L_law_195 : decode code 195 = .ok (.invokevirtual 25, 3) := by decide +kernel
theorem d_L_law_198 : decode code 198 = .ok (.if_icmp .eq 276, 3) := by decide +kernel
theorem d_L_law_201 : decode code 201 = .ok (.iconst 0, 1) := by decide +kernel
theorem d_L_law_202 : decode code 202 = .ok (.ireturn, 1) := by decide +kernel
theorem d_L_law_203 : decode code 203 = .ok (.aload_n 1, 1) := by decide +kernel
theorem d_L_law_204 : decode code 204 = .ok (.aload_n 0, 1) := by decide +kernel
theorem d_L_law_205 : decode code 205 = .ok (.iload_n 3, 1) := by decide +kernel
theorem d_L_law_206 : decode code 206 = .ok (.iconst 1, 1) := by decide +kernel
theorem d_L_law_207 : decode code 207 = .ok (.iadd, 1) := by decide +kernel
theorem d_L_law_208 : decode code 208 = .ok (.iaload, 1) := by decide +kernel
theorem d_L_law_209 : decode code 209 = .ok (.aload_n 0, 1) := by decide +kernel
theorem d_L_law_210 : decode code 210 = .ok (.iload_n 3, 1) := by decide +kernel
theorem d_L_law_211 : decode code 211 = .ok (.iconst 2, 1) := by decide +kernel
theorem d_L_law_212 : decode code 212 = .ok (.iadd, 1) := by decide +kernel
theorem d_L_law_213 : decode code 213 = .ok (.iaload, 1) := by decide +kernel
theorem d_L_law_214 : decode code 214 = .ok (.invokevirtual 26, 3) := by decide +kernel
theorem d_L_law_217 : decode code 217 = .ok (.aload_n 2, 1) := by decide +kernel
theorem d_L_law_218 : decode code 218 = .ok (.aload_n 0, 1) := by decide +kernel
theorem d_L_law_219 : decode code 219 = .ok (.iload_n 3, 1) := by decide +kernel
theorem d_L_law_220 : decode code 220 = .ok (.iconst 1, 1) := by decide +kernel
theorem d_L_law_221 : decode code 221 = .ok (.iadd, 1) := by decide +kernel
theorem d_L_law_222 : decode code 222 = .ok (.iaload, 1) := by decide +kernel
theorem d_L_law_223 : decode code 223 = .ok (.aload_n 0, 1) := by decide +kernel
theorem d_L_law_224 : decode code 224 = .ok (.iload_n 3, 1) := by decide +kernel
theorem d_L_law_225 : decode code 225 = .ok (.iconst 2, 1) := by decide +kernel
theorem d_L_law_226 : decode code 226 = .ok (.iadd, 1) := by decide +kernel
theorem d_L_law_227 : decode code 227 = .ok (.iaload, 1) := by decide +kernel
theorem d_L_law_228 : decode code 228 = .ok (.invokevirtual 29, 3) := by decide +kernel
theorem d_L_law_231 : decode code 231 = .ok (.if_icmp .eq 243, 3) := by decide +kernel
theorem d_L_law_234 : decode code 234 = .ok (.iconst 0, 1) := by decide +kernel
theorem d_L_law_235 : decode code 235 = .ok (.ireturn, 1) := by decide +kernel
theorem d_L_law_236 : decode code 236 = .ok (.aload_n 1, 1) := by decide +kernel
theorem d_L_law_237 : decode code 237 = .ok (.aload_n 0, 1) := by decide +kernel
theorem d_L_law_238 : decode code 238 = .ok (.iload_n 3, 1) := by decide +kernel
theorem d_L_law_239 : decode code 239 = .ok (.iconst 1, 1) := by decide +kernel
theorem d_L_law_240 : decode code 240 = .ok (.iadd, 1) := by decide +kernel
theorem d_L_law_241 : decode code 241 = .ok (.iaload, 1) := by decide +kernel
theorem d_L_law_242 : decode code 242 = .ok (.invokevirtual 30, 3) := by decide +kernel
theorem d_L_law_245 : decode code 245 = .ok (.aload_n 2, 1) := by decide +kernel
theorem d_L_law_246 : decode code 246 = .ok (.aload_n 0, 1) := by decide +kernel
theorem d_L_law_247 : decode code 247 = .ok (.iload_n 3, 1) := by decide +kernel
theorem d_L_law_248 : decode code 248 = .ok (.iconst 1, 1) := by decide +kernel
theorem d_L_law_249 : decode code 249 = .ok (.iadd, 1) := by decide +kernel
theorem d_L_law_250 : decode code 250 = .ok (.iaload, 1) := by decide +kernel
theorem d_L_law_251 : decode code 251 = .ok (.invokevirtual 34, 3) := by decide +kernel
theorem d_L_law_254 : decode code 254 = .ok (.goto 220, 3) := by decide +kernel
theorem d_L_law_257 : decode code 257 = .ok (.aload_n 1, 1) := by decide +kernel
theorem d_L_law_258 : decode code 258 = .ok (.aload_n 0, 1) := by decide +kernel
theorem d_L_law_259 : decode code 259 = .ok (.iload_n 3, 1) := by decide +kernel
theorem d_L_law_260 : decode code 260 = .ok (.iconst 1, 1) := by decide +kernel
theorem d_L_law_261 : decode code 261 = .ok (.iadd, 1) := by decide +kernel
theorem d_L_law_262 : decode code 262 = .ok (.iaload, 1) := by decide +kernel
theorem d_L_law_263 : decode code 263 = .ok (.invokevirtual 35, 3) := by decide +kernel
theorem d_L_law_266 : decode code 266 = .ok (.aload_n 2, 1) := by decide +kernel
theorem d_L_law_267 : decode code 267 = .ok (.aload_n 0, 1) := by decide +kernel
theorem d_L_law_268 : decode code 268 = .ok (.iload_n 3, 1) := by decide +kernel
theorem d_L_law_269 : decode code 269 = .ok (.iconst 1, 1) := by decide +kernel
theorem d_L_law_270 : decode code 270 = .ok (.iadd, 1) := by decide +kernel
theorem d_L_law_271 : decode code 271 = .ok (.iaload, 1) := by decide +kernel
theorem d_L_law_272 : decode code 272 = .ok (.invokevirtual 39, 3) := by decide +kernel
theorem d_L_law_275 : decode code 275 = .ok (.if_icmp .eq 199, 3) := by decide +kernel
theorem d_L_law_278 : decode code 278 = .ok (.iconst 0, 1) := by decide +kernel
theorem d_L_law_279 : decode code 279 = .ok (.ireturn, 1) := by decide +kernel
theorem d_L_law_280 : decode code 280 = .ok (.aload_n 1, 1) := by decide +kernel
theorem d_L_law_281 : decode code 281 = .ok (.aload_n 0, 1) := by decide +kernel
theorem d_L_law_282 : decode code 282 = .ok (.iload_n 3, 1) := by decide +kernel
theorem d_L_law_283 : decode code 283 = .ok (.iconst 1, 1) := by decide +kernel
theorem d_L_law_284 : decode code 284 = .ok (.iadd, 1) := by decide +kernel
theorem d_L_law_285 : decode code 285 = .ok (.iaload, 1) := by decide +kernel
theorem d_L_law_286 : decode code 286 = .ok (.aload_n 0, 1) := by decide +kernel
theorem d_L_law_287 : decode code 287 = .ok (.iload_n 3, 1) := by decide +kernel
theorem d_L_law_288 : decode code 288 = .ok (.iconst 2, 1) := by decide +kernel
theorem d_L_law_289 : decode code 289 = .ok (.iadd, 1) := by decide +kernel
theorem d_L_law_290 : decode code 290 = .ok (.iaload, 1) := by decide +kernel
theorem d_L_law_291 : decode code 291 = .ok (.invokevirtual 40, 3) := by decide +kernel
theorem d_L_law_294 : decode code 294 = .ok (.aload_n 2, 1) := by decide +kernel
theorem d_L_law_295 : decode code 295 = .ok (.aload_n 0, 1) := by decide +kernel
theorem d_L_law_296 : decode code 296 = .ok (.iload_n 3, 1) := by decide +kernel
theorem d_L_law_297 : decode code 297 = .ok (.iconst 1, 1) := by decide +kernel
theorem d_L_law_298 : decode code 298 = .ok (.iadd, 1) := by decide +kernel
theorem d_L_law_299 : decode code 299 = .ok (.iaload, 1) := by decide +kernel
theorem d_L_law_300 : decode code 300 = .ok (.aload_n 0, 1) := by decide +kernel
theorem d_L_law_301 : decode code 301 = .ok (.iload_n 3, 1) := by decide +kernel
theorem d_L_law_302 : decode code 302 = .ok (.iconst 2, 1) := by decide +kernel
theorem d_L_law_303 : decode code 303 = .ok (.iadd, 1) := by decide +kernel
theorem d_L_law_304 : decode code 304 = .ok (.iaload, 1) := by decide +kernel
theorem d_L_law_305 : decode code 305 = .ok (.invokevirtual 43, 3) := by decide +kernel
theorem d_L_law_308 : decode code 308 = .ok (.if_icmp .eq 166, 3) := by decide +kernel
theorem d_L_law_311 : decode code 311 = .ok (.iconst 0, 1) := by decide +kernel
theorem d_L_law_312 : decode code 312 = .ok (.ireturn, 1) := by decide +kernel
theorem d_L_law_313 : decode code 313 = .ok (.aload_n 1, 1) := by decide +kernel
theorem d_L_law_314 : decode code 314 = .ok (.aload_n 0, 1) := by decide +kernel
theorem d_L_law_315 : decode code 315 = .ok (.iload_n 3, 1) := by decide +kernel
theorem d_L_law_316 : decode code 316 = .ok (.iconst 1, 1) := by decide +kernel
theorem d_L_law_317 : decode code 317 = .ok (.iadd, 1) := by decide +kernel
theorem d_L_law_318 : decode code 318 = .ok (.iaload, 1) := by decide +kernel
theorem d_L_law_319 : decode code 319 = .ok (.invokevirtual 44, 3) := by decide +kernel
theorem d_L_law_322 : decode code 322 = .ok (.aload_n 2, 1) := by decide +kernel
theorem d_L_law_323 : decode code 323 = .ok (.aload_n 0, 1) := by decide +kernel
theorem d_L_law_324 : decode code 324 = .ok (.iload_n 3, 1) := by decide +kernel
theorem d_L_law_325 : decode code 325 = .ok (.iconst 1, 1) := by decide +kernel
theorem d_L_law_326 : decode code 326 = .ok (.iadd, 1) := by decide +kernel
theorem d_L_law_327 : decode code 327 = .ok (.iaload, 1) := by decide +kernel
theorem d_L_law_328 : decode code 328 = .ok (.invokevirtual 48, 3) := by decide +kernel
theorem d_L_law_331 : decode code 331 = .ok (.if_icmp .eq 143, 3) := by decide +kernel
theorem d_L_law_334 : decode code 334 = .ok (.iconst 0, 1) := by decide +kernel
theorem d_L_law_335 : decode code 335 = .ok (.ireturn, 1) := by decide +kernel
theorem d_L_law_336 : decode code 336 = .ok (.aload_n 1, 1) := by decide +kernel
theorem d_L_law_337 : decode code 337 = .ok (.aload_n 0, 1) := by decide +kernel
theorem d_L_law_338 : decode code 338 = .ok (.iload_n 3, 1) := by decide +kernel
theorem d_L_law_339 : decode code 339 = .ok (.iconst 1, 1) := by decide +kernel
theorem d_L_law_340 : decode code 340 = .ok (.iadd, 1) := by decide +kernel
theorem d_L_law_341 : decode code 341 = .ok (.iaload, 1) := by decide +kernel
theorem d_L_law_342 : decode code 342 = .ok (.invokevirtual 49, 3) := by decide +kernel
theorem d_L_law_345 : decode code 345 = .ok (.aload_n 2, 1) := by decide +kernel
theorem d_L_law_346 : decode code 346 = .ok (.aload_n 0, 1) := by decide +kernel
theorem d_L_law_347 : decode code 347 = .ok (.iload_n 3, 1) := by decide +kernel
theorem d_L_law_348 : decode code 348 = .ok (.iconst 1, 1) := by decide +kernel
theorem d_L_law_349 : decode code 349 = .ok (.iadd, 1) := by decide +kernel
theorem d_L_law_350 : decode code 350 = .ok (.iaload, 1) := by decide +kernel
theorem d_L_law_351 : decode code 351 = .ok (.invokevirtual 52, 3) := by decide +kernel
theorem d_L_law_354 : decode code 354 = .ok (.if_icmp .eq 120, 3) := by decide +kernel
theorem d_L_law_357 : decode code 357 = .ok (.iconst 0, 1) := by decide +kernel
theorem d_L_law_358 : decode code 358 = .ok (.ireturn, 1) := by decide +kernel
theorem d_L_law_359 : decode code 359 = .ok (.aload_n 1, 1) := by decide +kernel
theorem d_L_law_360 : decode code 360 = .ok (.aload_n 0, 1) := by decide +kernel
theorem d_L_law_361 : decode code 361 = .ok (.iload_n 3, 1) := by decide +kernel
theorem d_L_law_362 : decode code 362 = .ok (.iconst 1, 1) := by decide +kernel
theorem d_L_law_363 : decode code 363 = .ok (.iadd, 1) := by decide +kernel
theorem d_L_law_364 : decode code 364 = .ok (.iaload, 1) := by decide +kernel
theorem d_L_law_365 : decode code 365 = .ok (.invokevirtual 53, 3) := by decide +kernel
theorem d_L_law_368 : decode code 368 = .ok (.aload_n 2, 1) := by decide +kernel
theorem d_L_law_369 : decode code 369 = .ok (.aload_n 0, 1) := by decide +kernel
theorem d_L_law_370 : decode code 370 = .ok (.iload_n 3, 1) := by decide +kernel
theorem d_L_law_371 : decode code 371 = .ok (.iconst 1, 1) := by decide +kernel
theorem d_L_law_372 : decode code 372 = .ok (.iadd, 1) := by decide +kernel
theorem d_L_law_373 : decode code 373 = .ok (.iaload, 1) := by decide +kernel
theorem d_L_law_374 : decode code 374 = .ok (.invokevirtual 56, 3) := by decide +kernel
theorem d_L_law_377 : decode code 377 = .ok (.if_icmp .eq 97, 3) := by decide +kernel
theorem d_L_law_380 : decode code 380 = .ok (.iconst 0, 1) := by decide +kernel
theorem d_L_law_381 : decode code 381 = .ok (.ireturn, 1) := by decide +kernel
theorem d_L_law_382 : decode code 382 = .ok (.aload_n 1, 1) := by decide +kernel
theorem d_L_law_383 : decode code 383 = .ok (.aload_n 0, 1) := by decide +kernel
theorem d_L_law_384 : decode code 384 = .ok (.iload_n 3, 1) := by decide +kernel
theorem d_L_law_385 : decode code 385 = .ok (.iconst 1, 1) := by decide +kernel
theorem d_L_law_386 : decode code 386 = .ok (.iadd, 1) := by decide +kernel
theorem d_L_law_387 : decode code 387 = .ok (.iaload, 1) := by decide +kernel
theorem d_L_law_388 : decode code 388 = .ok (.aload_n 0, 1) := by decide +kernel
theorem d_L_law_389 : decode code 389 = .ok (.iload_n 3, 1) := by decide +kernel
theorem d_L_law_390 : decode code 390 = .ok (.iconst 2, 1) := by decide +kernel
theorem d_L_law_391 : decode code 391 = .ok (.iadd, 1) := by decide +kernel
theorem d_L_law_392 : decode code 392 = .ok (.iaload, 1) := by decide +kernel
theorem d_L_law_393 : decode code 393 = .ok (.invokevirtual 57, 3) := by decide +kernel
theorem d_L_law_396 : decode code 396 = .ok (.aload_n 2, 1) := by decide +kernel
theorem d_L_law_397 : decode code 397 = .ok (.aload_n 0, 1) := by decide +kernel
theorem d_L_law_398 : decode code 398 = .ok (.iload_n 3, 1) := by decide +kernel
theorem d_L_law_399 : decode code 399 = .ok (.iconst 1, 1) := by decide +kernel
theorem d_L_law_400 : decode code 400 = .ok (.iadd, 1) := by decide +kernel
theorem d_L_law_401 : decode code 401 = .ok (.iaload, 1) := by decide +kernel
theorem d_L_law_402 : decode code 402 = .ok (.aload_n 0, 1) := by decide +kernel
theorem d_L_law_403 : decode code 403 = .ok (.iload_n 3, 1) := by decide +kernel
theorem d_L_law_404 : decode code 404 = .ok (.iconst 2, 1) := by decide +kernel
theorem d_L_law_405 : decode code 405 = .ok (.iadd, 1) := by decide +kernel
theorem d_L_law_406 : decode code 406 = .ok (.iaload, 1) := by decide +kernel
theorem d_L_law_407 : decode code 407 = .ok (.invokevirtual 61, 3) := by decide +kernel
theorem d_L_law_410 : decode code 410 = .ok (.if_icmp .eq 64, 3) := by decide +kernel
theorem d_L_law_413 : decode code 413 = .ok (.iconst 0, 1) := by decide +kernel
theorem d_L_law_414 : decode code 414 = .ok (.ireturn, 1) := by decide +kernel
theorem d_L_law_415 : decode code 415 = .ok (.aload_n 1, 1) := by decide +kernel
theorem d_L_law_416 : decode code 416 = .ok (.invokevirtual 62, 3) := by decide +kernel
theorem d_L_law_419 : decode code 419 = .ok (.aload_n 2, 1) := by decide +kernel
theorem d_L_law_420 : decode code 420 = .ok (.invokevirtual 66, 3) := by decide +kernel
theorem d_L_law_423 : decode code 423 = .ok (.if_icmp .eq 51, 3) := by decide +kernel
theorem d_L_law_426 : decode code 426 = .ok (.iconst 0, 1) := by decide +kernel
theorem d_L_law_427 : decode code 427 = .ok (.ireturn, 1) := by decide +kernel
theorem d_L_law_428 : decode code 428 = .ok (.aload_n 1, 1) := by decide +kernel
theorem d_L_law_429 : decode code 429 = .ok (.aload_n 0, 1) := by decide +kernel
theorem d_L_law_430 : decode code 430 = .ok (.iload_n 3, 1) := by decide +kernel
theorem d_L_law_431 : decode code 431 = .ok (.iconst 1, 1) := by decide +kernel
theorem d_L_law_432 : decode code 432 = .ok (.iadd, 1) := by decide +kernel
theorem d_L_law_433 : decode code 433 = .ok (.iaload, 1) := by decide +kernel
theorem d_L_law_434 : decode code 434 = .ok (.invokevirtual 67, 3) := by decide +kernel
theorem d_L_law_437 : decode code 437 = .ok (.aload_n 2, 1) := by decide +kernel
theorem d_L_law_438 : decode code 438 = .ok (.aload_n 0, 1) := by decide +kernel
theorem d_L_law_439 : decode code 439 = .ok (.iload_n 3, 1) := by decide +kernel
theorem d_L_law_440 : decode code 440 = .ok (.iconst 1, 1) := by decide +kernel
theorem d_L_law_441 : decode code 441 = .ok (.iadd, 1) := by decide +kernel
theorem d_L_law_442 : decode code 442 = .ok (.iaload, 1) := by decide +kernel
theorem d_L_law_443 : decode code 443 = .ok (.invokevirtual 70, 3) := by decide +kernel
theorem d_L_law_446 : decode code 446 = .ok (.if_icmp .eq 28, 3) := by decide +kernel
theorem d_L_law_449 : decode code 449 = .ok (.iconst 0, 1) := by decide +kernel
theorem d_L_law_450 : decode code 450 = .ok (.ireturn, 1) := by decide +kernel
theorem d_L_law_451 : decode code 451 = .ok (.aload_n 1, 1) := by decide +kernel
theorem d_L_law_452 : decode code 452 = .ok (.aload_n 0, 1) := by decide +kernel
theorem d_L_law_453 : decode code 453 = .ok (.iload_n 3, 1) := by decide +kernel
theorem d_L_law_454 : decode code 454 = .ok (.iconst 1, 1) := by decide +kernel
theorem d_L_law_455 : decode code 455 = .ok (.iadd, 1) := by decide +kernel
theorem d_L_law_456 : decode code 456 = .ok (.iaload, 1) := by decide +kernel
theorem d_L_law_457 : decode code 457 = .ok (.invokevirtual 71, 3) := by decide +kernel
theorem d_L_law_460 : decode code 460 = .ok (.aload_n 2, 1) := by decide +kernel
theorem d_L_law_461 : decode code 461 = .ok (.aload_n 0, 1) := by decide +kernel
theorem d_L_law_462 : decode code 462 = .ok (.iload_n 3, 1) := by decide +kernel
theorem d_L_law_463 : decode code 463 = .ok (.iconst 1, 1) := by decide +kernel
theorem d_L_law_464 : decode code 464 = .ok (.iadd, 1) := by decide +kernel
theorem d_L_law_465 : decode code 465 = .ok (.iaload, 1) := by decide +kernel
theorem d_L_law_466 : decode code 466 = .ok (.invokevirtual 74, 3) := by decide +kernel
theorem d_L_law_469 : decode code 469 = .ok (.if_icmp .eq 5, 3) := by decide +kernel
theorem d_L_law_472 : decode code 472 = .ok (.iconst 0, 1) := by decide +kernel
theorem d_L_law_473 : decode code 473 = .ok (.ireturn, 1) := by decide +kernel
theorem d_L_law_474 : decode code 474 = .ok (.iinc 3 3, 3) := by decide +kernel
theorem d_L_law_477 : decode code 477 = .ok (.goto (-459), 3) := by decide +kernel
theorem d_L_law_480 : decode code 480 = .ok (.iconst 1, 1) := by decide +kernel
theorem d_L_law_481 : decode code 481 = .ok (.ireturn, 1) := by decide +kernel
end
section
/-- the parts of an instruction word -/
def mRs (w : Int32) : Int32 := (w.toUInt32 >>> ((27 : Int32).toUInt32 &&& Int32.toUInt32 31)).toInt32
def mAf (w : Int32) : Int32 := (w.toUInt32 >>> ((23 : Int32).toUInt32 &&& Int32.toUInt32 31)).toInt32 &&& 15
def mBs (w : Int32) : Int32 := (w.toUInt32 >>> ((20 : Int32).toUInt32 &&& Int32.toUInt32 31)).toInt32 &&& 7
def mF1 (w : Int32) : Int32 := (w.toUInt32 >>> ((16 : Int32).toUInt32 &&& Int32.toUInt32 31)).toInt32 &&& 15
def mF2 (w : Int32) : Int32 := (w.toUInt32 >>> ((12 : Int32).toUInt32 &&& Int32.toUInt32 31)).toInt32 &&& 15
def mLT (w : Int32) : Int32 := if (w >>> ((11 : Int32) &&& 31)) &&& 1 = 1 then 1 else 0
def mLL (w : Int32) : Int32 := if (w >>> ((10 : Int32) &&& 31)) &&& 1 = 1 then 1 else 0
def mNx (w : Int32) : Int32 := w &&& 1023
def mf (w : Int32) : List Value := [.int (mRs w), .int (mAf w), .int (mBs w), .int (mF1 w), .int (mF2 w), .int (mLT w), .int (mLL w), .int (mNx w)]
def qA (f : Nat → Nat) : (Nat → Int32) ⊕ (Nat → Int64) ⊕ (Nat → UInt32) ⊕ (Nat → UInt64) ⊕ (Nat → Option Nat) := .inr (.inr (.inr (.inr (fun i => some (f i)))))
/-- the component's cells: the object, its six arrays, its 1024 micros, its 16 strands -/
def wC (ad : Nat → Nat) (kc : Nat → ClassId) (am sm : Nat → Nat) (xt xl xc xm xi xn xa xy xb xw xo xs bu sh al ac : Int32) (con mem reg out wd pl ch dn wk : Nat → Int32) : va_W :=
  [(ad 0, .inr (0, [.ref (ad 1), .ref (ad 2), .ref (ad 3), .ref (ad 4), .ref (ad 5), .ref (ad 6), .int xt, .int xl, .int xc, .int xm, .int xi, .int xn, .int xa, .int xy, .int xb, .int xw, .int xo, .int xs, .int bu, .int sh, .int al, .int ac])),
   (ad 1, .inl (kc 0, 1024, qA am)), (ad 2, .inl (kc 1, 256, .inl con)), (ad 3, .inl (kc 2, 1024, .inl mem)), (ad 4, .inl (kc 3, 32, .inl reg)), (ad 5, .inl (kc 4, 16, qA sm)), (ad 6, .inl (kc 5, 500, .inl out))]
  ++ ((List.range 1024).map (fun i => (am i, Sum.inr (1, mf (wd i)))) ++ (List.range 16).map (fun i => (sm i, Sum.inr (2, [Value.int (pl i), .int (ch i), .int (dn i), .int (wk i)]))))
def tysC (kc : Nat → ClassId) : List (ClassId × FieldType) := [(kc 0, .object R_K), (kc 1, .int), (kc 2, .int), (kc 3, .int), (kc 4, .object R_S), (kc 5, .int)]
/-- the model's cells: the object, its nine arrays -/
def wM (md : Nat → Nat) (kd : Nat → ClassId) (xt xl xc xm xi xn xa xy xb xw xo xs rs af bs f1 f2 su sc : Int32) (con mem reg out wd pl ch dn wk : Nat → Int32) : va_W :=
  [(md 0, .inr (3, [.ref (md 1), .ref (md 2), .ref (md 3), .ref (md 4), .int xt, .int xl, .int xc, .int xm, .int xi, .ref (md 5), .ref (md 6), .ref (md 7), .ref (md 8), .int xn, .int xa, .int xy, .int xw, .int xs, .int xb, .int xo, .ref (md 9), .int rs, .int af, .int bs, .int f1, .int f2, .int su, .int sc])),
   (md 1, .inl (kd 0, 1024, .inl wd)), (md 2, .inl (kd 1, 256, .inl con)), (md 3, .inl (kd 2, 1024, .inl mem)), (md 4, .inl (kd 3, 32, .inl reg)), (md 5, .inl (kd 4, 16, .inl pl)), (md 6, .inl (kd 5, 16, .inl ch)), (md 7, .inl (kd 6, 16, .inl wk)), (md 8, .inl (kd 7, 16, .inl dn)), (md 9, .inl (kd 8, 500, .inl out))]
def tysM (kd : Nat → ClassId) : List (ClassId × FieldType) := [(kd 0, .int), (kd 1, .int), (kd 2, .int), (kd 3, .int), (kd 4, .int), (kd 5, .int), (kd 6, .boolean), (kd 7, .int), (kd 8, .int)]
def okC (A : Nat → Prop) (ad am sm : Nat → Nat) : Prop := ∀ (kc : Nat → ClassId) (xt xl xc xm xi xn xa xy xb xw xo xs bu sh al ac : Int32) (con mem reg out wd pl ch dn wk : Nat → Int32), va_D A (wC ad kc am sm xt xl xc xm xi xn xa xy xb xw xo xs bu sh al ac con mem reg out wd pl ch dn wk)
def okM (A : Nat → Prop) (md : Nat → Nat) : Prop := ∀ (kd : Nat → ClassId) (xt xl xc xm xi xn xa xy xb xw xo xs rs af bs f1 f2 su sc : Int32) (con mem reg out wd pl ch dn wk : Nat → Int32), va_D A (wM md kd xt xl xc xm xi xn xa xy xb xw xo xs rs af bs f1 f2 su sc con mem reg out wd pl ch dn wk)
theorem va_D.fst {A : Nat → Prop} {ws ws' : va_W} (h : va_D A ws) (e : ws.map Prod.fst = ws'.map Prod.fst) : va_D A ws' := by
  have key : ∀ (k : Nat) (q : Nat × va_E), ws'[k]? = some q → ∃ q0, ws[k]? = some q0 ∧ q0.1 = q.1 := by
    intro k q hq
    have h1 : (ws'.map Prod.fst)[k]? = some q.1 := by rw [List.getElem?_map, hq]; rfl
    rw [← e, List.getElem?_map] at h1
    cases h2 : ws[k]? with
    | none => rw [h2] at h1; cases h1
    | some q0 => rw [h2] at h1; exact ⟨q0, rfl, Option.some.inj h1⟩
  refine ⟨fun i j x y hi hj hxy => ?_, fun k q hk => ?_⟩
  · obtain ⟨x0, h1, h2⟩ := key i x hi
    obtain ⟨y0, h3, h4⟩ := key j y hj
    exact h.1 i j x0 y0 h1 h3 (h2.trans (hxy.trans h4.symm))
  · obtain ⟨q0, h1, h2⟩ := key k q hk
    rw [← h2]
    exact h.2 k q0 h1
theorem okC.of {A : Nat → Prop} {ad am sm : Nat → Nat} {kc : Nat → ClassId} {xt xl xc xm xi xn xa xy xb xw xo xs bu sh al ac : Int32} {con mem reg out wd pl ch dn wk : Nat → Int32} (h : va_D A (wC ad kc am sm xt xl xc xm xi xn xa xy xb xw xo xs bu sh al ac con mem reg out wd pl ch dn wk)) : okC A ad am sm := by
  intro kc2 xt2 xl2 xc2 xm2 xi2 xn2 xa2 xy2 xb2 xw2 xo2 xs2 bu2 sh2 al2 ac2 con2 mem2 reg2 out2 wd2 pl2 ch2 dn2 wk2
  refine h.fst ?_
  simp only [wC, List.map_append, List.map_map, List.map_cons, List.map_nil]
  rfl
theorem okM.of {A : Nat → Prop} {md : Nat → Nat} {kd : Nat → ClassId} {xt xl xc xm xi xn xa xy xb xw xo xs rs af bs f1 f2 su sc : Int32} {con mem reg out wd pl ch dn wk : Nat → Int32} (h : va_D A (wM md kd xt xl xc xm xi xn xa xy xb xw xo xs rs af bs f1 f2 su sc con mem reg out wd pl ch dn wk)) : okM A md := by
  intro kd2 xt2 xl2 xc2 xm2 xi2 xn2 xa2 xy2 xb2 xw2 xo2 xs2 rs2 af2 bs2 f12 f22 su2 sc2 con2 mem2 reg2 out2 wd2 pl2 ch2 dn2 wk2
  refine h.fst ?_
  simp only [wM, List.map_cons, List.map_nil]
theorem pl_get1 {F : va_W} {n k : Nat} {g h : Nat → Nat × va_E} {i : Nat} (hF : F.length = k) {N : Nat} (hi : i < n) : (F ++ ((List.range n).map g ++ (List.range N).map h))[k + i]? = some (g i) := by
  subst hF
  rw [List.getElem?_append_right (by omega), Nat.add_sub_cancel_left, List.getElem?_append_left (by simpa using hi), List.getElem?_map, List.getElem?_range hi]
  rfl
theorem pl_get2 {F : va_W} {n k : Nat} {g h : Nat → Nat × va_E} {i : Nat} {N : Nat} (hF : F.length + n = k) (hi : i < N) : (F ++ ((List.range n).map g ++ (List.range N).map h))[k + i]? = some (h i) := by
  subst hF
  rw [List.getElem?_append_right (by omega), List.getElem?_append_right (by simp; omega), List.length_map, List.length_range, show F.length + n + i - F.length - n = i by omega, List.getElem?_map, List.getElem?_range hi]
  rfl
theorem pl_map_set {n i : Nat} {g g' : Nat → Nat × va_E} (hg : ∀ j, j ≠ i → g' j = g j) : ((List.range n).map g).set i (g' i) = (List.range n).map g' := by
  apply List.ext_getElem?
  intro j
  by_cases hj : j < n
  · by_cases hji : i = j
    · subst hji
      rw [List.getElem?_set_self (by simpa using hj), List.getElem?_map, List.getElem?_range hj]
      rfl
    · rw [List.getElem?_set_ne hji, List.getElem?_map, List.getElem?_map, List.getElem?_range hj]
      show some (g j) = some (g' j)
      rw [hg j (Ne.symm hji)]
  · rw [List.getElem?_eq_none (by simp; omega), List.getElem?_eq_none (by simp; omega)]
theorem pl_set1 {F : va_W} {n k : Nat} {g g' : Nat → Nat × va_E} {i : Nat} {X : va_W} (hF : F.length = k) (hi : i < n) (hg : ∀ j, j ≠ i → g' j = g j) : (F ++ ((List.range n).map g ++ X)).set (k + i) (g' i) = F ++ ((List.range n).map g' ++ X) := by
  subst hF
  rw [List.set_append_right _ _ (by omega), Nat.add_sub_cancel_left, List.set_append_left _ _ (by simpa using hi), pl_map_set hg]
theorem pl_set2 {F : va_W} {n k : Nat} {g h h' : Nat → Nat × va_E} {i N : Nat} (hF : F.length + n = k) (hi : i < N) (hg : ∀ j, j ≠ i → h' j = h j) : (F ++ ((List.range n).map g ++ (List.range N).map h)).set (k + i) (h' i) = F ++ ((List.range n).map g ++ (List.range N).map h') := by
  subst hF
  rw [List.set_append_right _ _ (by omega), show F.length + n + i - F.length = n + i by omega, List.set_append_right _ _ (by simp), List.length_map, List.length_range, Nat.add_sub_cancel_left, pl_map_set hg]
theorem upd_s {f : Nat → Int32} {i : Nat} : upd f i (f i) = f := by
  funext j
  by_cases h : j = i
  · subst h; simp [upd]
  · simp [upd, h]
theorem upd_at {f : Nat → Int32} {i : Nat} {x : Int32} : upd f i x i = x := by simp [upd]
theorem upd_ne {f : Nat → Int32} {i j : Nat} {x : Int32} (h : j ≠ i) : upd f i x j = f j := by simp [upd, h]
/-! rows -/
section LAY
variable {p : Program} {l : Launch} {e : Env} {R : Room} {s : State} {m : MethodId} {args : Array Value} {below : List Frame} {meth : Method} {c : Code} {H H0 : Heap} {locs : List Loc} {cells slots : Nat} {Q : State → Prop} {cc : ByteArray} {nL pc : Nat} {own : String} {ls : Array Slot} {rest : List Value} {D : va_G} {A : Nat → Prop} {ad am sm md : Nat → Nat} {kc kd : Nat → ClassId} {xt xl xc xm xi xn xa xy xb xw xo xs bu sh al ac rs af bs f1 f2 su sc : Int32} {con mem reg out wd pl ch dn wk : Nat → Int32}
theorem wC_k {i : Nat} (hi : i < 1024) : (wC ad kc am sm xt xl xc xm xi xn xa xy xb xw xo xs bu sh al ac con mem reg out wd pl ch dn wk)[7 + i]? = some (am i, .inr (1, mf (wd i))) := pl_get1 (g := fun i => (am i, Sum.inr (1, mf (wd i)))) rfl hi
theorem wC_s {i : Nat} (hi : i < 16) : (wC ad kc am sm xt xl xc xm xi xn xa xy xb xw xo xs bu sh al ac con mem reg out wd pl ch dn wk)[1031 + i]? = some (sm i, .inr (2, [.int (pl i), .int (ch i), .int (dn i), .int (wk i)])) := pl_get2 (h := fun i => (sm i, Sum.inr (2, [Value.int (pl i), .int (ch i), .int (dn i), .int (wk i)]))) rfl hi
theorem wC_kset {i : Nat} {w : Int32} (hi : i < 1024) : (wC ad kc am sm xt xl xc xm xi xn xa xy xb xw xo xs bu sh al ac con mem reg out wd pl ch dn wk).set (7 + i) (am i, .inr (1, mf w)) = wC ad kc am sm xt xl xc xm xi xn xa xy xb xw xo xs bu sh al ac con mem reg out (upd wd i w) pl ch dn wk := by
  have h := pl_set1 (F := [(ad 0, .inr (0, [.ref (ad 1), .ref (ad 2), .ref (ad 3), .ref (ad 4), .ref (ad 5), .ref (ad 6), .int xt, .int xl, .int xc, .int xm, .int xi, .int xn, .int xa, .int xy, .int xb, .int xw, .int xo, .int xs, .int bu, .int sh, .int al, .int ac])), (ad 1, .inl (kc 0, 1024, qA am)), (ad 2, .inl (kc 1, 256, .inl con)), (ad 3, .inl (kc 2, 1024, .inl mem)), (ad 4, .inl (kc 3, 32, .inl reg)), (ad 5, .inl (kc 4, 16, qA sm)), (ad 6, .inl (kc 5, 500, .inl out))]) (k := 7) (n := 1024) (i := i) (g := fun i => (am i, Sum.inr (1, mf (wd i)))) (g' := fun j => (am j, Sum.inr (1, mf (upd wd i w j)))) (X := (List.range 16).map (fun i => (sm i, Sum.inr (2, [Value.int (pl i), .int (ch i), .int (dn i), .int (wk i)])))) rfl hi (fun j hj => by simp only [upd_ne hj])
  simp only [upd_at] at h
  exact h
theorem wC_sset {i : Nat} {v1 v2 v3 v4 : Int32} (hi : i < 16) : (wC ad kc am sm xt xl xc xm xi xn xa xy xb xw xo xs bu sh al ac con mem reg out wd pl ch dn wk).set (1031 + i) (sm i, .inr (2, [.int v1, .int v2, .int v3, .int v4])) = wC ad kc am sm xt xl xc xm xi xn xa xy xb xw xo xs bu sh al ac con mem reg out wd (upd pl i v1) (upd ch i v2) (upd dn i v3) (upd wk i v4) := by
  have h := pl_set2 (F := [(ad 0, .inr (0, [.ref (ad 1), .ref (ad 2), .ref (ad 3), .ref (ad 4), .ref (ad 5), .ref (ad 6), .int xt, .int xl, .int xc, .int xm, .int xi, .int xn, .int xa, .int xy, .int xb, .int xw, .int xo, .int xs, .int bu, .int sh, .int al, .int ac])), (ad 1, .inl (kc 0, 1024, qA am)), (ad 2, .inl (kc 1, 256, .inl con)), (ad 3, .inl (kc 2, 1024, .inl mem)), (ad 4, .inl (kc 3, 32, .inl reg)), (ad 5, .inl (kc 4, 16, qA sm)), (ad 6, .inl (kc 5, 500, .inl out))]) (k := 1031) (n := 1024) (N := 16) (i := i) (g := fun i => (am i, Sum.inr (1, mf (wd i)))) (h := fun i => (sm i, Sum.inr (2, [Value.int (pl i), .int (ch i), .int (dn i), .int (wk i)]))) (h' := fun j => (sm j, Sum.inr (2, [Value.int (upd pl i v1 j), .int (upd ch i v2 j), .int (upd dn i v3 j), .int (upd wk i v4 j)]))) rfl hi (fun j hj => by simp only [upd_ne hj])
  simp only [upd_at] at h
  exact h
/-- contexts -/
def cxC (p : Program) (m : MethodId) (c : Code) (cc : ByteArray) (nL : Nat) (s : State) (args : Array Value) (own : String) (D : va_G) (kc : Nat → ClassId) : Prop := CallFix p m c cc nL s args gW own ∧ va_K D classes (tysC kc) s ∧ nW s
def cxM (p : Program) (m : MethodId) (c : Code) (cc : ByteArray) (nL : Nat) (s : State) (args : Array Value) (own : String) (D : va_G) (kd : Nat → ClassId) : Prop := CallFix p m c cc nL s args gW own ∧ va_K D classes (tysM kd) s ∧ nW s
theorem fit_z {v : Int32} (h : v = 0 ∨ v = 1) : narrow .boolean (.int v) = .int v ∧ fits .boolean (.int v) = true := by
  rcases h with rfl | rfl <;> exact ⟨rfl, rfl⟩
theorem nar_z {v : Int32} (h : v = 0 ∨ v = 1) : vp_nar .boolean v = v := by
  rcases h with rfl | rfl <;> rfl
theorem gC_store (Z : cxC p m c cc nL s args R_C D kc) (hP : va_P D classes (wC ad kc am sm xt xl xc xm xi xn xa xy xb xw xo xs bu sh al ac con mem reg out wd pl ch dn wk) H) (hd : decode cc pc = .ok (.getfield 9, 3)) (kk : W p l e R s m args below meth c H locs cells slots Q (F0 m (pc + 3) ls (.ref (ad 1) :: rest))) : W p l e R s m args below meth c H locs cells slots Q (F0 m pc ls (.ref (ad 0) :: rest)) :=
  va_get (D := D) (ci := 0) (v := .ref (ad 1)) (C := R_C) (T := F_C) (N := 22) Z.1.1 Z.1.2.1 Z.1.2.2.2.2 i_C Z.1.2.2.2.1 Z.2.1 hP 0 rfl rfl 0 (by decide) (Z.1.2.2.2.2 _ q_75) (fun _ h9 => h9) rfl hd kk
theorem gC_constants (Z : cxC p m c cc nL s args R_C D kc) (hP : va_P D classes (wC ad kc am sm xt xl xc xm xi xn xa xy xb xw xo xs bu sh al ac con mem reg out wd pl ch dn wk) H) (hd : decode cc pc = .ok (.getfield 15, 3)) (kk : W p l e R s m args below meth c H locs cells slots Q (F0 m (pc + 3) ls (.ref (ad 2) :: rest))) : W p l e R s m args below meth c H locs cells slots Q (F0 m pc ls (.ref (ad 0) :: rest)) :=
  va_get (D := D) (ci := 0) (v := .ref (ad 2)) (C := R_C) (T := F_C) (N := 22) Z.1.1 Z.1.2.1 Z.1.2.2.2.2 i_C Z.1.2.2.2.1 Z.2.1 hP 0 rfl rfl 1 (by decide) (Z.1.2.2.2.2 _ q_76) (fun _ h9 => h9) rfl hd kk
theorem gC_memory (Z : cxC p m c cc nL s args R_C D kc) (hP : va_P D classes (wC ad kc am sm xt xl xc xm xi xn xa xy xb xw xo xs bu sh al ac con mem reg out wd pl ch dn wk) H) (hd : decode cc pc = .ok (.getfield 19, 3)) (kk : W p l e R s m args below meth c H locs cells slots Q (F0 m (pc + 3) ls (.ref (ad 3) :: rest))) : W p l e R s m args below meth c H locs cells slots Q (F0 m pc ls (.ref (ad 0) :: rest)) :=
  va_get (D := D) (ci := 0) (v := .ref (ad 3)) (C := R_C) (T := F_C) (N := 22) Z.1.1 Z.1.2.1 Z.1.2.2.2.2 i_C Z.1.2.2.2.1 Z.2.1 hP 0 rfl rfl 2 (by decide) (Z.1.2.2.2.2 _ q_77) (fun _ h9 => h9) rfl hd kk
theorem gC_registers (Z : cxC p m c cc nL s args R_C D kc) (hP : va_P D classes (wC ad kc am sm xt xl xc xm xi xn xa xy xb xw xo xs bu sh al ac con mem reg out wd pl ch dn wk) H) (hd : decode cc pc = .ok (.getfield 22, 3)) (kk : W p l e R s m args below meth c H locs cells slots Q (F0 m (pc + 3) ls (.ref (ad 4) :: rest))) : W p l e R s m args below meth c H locs cells slots Q (F0 m pc ls (.ref (ad 0) :: rest)) :=
  va_get (D := D) (ci := 0) (v := .ref (ad 4)) (C := R_C) (T := F_C) (N := 22) Z.1.1 Z.1.2.1 Z.1.2.2.2.2 i_C Z.1.2.2.2.1 Z.2.1 hP 0 rfl rfl 3 (by decide) (Z.1.2.2.2.2 _ q_78) (fun _ h9 => h9) rfl hd kk
theorem gC_strands (Z : cxC p m c cc nL s args R_C D kc) (hP : va_P D classes (wC ad kc am sm xt xl xc xm xi xn xa xy xb xw xo xs bu sh al ac con mem reg out wd pl ch dn wk) H) (hd : decode cc pc = .ok (.getfield 27, 3)) (kk : W p l e R s m args below meth c H locs cells slots Q (F0 m (pc + 3) ls (.ref (ad 5) :: rest))) : W p l e R s m args below meth c H locs cells slots Q (F0 m pc ls (.ref (ad 0) :: rest)) :=
  va_get (D := D) (ci := 0) (v := .ref (ad 5)) (C := R_C) (T := F_C) (N := 22) Z.1.1 Z.1.2.1 Z.1.2.2.2.2 i_C Z.1.2.2.2.1 Z.2.1 hP 0 rfl rfl 4 (by decide) (Z.1.2.2.2.2 _ q_79) (fun _ h9 => h9) rfl hd kk
theorem gC_outs (Z : cxC p m c cc nL s args R_C D kc) (hP : va_P D classes (wC ad kc am sm xt xl xc xm xi xn xa xy xb xw xo xs bu sh al ac con mem reg out wd pl ch dn wk) H) (hd : decode cc pc = .ok (.getfield 31, 3)) (kk : W p l e R s m args below meth c H locs cells slots Q (F0 m (pc + 3) ls (.ref (ad 6) :: rest))) : W p l e R s m args below meth c H locs cells slots Q (F0 m pc ls (.ref (ad 0) :: rest)) :=
  va_get (D := D) (ci := 0) (v := .ref (ad 6)) (C := R_C) (T := F_C) (N := 22) Z.1.1 Z.1.2.1 Z.1.2.2.2.2 i_C Z.1.2.2.2.1 Z.2.1 hP 0 rfl rfl 5 (by decide) (Z.1.2.2.2.2 _ q_80) (fun _ h9 => h9) rfl hd kk
theorem gC_t (Z : cxC p m c cc nL s args R_C D kc) (hP : va_P D classes (wC ad kc am sm xt xl xc xm xi xn xa xy xb xw xo xs bu sh al ac con mem reg out wd pl ch dn wk) H) (hd : decode cc pc = .ok (.getfield 114, 3)) (kk : W p l e R s m args below meth c H locs cells slots Q (F0 m (pc + 3) ls (.int xt :: rest))) : W p l e R s m args below meth c H locs cells slots Q (F0 m pc ls (.ref (ad 0) :: rest)) :=
  va_get (D := D) (ci := 0) (v := .int xt) (C := R_C) (T := F_C) (N := 22) Z.1.1 Z.1.2.1 Z.1.2.2.2.2 i_C Z.1.2.2.2.1 Z.2.1 hP 0 rfl rfl 6 (by decide) (Z.1.2.2.2.2 _ q_81) (fun _ h9 => h9) rfl hd kk
theorem pC_t (Z : cxC p m c cc nL s args R_C D kc) (hP : va_P D classes (wC ad kc am sm xt xl xc xm xi xn xa xy xb xw xo xs bu sh al ac con mem reg out wd pl ch dn wk) H) (hO : okC A ad am sm) (hS : va_S A H0 H locs) {v : Int32} (hd : decode cc pc = .ok (.putfield 114, 3)) (kk : ∀ (H1 : Heap) (locs1 : List Loc), va_P D classes (wC ad kc am sm v xl xc xm xi xn xa xy xb xw xo xs bu sh al ac con mem reg out wd pl ch dn wk) H1 → va_S A H0 H1 locs1 → W p l e R s m args below meth c H1 locs1 cells slots Q (F0 m (pc + 3) ls rest)) : W p l e R s m args below meth c H locs cells slots Q (F0 m pc ls (.int v :: .ref (ad 0) :: rest)) :=
  va_put (D := D) (ci := 0) (v := .int v) (ty := .int) (C := R_C) (T := F_C) (N := 22) Z.1.1 Z.1.2.1 Z.1.2.2.2.2 i_C t_C t_C_ok n_C Z.1.2.2.2.1 Z.2.1 hP (hO _ _ _ _ _ _ _ _ _ _ _ _ _ _ _ _ _ _ _ _ _ _ _ _ _ _) hS 0 rfl rfl 6 (by decide) (Z.1.2.2.2.2 _ q_81) (fun _ h9 => h9) rfl (by decide +kernel) rfl rfl (Nat.le_of_ble_eq_true rfl) hd (fun H1 l1 h1 _ h3 => kk H1 l1 h1 h3)
theorem gC_l (Z : cxC p m c cc nL s args R_C D kc) (hP : va_P D classes (wC ad kc am sm xt xl xc xm xi xn xa xy xb xw xo xs bu sh al ac con mem reg out wd pl ch dn wk) H) (hd : decode cc pc = .ok (.getfield 90, 3)) (kk : W p l e R s m args below meth c H locs cells slots Q (F0 m (pc + 3) ls (.int xl :: rest))) : W p l e R s m args below meth c H locs cells slots Q (F0 m pc ls (.ref (ad 0) :: rest)) :=
  va_get (D := D) (ci := 0) (v := .int xl) (C := R_C) (T := F_C) (N := 22) Z.1.1 Z.1.2.1 Z.1.2.2.2.2 i_C Z.1.2.2.2.1 Z.2.1 hP 0 rfl rfl 7 (by decide) (Z.1.2.2.2.2 _ q_82) (fun _ h9 => h9) rfl hd kk
theorem pC_l (Z : cxC p m c cc nL s args R_C D kc) (hP : va_P D classes (wC ad kc am sm xt xl xc xm xi xn xa xy xb xw xo xs bu sh al ac con mem reg out wd pl ch dn wk) H) (hO : okC A ad am sm) (hS : va_S A H0 H locs) {v : Int32} (hd : decode cc pc = .ok (.putfield 90, 3)) (kk : ∀ (H1 : Heap) (locs1 : List Loc), va_P D classes (wC ad kc am sm xt v xc xm xi xn xa xy xb xw xo xs bu sh al ac con mem reg out wd pl ch dn wk) H1 → va_S A H0 H1 locs1 → W p l e R s m args below meth c H1 locs1 cells slots Q (F0 m (pc + 3) ls rest)) : W p l e R s m args below meth c H locs cells slots Q (F0 m pc ls (.int v :: .ref (ad 0) :: rest)) :=
  va_put (D := D) (ci := 0) (v := .int v) (ty := .int) (C := R_C) (T := F_C) (N := 22) Z.1.1 Z.1.2.1 Z.1.2.2.2.2 i_C t_C t_C_ok n_C Z.1.2.2.2.1 Z.2.1 hP (hO _ _ _ _ _ _ _ _ _ _ _ _ _ _ _ _ _ _ _ _ _ _ _ _ _ _) hS 0 rfl rfl 7 (by decide) (Z.1.2.2.2.2 _ q_82) (fun _ h9 => h9) rfl (by decide +kernel) rfl rfl (Nat.le_of_ble_eq_true rfl) hd (fun H1 l1 h1 _ h3 => kk H1 l1 h1 h3)
theorem gC_carry (Z : cxC p m c cc nL s args R_C D kc) (hP : va_P D classes (wC ad kc am sm xt xl xc xm xi xn xa xy xb xw xo xs bu sh al ac con mem reg out wd pl ch dn wk) H) (hd : decode cc pc = .ok (.getfield 123, 3)) (kk : W p l e R s m args below meth c H locs cells slots Q (F0 m (pc + 3) ls (.int xc :: rest))) : W p l e R s m args below meth c H locs cells slots Q (F0 m pc ls (.ref (ad 0) :: rest)) :=
  va_get (D := D) (ci := 0) (v := .int xc) (C := R_C) (T := F_C) (N := 22) Z.1.1 Z.1.2.1 Z.1.2.2.2.2 i_C Z.1.2.2.2.1 Z.2.1 hP 0 rfl rfl 8 (by decide) (Z.1.2.2.2.2 _ q_83) (fun _ h9 => h9) rfl hd kk
theorem pC_carry (Z : cxC p m c cc nL s args R_C D kc) (hP : va_P D classes (wC ad kc am sm xt xl xc xm xi xn xa xy xb xw xo xs bu sh al ac con mem reg out wd pl ch dn wk) H) (hO : okC A ad am sm) (hS : va_S A H0 H locs) {v : Int32} (hd : decode cc pc = .ok (.putfield 123, 3)) (kk : ∀ (H1 : Heap) (locs1 : List Loc), va_P D classes (wC ad kc am sm xt xl v xm xi xn xa xy xb xw xo xs bu sh al ac con mem reg out wd pl ch dn wk) H1 → va_S A H0 H1 locs1 → W p l e R s m args below meth c H1 locs1 cells slots Q (F0 m (pc + 3) ls rest)) : W p l e R s m args below meth c H locs cells slots Q (F0 m pc ls (.int v :: .ref (ad 0) :: rest)) :=
  va_put (D := D) (ci := 0) (v := .int v) (ty := .int) (C := R_C) (T := F_C) (N := 22) Z.1.1 Z.1.2.1 Z.1.2.2.2.2 i_C t_C t_C_ok n_C Z.1.2.2.2.1 Z.2.1 hP (hO _ _ _ _ _ _ _ _ _ _ _ _ _ _ _ _ _ _ _ _ _ _ _ _ _ _) hS 0 rfl rfl 8 (by decide) (Z.1.2.2.2.2 _ q_83) (fun _ h9 => h9) rfl (by decide +kernel) rfl rfl (Nat.le_of_ble_eq_true rfl) hd (fun H1 l1 h1 _ h3 => kk H1 l1 h1 h3)
theorem gC_mar (Z : cxC p m c cc nL s args R_C D kc) (hP : va_P D classes (wC ad kc am sm xt xl xc xm xi xn xa xy xb xw xo xs bu sh al ac con mem reg out wd pl ch dn wk) H) (hd : decode cc pc = .ok (.getfield 105, 3)) (kk : W p l e R s m args below meth c H locs cells slots Q (F0 m (pc + 3) ls (.int xm :: rest))) : W p l e R s m args below meth c H locs cells slots Q (F0 m pc ls (.ref (ad 0) :: rest)) :=
  va_get (D := D) (ci := 0) (v := .int xm) (C := R_C) (T := F_C) (N := 22) Z.1.1 Z.1.2.1 Z.1.2.2.2.2 i_C Z.1.2.2.2.1 Z.2.1 hP 0 rfl rfl 9 (by decide) (Z.1.2.2.2.2 _ q_84) (fun _ h9 => h9) rfl hd kk
theorem pC_mar (Z : cxC p m c cc nL s args R_C D kc) (hP : va_P D classes (wC ad kc am sm xt xl xc xm xi xn xa xy xb xw xo xs bu sh al ac con mem reg out wd pl ch dn wk) H) (hO : okC A ad am sm) (hS : va_S A H0 H locs) {v : Int32} (hd : decode cc pc = .ok (.putfield 105, 3)) (kk : ∀ (H1 : Heap) (locs1 : List Loc), va_P D classes (wC ad kc am sm xt xl xc v xi xn xa xy xb xw xo xs bu sh al ac con mem reg out wd pl ch dn wk) H1 → va_S A H0 H1 locs1 → W p l e R s m args below meth c H1 locs1 cells slots Q (F0 m (pc + 3) ls rest)) : W p l e R s m args below meth c H locs cells slots Q (F0 m pc ls (.int v :: .ref (ad 0) :: rest)) :=
  va_put (D := D) (ci := 0) (v := .int v) (ty := .int) (C := R_C) (T := F_C) (N := 22) Z.1.1 Z.1.2.1 Z.1.2.2.2.2 i_C t_C t_C_ok n_C Z.1.2.2.2.1 Z.2.1 hP (hO _ _ _ _ _ _ _ _ _ _ _ _ _ _ _ _ _ _ _ _ _ _ _ _ _ _) hS 0 rfl rfl 9 (by decide) (Z.1.2.2.2.2 _ q_84) (fun _ h9 => h9) rfl (by decide +kernel) rfl rfl (Nat.le_of_ble_eq_true rfl) hd (fun H1 l1 h1 _ h3 => kk H1 l1 h1 h3)
theorem gC_input (Z : cxC p m c cc nL s args R_C D kc) (hP : va_P D classes (wC ad kc am sm xt xl xc xm xi xn xa xy xb xw xo xs bu sh al ac con mem reg out wd pl ch dn wk) H) (hd : decode cc pc = .ok (.getfield 59, 3)) (kk : W p l e R s m args below meth c H locs cells slots Q (F0 m (pc + 3) ls (.int xi :: rest))) : W p l e R s m args below meth c H locs cells slots Q (F0 m pc ls (.ref (ad 0) :: rest)) :=
  va_get (D := D) (ci := 0) (v := .int xi) (C := R_C) (T := F_C) (N := 22) Z.1.1 Z.1.2.1 Z.1.2.2.2.2 i_C Z.1.2.2.2.1 Z.2.1 hP 0 rfl rfl 10 (by decide) (Z.1.2.2.2.2 _ q_85) (fun _ h9 => h9) rfl hd kk
theorem pC_input (Z : cxC p m c cc nL s args R_C D kc) (hP : va_P D classes (wC ad kc am sm xt xl xc xm xi xn xa xy xb xw xo xs bu sh al ac con mem reg out wd pl ch dn wk) H) (hO : okC A ad am sm) (hS : va_S A H0 H locs) {v : Int32} (hd : decode cc pc = .ok (.putfield 59, 3)) (kk : ∀ (H1 : Heap) (locs1 : List Loc), va_P D classes (wC ad kc am sm xt xl xc xm v xn xa xy xb xw xo xs bu sh al ac con mem reg out wd pl ch dn wk) H1 → va_S A H0 H1 locs1 → W p l e R s m args below meth c H1 locs1 cells slots Q (F0 m (pc + 3) ls rest)) : W p l e R s m args below meth c H locs cells slots Q (F0 m pc ls (.int v :: .ref (ad 0) :: rest)) :=
  va_put (D := D) (ci := 0) (v := .int v) (ty := .int) (C := R_C) (T := F_C) (N := 22) Z.1.1 Z.1.2.1 Z.1.2.2.2.2 i_C t_C t_C_ok n_C Z.1.2.2.2.1 Z.2.1 hP (hO _ _ _ _ _ _ _ _ _ _ _ _ _ _ _ _ _ _ _ _ _ _ _ _ _ _) hS 0 rfl rfl 10 (by decide) (Z.1.2.2.2.2 _ q_85) (fun _ h9 => h9) rfl (by decide +kernel) rfl rfl (Nat.le_of_ble_eq_true rfl) hd (fun H1 l1 h1 _ h3 => kk H1 l1 h1 h3)
theorem gC_now (Z : cxC p m c cc nL s args R_C D kc) (hP : va_P D classes (wC ad kc am sm xt xl xc xm xi xn xa xy xb xw xo xs bu sh al ac con mem reg out wd pl ch dn wk) H) (hd : decode cc pc = .ok (.getfield 102, 3)) (kk : W p l e R s m args below meth c H locs cells slots Q (F0 m (pc + 3) ls (.int xn :: rest))) : W p l e R s m args below meth c H locs cells slots Q (F0 m pc ls (.ref (ad 0) :: rest)) :=
  va_get (D := D) (ci := 0) (v := .int xn) (C := R_C) (T := F_C) (N := 22) Z.1.1 Z.1.2.1 Z.1.2.2.2.2 i_C Z.1.2.2.2.1 Z.2.1 hP 0 rfl rfl 11 (by decide) (Z.1.2.2.2.2 _ q_86) (fun _ h9 => h9) rfl hd kk
theorem pC_now (Z : cxC p m c cc nL s args R_C D kc) (hP : va_P D classes (wC ad kc am sm xt xl xc xm xi xn xa xy xb xw xo xs bu sh al ac con mem reg out wd pl ch dn wk) H) (hO : okC A ad am sm) (hS : va_S A H0 H locs) {v : Int32} (hd : decode cc pc = .ok (.putfield 102, 3)) (kk : ∀ (H1 : Heap) (locs1 : List Loc), va_P D classes (wC ad kc am sm xt xl xc xm xi v xa xy xb xw xo xs bu sh al ac con mem reg out wd pl ch dn wk) H1 → va_S A H0 H1 locs1 → W p l e R s m args below meth c H1 locs1 cells slots Q (F0 m (pc + 3) ls rest)) : W p l e R s m args below meth c H locs cells slots Q (F0 m pc ls (.int v :: .ref (ad 0) :: rest)) :=
  va_put (D := D) (ci := 0) (v := .int v) (ty := .int) (C := R_C) (T := F_C) (N := 22) Z.1.1 Z.1.2.1 Z.1.2.2.2.2 i_C t_C t_C_ok n_C Z.1.2.2.2.1 Z.2.1 hP (hO _ _ _ _ _ _ _ _ _ _ _ _ _ _ _ _ _ _ _ _ _ _ _ _ _ _) hS 0 rfl rfl 11 (by decide) (Z.1.2.2.2.2 _ q_86) (fun _ h9 => h9) rfl (by decide +kernel) rfl rfl (Nat.le_of_ble_eq_true rfl) hd (fun H1 l1 h1 _ h3 => kk H1 l1 h1 h3)
theorem gC_asked (Z : cxC p m c cc nL s args R_C D kc) (hP : va_P D classes (wC ad kc am sm xt xl xc xm xi xn xa xy xb xw xo xs bu sh al ac con mem reg out wd pl ch dn wk) H) (hd : decode cc pc = .ok (.getfield 181, 3)) (kk : W p l e R s m args below meth c H locs cells slots Q (F0 m (pc + 3) ls (.int xa :: rest))) : W p l e R s m args below meth c H locs cells slots Q (F0 m pc ls (.ref (ad 0) :: rest)) :=
  va_get (D := D) (ci := 0) (v := .int xa) (C := R_C) (T := F_C) (N := 22) Z.1.1 Z.1.2.1 Z.1.2.2.2.2 i_C Z.1.2.2.2.1 Z.2.1 hP 0 rfl rfl 12 (by decide) (Z.1.2.2.2.2 _ q_87) (fun _ h9 => h9) rfl hd kk
theorem pC_asked (Z : cxC p m c cc nL s args R_C D kc) (hP : va_P D classes (wC ad kc am sm xt xl xc xm xi xn xa xy xb xw xo xs bu sh al ac con mem reg out wd pl ch dn wk) H) (hO : okC A ad am sm) (hS : va_S A H0 H locs) {v : Int32} (hv : v = 0 ∨ v = 1) (hd : decode cc pc = .ok (.putfield 181, 3)) (kk : ∀ (H1 : Heap) (locs1 : List Loc), va_P D classes (wC ad kc am sm xt xl xc xm xi xn v xy xb xw xo xs bu sh al ac con mem reg out wd pl ch dn wk) H1 → va_S A H0 H1 locs1 → W p l e R s m args below meth c H1 locs1 cells slots Q (F0 m (pc + 3) ls rest)) : W p l e R s m args below meth c H locs cells slots Q (F0 m pc ls (.int v :: .ref (ad 0) :: rest)) :=
  va_put (D := D) (ci := 0) (v := .int v) (ty := .boolean) (C := R_C) (T := F_C) (N := 22) Z.1.1 Z.1.2.1 Z.1.2.2.2.2 i_C t_C t_C_ok n_C Z.1.2.2.2.1 Z.2.1 hP (hO _ _ _ _ _ _ _ _ _ _ _ _ _ _ _ _ _ _ _ _ _ _ _ _ _ _) hS 0 rfl rfl 12 (by decide) (Z.1.2.2.2.2 _ q_87) (fun _ h9 => h9) rfl (by decide +kernel) (fit_z hv).1 (fit_z hv).2 (Nat.le_of_ble_eq_true rfl) hd (fun H1 l1 h1 _ h3 => kk H1 l1 h1 h3)
theorem gC_cycle (Z : cxC p m c cc nL s args R_C D kc) (hP : va_P D classes (wC ad kc am sm xt xl xc xm xi xn xa xy xb xw xo xs bu sh al ac con mem reg out wd pl ch dn wk) H) (hd : decode cc pc = .ok (.getfield 74, 3)) (kk : W p l e R s m args below meth c H locs cells slots Q (F0 m (pc + 3) ls (.int xy :: rest))) : W p l e R s m args below meth c H locs cells slots Q (F0 m pc ls (.ref (ad 0) :: rest)) :=
  va_get (D := D) (ci := 0) (v := .int xy) (C := R_C) (T := F_C) (N := 22) Z.1.1 Z.1.2.1 Z.1.2.2.2.2 i_C Z.1.2.2.2.1 Z.2.1 hP 0 rfl rfl 13 (by decide) (Z.1.2.2.2.2 _ q_88) (fun _ h9 => h9) rfl hd kk
theorem pC_cycle (Z : cxC p m c cc nL s args R_C D kc) (hP : va_P D classes (wC ad kc am sm xt xl xc xm xi xn xa xy xb xw xo xs bu sh al ac con mem reg out wd pl ch dn wk) H) (hO : okC A ad am sm) (hS : va_S A H0 H locs) {v : Int32} (hd : decode cc pc = .ok (.putfield 74, 3)) (kk : ∀ (H1 : Heap) (locs1 : List Loc), va_P D classes (wC ad kc am sm xt xl xc xm xi xn xa v xb xw xo xs bu sh al ac con mem reg out wd pl ch dn wk) H1 → va_S A H0 H1 locs1 → W p l e R s m args below meth c H1 locs1 cells slots Q (F0 m (pc + 3) ls rest)) : W p l e R s m args below meth c H locs cells slots Q (F0 m pc ls (.int v :: .ref (ad 0) :: rest)) :=
  va_put (D := D) (ci := 0) (v := .int v) (ty := .int) (C := R_C) (T := F_C) (N := 22) Z.1.1 Z.1.2.1 Z.1.2.2.2.2 i_C t_C t_C_ok n_C Z.1.2.2.2.1 Z.2.1 hP (hO _ _ _ _ _ _ _ _ _ _ _ _ _ _ _ _ _ _ _ _ _ _ _ _ _ _) hS 0 rfl rfl 13 (by decide) (Z.1.2.2.2.2 _ q_88) (fun _ h9 => h9) rfl (by decide +kernel) rfl rfl (Nat.le_of_ble_eq_true rfl) hd (fun H1 l1 h1 _ h3 => kk H1 l1 h1 h3)
theorem gC_began (Z : cxC p m c cc nL s args R_C D kc) (hP : va_P D classes (wC ad kc am sm xt xl xc xm xi xn xa xy xb xw xo xs bu sh al ac con mem reg out wd pl ch dn wk) H) (hd : decode cc pc = .ok (.getfield 34, 3)) (kk : W p l e R s m args below meth c H locs cells slots Q (F0 m (pc + 3) ls (.int xb :: rest))) : W p l e R s m args below meth c H locs cells slots Q (F0 m pc ls (.ref (ad 0) :: rest)) :=
  va_get (D := D) (ci := 0) (v := .int xb) (C := R_C) (T := F_C) (N := 22) Z.1.1 Z.1.2.1 Z.1.2.2.2.2 i_C Z.1.2.2.2.1 Z.2.1 hP 0 rfl rfl 14 (by decide) (Z.1.2.2.2.2 _ q_89) (fun _ h9 => h9) rfl hd kk
theorem pC_began (Z : cxC p m c cc nL s args R_C D kc) (hP : va_P D classes (wC ad kc am sm xt xl xc xm xi xn xa xy xb xw xo xs bu sh al ac con mem reg out wd pl ch dn wk) H) (hO : okC A ad am sm) (hS : va_S A H0 H locs) {v : Int32} (hd : decode cc pc = .ok (.putfield 34, 3)) (kk : ∀ (H1 : Heap) (locs1 : List Loc), va_P D classes (wC ad kc am sm xt xl xc xm xi xn xa xy v xw xo xs bu sh al ac con mem reg out wd pl ch dn wk) H1 → va_S A H0 H1 locs1 → W p l e R s m args below meth c H1 locs1 cells slots Q (F0 m (pc + 3) ls rest)) : W p l e R s m args below meth c H locs cells slots Q (F0 m pc ls (.int v :: .ref (ad 0) :: rest)) :=
  va_put (D := D) (ci := 0) (v := .int v) (ty := .int) (C := R_C) (T := F_C) (N := 22) Z.1.1 Z.1.2.1 Z.1.2.2.2.2 i_C t_C t_C_ok n_C Z.1.2.2.2.1 Z.2.1 hP (hO _ _ _ _ _ _ _ _ _ _ _ _ _ _ _ _ _ _ _ _ _ _ _ _ _ _) hS 0 rfl rfl 14 (by decide) (Z.1.2.2.2.2 _ q_89) (fun _ h9 => h9) rfl (by decide +kernel) rfl rfl (Nat.le_of_ble_eq_true rfl) hd (fun H1 l1 h1 _ h3 => kk H1 l1 h1 h3)
theorem gC_waited (Z : cxC p m c cc nL s args R_C D kc) (hP : va_P D classes (wC ad kc am sm xt xl xc xm xi xn xa xy xb xw xo xs bu sh al ac con mem reg out wd pl ch dn wk) H) (hd : decode cc pc = .ok (.getfield 174, 3)) (kk : W p l e R s m args below meth c H locs cells slots Q (F0 m (pc + 3) ls (.int xw :: rest))) : W p l e R s m args below meth c H locs cells slots Q (F0 m pc ls (.ref (ad 0) :: rest)) :=
  va_get (D := D) (ci := 0) (v := .int xw) (C := R_C) (T := F_C) (N := 22) Z.1.1 Z.1.2.1 Z.1.2.2.2.2 i_C Z.1.2.2.2.1 Z.2.1 hP 0 rfl rfl 15 (by decide) (Z.1.2.2.2.2 _ q_90) (fun _ h9 => h9) rfl hd kk
theorem pC_waited (Z : cxC p m c cc nL s args R_C D kc) (hP : va_P D classes (wC ad kc am sm xt xl xc xm xi xn xa xy xb xw xo xs bu sh al ac con mem reg out wd pl ch dn wk) H) (hO : okC A ad am sm) (hS : va_S A H0 H locs) {v : Int32} (hd : decode cc pc = .ok (.putfield 174, 3)) (kk : ∀ (H1 : Heap) (locs1 : List Loc), va_P D classes (wC ad kc am sm xt xl xc xm xi xn xa xy xb v xo xs bu sh al ac con mem reg out wd pl ch dn wk) H1 → va_S A H0 H1 locs1 → W p l e R s m args below meth c H1 locs1 cells slots Q (F0 m (pc + 3) ls rest)) : W p l e R s m args below meth c H locs cells slots Q (F0 m pc ls (.int v :: .ref (ad 0) :: rest)) :=
  va_put (D := D) (ci := 0) (v := .int v) (ty := .int) (C := R_C) (T := F_C) (N := 22) Z.1.1 Z.1.2.1 Z.1.2.2.2.2 i_C t_C t_C_ok n_C Z.1.2.2.2.1 Z.2.1 hP (hO _ _ _ _ _ _ _ _ _ _ _ _ _ _ _ _ _ _ _ _ _ _ _ _ _ _) hS 0 rfl rfl 15 (by decide) (Z.1.2.2.2.2 _ q_90) (fun _ h9 => h9) rfl (by decide +kernel) rfl rfl (Nat.le_of_ble_eq_true rfl) hd (fun H1 l1 h1 _ h3 => kk H1 l1 h1 h3)
theorem gC_out (Z : cxC p m c cc nL s args R_C D kc) (hP : va_P D classes (wC ad kc am sm xt xl xc xm xi xn xa xy xb xw xo xs bu sh al ac con mem reg out wd pl ch dn wk) H) (hd : decode cc pc = .ok (.getfield 131, 3)) (kk : W p l e R s m args below meth c H locs cells slots Q (F0 m (pc + 3) ls (.int xo :: rest))) : W p l e R s m args below meth c H locs cells slots Q (F0 m pc ls (.ref (ad 0) :: rest)) :=
  va_get (D := D) (ci := 0) (v := .int xo) (C := R_C) (T := F_C) (N := 22) Z.1.1 Z.1.2.1 Z.1.2.2.2.2 i_C Z.1.2.2.2.1 Z.2.1 hP 0 rfl rfl 16 (by decide) (Z.1.2.2.2.2 _ q_91) (fun _ h9 => h9) rfl hd kk
theorem pC_out (Z : cxC p m c cc nL s args R_C D kc) (hP : va_P D classes (wC ad kc am sm xt xl xc xm xi xn xa xy xb xw xo xs bu sh al ac con mem reg out wd pl ch dn wk) H) (hO : okC A ad am sm) (hS : va_S A H0 H locs) {v : Int32} (hd : decode cc pc = .ok (.putfield 131, 3)) (kk : ∀ (H1 : Heap) (locs1 : List Loc), va_P D classes (wC ad kc am sm xt xl xc xm xi xn xa xy xb xw v xs bu sh al ac con mem reg out wd pl ch dn wk) H1 → va_S A H0 H1 locs1 → W p l e R s m args below meth c H1 locs1 cells slots Q (F0 m (pc + 3) ls rest)) : W p l e R s m args below meth c H locs cells slots Q (F0 m pc ls (.int v :: .ref (ad 0) :: rest)) :=
  va_put (D := D) (ci := 0) (v := .int v) (ty := .int) (C := R_C) (T := F_C) (N := 22) Z.1.1 Z.1.2.1 Z.1.2.2.2.2 i_C t_C t_C_ok n_C Z.1.2.2.2.1 Z.2.1 hP (hO _ _ _ _ _ _ _ _ _ _ _ _ _ _ _ _ _ _ _ _ _ _ _ _ _ _) hS 0 rfl rfl 16 (by decide) (Z.1.2.2.2.2 _ q_91) (fun _ h9 => h9) rfl (by decide +kernel) rfl rfl (Nat.le_of_ble_eq_true rfl) hd (fun H1 l1 h1 _ h3 => kk H1 l1 h1 h3)
theorem gC_switched (Z : cxC p m c cc nL s args R_C D kc) (hP : va_P D classes (wC ad kc am sm xt xl xc xm xi xn xa xy xb xw xo xs bu sh al ac con mem reg out wd pl ch dn wk) H) (hd : decode cc pc = .ok (.getfield 188, 3)) (kk : W p l e R s m args below meth c H locs cells slots Q (F0 m (pc + 3) ls (.int xs :: rest))) : W p l e R s m args below meth c H locs cells slots Q (F0 m pc ls (.ref (ad 0) :: rest)) :=
  va_get (D := D) (ci := 0) (v := .int xs) (C := R_C) (T := F_C) (N := 22) Z.1.1 Z.1.2.1 Z.1.2.2.2.2 i_C Z.1.2.2.2.1 Z.2.1 hP 0 rfl rfl 17 (by decide) (Z.1.2.2.2.2 _ q_92) (fun _ h9 => h9) rfl hd kk
theorem pC_switched (Z : cxC p m c cc nL s args R_C D kc) (hP : va_P D classes (wC ad kc am sm xt xl xc xm xi xn xa xy xb xw xo xs bu sh al ac con mem reg out wd pl ch dn wk) H) (hO : okC A ad am sm) (hS : va_S A H0 H locs) {v : Int32} (hd : decode cc pc = .ok (.putfield 188, 3)) (kk : ∀ (H1 : Heap) (locs1 : List Loc), va_P D classes (wC ad kc am sm xt xl xc xm xi xn xa xy xb xw xo v bu sh al ac con mem reg out wd pl ch dn wk) H1 → va_S A H0 H1 locs1 → W p l e R s m args below meth c H1 locs1 cells slots Q (F0 m (pc + 3) ls rest)) : W p l e R s m args below meth c H locs cells slots Q (F0 m pc ls (.int v :: .ref (ad 0) :: rest)) :=
  va_put (D := D) (ci := 0) (v := .int v) (ty := .int) (C := R_C) (T := F_C) (N := 22) Z.1.1 Z.1.2.1 Z.1.2.2.2.2 i_C t_C t_C_ok n_C Z.1.2.2.2.1 Z.2.1 hP (hO _ _ _ _ _ _ _ _ _ _ _ _ _ _ _ _ _ _ _ _ _ _ _ _ _ _) hS 0 rfl rfl 17 (by decide) (Z.1.2.2.2.2 _ q_92) (fun _ h9 => h9) rfl (by decide +kernel) rfl rfl (Nat.le_of_ble_eq_true rfl) hd (fun H1 l1 h1 _ h3 => kk H1 l1 h1 h3)
theorem gC_bus (Z : cxC p m c cc nL s args R_C D kc) (hP : va_P D classes (wC ad kc am sm xt xl xc xm xi xn xa xy xb xw xo xs bu sh al ac con mem reg out wd pl ch dn wk) H) (hd : decode cc pc = .ok (.getfield 99, 3)) (kk : W p l e R s m args below meth c H locs cells slots Q (F0 m (pc + 3) ls (.int bu :: rest))) : W p l e R s m args below meth c H locs cells slots Q (F0 m pc ls (.ref (ad 0) :: rest)) :=
  va_get (D := D) (ci := 0) (v := .int bu) (C := R_C) (T := F_C) (N := 22) Z.1.1 Z.1.2.1 Z.1.2.2.2.2 i_C Z.1.2.2.2.1 Z.2.1 hP 0 rfl rfl 18 (by decide) (Z.1.2.2.2.2 _ q_93) (fun _ h9 => h9) rfl hd kk
theorem pC_bus (Z : cxC p m c cc nL s args R_C D kc) (hP : va_P D classes (wC ad kc am sm xt xl xc xm xi xn xa xy xb xw xo xs bu sh al ac con mem reg out wd pl ch dn wk) H) (hO : okC A ad am sm) (hS : va_S A H0 H locs) {v : Int32} (hd : decode cc pc = .ok (.putfield 99, 3)) (kk : ∀ (H1 : Heap) (locs1 : List Loc), va_P D classes (wC ad kc am sm xt xl xc xm xi xn xa xy xb xw xo xs v sh al ac con mem reg out wd pl ch dn wk) H1 → va_S A H0 H1 locs1 → W p l e R s m args below meth c H1 locs1 cells slots Q (F0 m (pc + 3) ls rest)) : W p l e R s m args below meth c H locs cells slots Q (F0 m pc ls (.int v :: .ref (ad 0) :: rest)) :=
  va_put (D := D) (ci := 0) (v := .int v) (ty := .int) (C := R_C) (T := F_C) (N := 22) Z.1.1 Z.1.2.1 Z.1.2.2.2.2 i_C t_C t_C_ok n_C Z.1.2.2.2.1 Z.2.1 hP (hO _ _ _ _ _ _ _ _ _ _ _ _ _ _ _ _ _ _ _ _ _ _ _ _ _ _) hS 0 rfl rfl 18 (by decide) (Z.1.2.2.2.2 _ q_93) (fun _ h9 => h9) rfl (by decide +kernel) rfl rfl (Nat.le_of_ble_eq_true rfl) hd (fun H1 l1 h1 _ h3 => kk H1 l1 h1 h3)
theorem gC_sh (Z : cxC p m c cc nL s args R_C D kc) (hP : va_P D classes (wC ad kc am sm xt xl xc xm xi xn xa xy xb xw xo xs bu sh al ac con mem reg out wd pl ch dn wk) H) (hd : decode cc pc = .ok (.getfield 93, 3)) (kk : W p l e R s m args below meth c H locs cells slots Q (F0 m (pc + 3) ls (.int sh :: rest))) : W p l e R s m args below meth c H locs cells slots Q (F0 m pc ls (.ref (ad 0) :: rest)) :=
  va_get (D := D) (ci := 0) (v := .int sh) (C := R_C) (T := F_C) (N := 22) Z.1.1 Z.1.2.1 Z.1.2.2.2.2 i_C Z.1.2.2.2.1 Z.2.1 hP 0 rfl rfl 19 (by decide) (Z.1.2.2.2.2 _ q_94) (fun _ h9 => h9) rfl hd kk
theorem pC_sh (Z : cxC p m c cc nL s args R_C D kc) (hP : va_P D classes (wC ad kc am sm xt xl xc xm xi xn xa xy xb xw xo xs bu sh al ac con mem reg out wd pl ch dn wk) H) (hO : okC A ad am sm) (hS : va_S A H0 H locs) {v : Int32} (hd : decode cc pc = .ok (.putfield 93, 3)) (kk : ∀ (H1 : Heap) (locs1 : List Loc), va_P D classes (wC ad kc am sm xt xl xc xm xi xn xa xy xb xw xo xs bu v al ac con mem reg out wd pl ch dn wk) H1 → va_S A H0 H1 locs1 → W p l e R s m args below meth c H1 locs1 cells slots Q (F0 m (pc + 3) ls rest)) : W p l e R s m args below meth c H locs cells slots Q (F0 m pc ls (.int v :: .ref (ad 0) :: rest)) :=
  va_put (D := D) (ci := 0) (v := .int v) (ty := .int) (C := R_C) (T := F_C) (N := 22) Z.1.1 Z.1.2.1 Z.1.2.2.2.2 i_C t_C t_C_ok n_C Z.1.2.2.2.1 Z.2.1 hP (hO _ _ _ _ _ _ _ _ _ _ _ _ _ _ _ _ _ _ _ _ _ _ _ _ _ _) hS 0 rfl rfl 19 (by decide) (Z.1.2.2.2.2 _ q_94) (fun _ h9 => h9) rfl (by decide +kernel) rfl rfl (Nat.le_of_ble_eq_true rfl) hd (fun H1 l1 h1 _ h3 => kk H1 l1 h1 h3)
theorem gC_alu (Z : cxC p m c cc nL s args R_C D kc) (hP : va_P D classes (wC ad kc am sm xt xl xc xm xi xn xa xy xb xw xo xs bu sh al ac con mem reg out wd pl ch dn wk) H) (hd : decode cc pc = .ok (.getfield 108, 3)) (kk : W p l e R s m args below meth c H locs cells slots Q (F0 m (pc + 3) ls (.int al :: rest))) : W p l e R s m args below meth c H locs cells slots Q (F0 m pc ls (.ref (ad 0) :: rest)) :=
  va_get (D := D) (ci := 0) (v := .int al) (C := R_C) (T := F_C) (N := 22) Z.1.1 Z.1.2.1 Z.1.2.2.2.2 i_C Z.1.2.2.2.1 Z.2.1 hP 0 rfl rfl 20 (by decide) (Z.1.2.2.2.2 _ q_95) (fun _ h9 => h9) rfl hd kk
theorem pC_alu (Z : cxC p m c cc nL s args R_C D kc) (hP : va_P D classes (wC ad kc am sm xt xl xc xm xi xn xa xy xb xw xo xs bu sh al ac con mem reg out wd pl ch dn wk) H) (hO : okC A ad am sm) (hS : va_S A H0 H locs) {v : Int32} (hd : decode cc pc = .ok (.putfield 108, 3)) (kk : ∀ (H1 : Heap) (locs1 : List Loc), va_P D classes (wC ad kc am sm xt xl xc xm xi xn xa xy xb xw xo xs bu sh v ac con mem reg out wd pl ch dn wk) H1 → va_S A H0 H1 locs1 → W p l e R s m args below meth c H1 locs1 cells slots Q (F0 m (pc + 3) ls rest)) : W p l e R s m args below meth c H locs cells slots Q (F0 m pc ls (.int v :: .ref (ad 0) :: rest)) :=
  va_put (D := D) (ci := 0) (v := .int v) (ty := .int) (C := R_C) (T := F_C) (N := 22) Z.1.1 Z.1.2.1 Z.1.2.2.2.2 i_C t_C t_C_ok n_C Z.1.2.2.2.1 Z.2.1 hP (hO _ _ _ _ _ _ _ _ _ _ _ _ _ _ _ _ _ _ _ _ _ _ _ _ _ _) hS 0 rfl rfl 20 (by decide) (Z.1.2.2.2.2 _ q_95) (fun _ h9 => h9) rfl (by decide +kernel) rfl rfl (Nat.le_of_ble_eq_true rfl) hd (fun H1 l1 h1 _ h3 => kk H1 l1 h1 h3)
theorem gC_aluCarry (Z : cxC p m c cc nL s args R_C D kc) (hP : va_P D classes (wC ad kc am sm xt xl xc xm xi xn xa xy xb xw xo xs bu sh al ac con mem reg out wd pl ch dn wk) H) (hd : decode cc pc = .ok (.getfield 111, 3)) (kk : W p l e R s m args below meth c H locs cells slots Q (F0 m (pc + 3) ls (.int ac :: rest))) : W p l e R s m args below meth c H locs cells slots Q (F0 m pc ls (.ref (ad 0) :: rest)) :=
  va_get (D := D) (ci := 0) (v := .int ac) (C := R_C) (T := F_C) (N := 22) Z.1.1 Z.1.2.1 Z.1.2.2.2.2 i_C Z.1.2.2.2.1 Z.2.1 hP 0 rfl rfl 21 (by decide) (Z.1.2.2.2.2 _ q_96) (fun _ h9 => h9) rfl hd kk
theorem pC_aluCarry (Z : cxC p m c cc nL s args R_C D kc) (hP : va_P D classes (wC ad kc am sm xt xl xc xm xi xn xa xy xb xw xo xs bu sh al ac con mem reg out wd pl ch dn wk) H) (hO : okC A ad am sm) (hS : va_S A H0 H locs) {v : Int32} (hd : decode cc pc = .ok (.putfield 111, 3)) (kk : ∀ (H1 : Heap) (locs1 : List Loc), va_P D classes (wC ad kc am sm xt xl xc xm xi xn xa xy xb xw xo xs bu sh al v con mem reg out wd pl ch dn wk) H1 → va_S A H0 H1 locs1 → W p l e R s m args below meth c H1 locs1 cells slots Q (F0 m (pc + 3) ls rest)) : W p l e R s m args below meth c H locs cells slots Q (F0 m pc ls (.int v :: .ref (ad 0) :: rest)) :=
  va_put (D := D) (ci := 0) (v := .int v) (ty := .int) (C := R_C) (T := F_C) (N := 22) Z.1.1 Z.1.2.1 Z.1.2.2.2.2 i_C t_C t_C_ok n_C Z.1.2.2.2.1 Z.2.1 hP (hO _ _ _ _ _ _ _ _ _ _ _ _ _ _ _ _ _ _ _ _ _ _ _ _ _ _) hS 0 rfl rfl 21 (by decide) (Z.1.2.2.2.2 _ q_96) (fun _ h9 => h9) rfl (by decide +kernel) rfl rfl (Nat.le_of_ble_eq_true rfl) hd (fun H1 l1 h1 _ h3 => kk H1 l1 h1 h3)
theorem gM_instructions (Z : cxM p m c cc nL s args R_M D kd) (hP : va_P D classes (wM md kd xt xl xc xm xi xn xa xy xb xw xo xs rs af bs f1 f2 su sc con mem reg out wd pl ch dn wk) H) (hd : decode cc pc = .ok (.getfield 7, 3)) (kk : W p l e R s m args below meth c H locs cells slots Q (F0 m (pc + 3) ls (.ref (md 1) :: rest))) : W p l e R s m args below meth c H locs cells slots Q (F0 m pc ls (.ref (md 0) :: rest)) :=
  va_get (D := D) (ci := 3) (v := .ref (md 1)) (C := R_M) (T := F_M) (N := 28) Z.1.1 Z.1.2.1 Z.1.2.2.2.2 i_M Z.1.2.2.2.1 Z.2.1 hP 0 rfl rfl 0 (by decide) (Z.1.2.2.2.2 _ q_273) (fun _ h9 => h9) rfl hd kk
theorem gM_constants (Z : cxM p m c cc nL s args R_M D kd) (hP : va_P D classes (wM md kd xt xl xc xm xi xn xa xy xb xw xo xs rs af bs f1 f2 su sc con mem reg out wd pl ch dn wk) H) (hd : decode cc pc = .ok (.getfield 13, 3)) (kk : W p l e R s m args below meth c H locs cells slots Q (F0 m (pc + 3) ls (.ref (md 2) :: rest))) : W p l e R s m args below meth c H locs cells slots Q (F0 m pc ls (.ref (md 0) :: rest)) :=
  va_get (D := D) (ci := 3) (v := .ref (md 2)) (C := R_M) (T := F_M) (N := 28) Z.1.1 Z.1.2.1 Z.1.2.2.2.2 i_M Z.1.2.2.2.1 Z.2.1 hP 0 rfl rfl 1 (by decide) (Z.1.2.2.2.2 _ q_274) (fun _ h9 => h9) rfl hd kk
theorem gM_memory (Z : cxM p m c cc nL s args R_M D kd) (hP : va_P D classes (wM md kd xt xl xc xm xi xn xa xy xb xw xo xs rs af bs f1 f2 su sc con mem reg out wd pl ch dn wk) H) (hd : decode cc pc = .ok (.getfield 16, 3)) (kk : W p l e R s m args below meth c H locs cells slots Q (F0 m (pc + 3) ls (.ref (md 3) :: rest))) : W p l e R s m args below meth c H locs cells slots Q (F0 m pc ls (.ref (md 0) :: rest)) :=
  va_get (D := D) (ci := 3) (v := .ref (md 3)) (C := R_M) (T := F_M) (N := 28) Z.1.1 Z.1.2.1 Z.1.2.2.2.2 i_M Z.1.2.2.2.1 Z.2.1 hP 0 rfl rfl 2 (by decide) (Z.1.2.2.2.2 _ q_275) (fun _ h9 => h9) rfl hd kk
theorem gM_registers (Z : cxM p m c cc nL s args R_M D kd) (hP : va_P D classes (wM md kd xt xl xc xm xi xn xa xy xb xw xo xs rs af bs f1 f2 su sc con mem reg out wd pl ch dn wk) H) (hd : decode cc pc = .ok (.getfield 19, 3)) (kk : W p l e R s m args below meth c H locs cells slots Q (F0 m (pc + 3) ls (.ref (md 4) :: rest))) : W p l e R s m args below meth c H locs cells slots Q (F0 m pc ls (.ref (md 0) :: rest)) :=
  va_get (D := D) (ci := 3) (v := .ref (md 4)) (C := R_M) (T := F_M) (N := 28) Z.1.1 Z.1.2.1 Z.1.2.2.2.2 i_M Z.1.2.2.2.1 Z.2.1 hP 0 rfl rfl 3 (by decide) (Z.1.2.2.2.2 _ q_276) (fun _ h9 => h9) rfl hd kk
theorem gM_t (Z : cxM p m c cc nL s args R_M D kd) (hP : va_P D classes (wM md kd xt xl xc xm xi xn xa xy xb xw xo xs rs af bs f1 f2 su sc con mem reg out wd pl ch dn wk) H) (hd : decode cc pc = .ok (.getfield 87, 3)) (kk : W p l e R s m args below meth c H locs cells slots Q (F0 m (pc + 3) ls (.int xt :: rest))) : W p l e R s m args below meth c H locs cells slots Q (F0 m pc ls (.ref (md 0) :: rest)) :=
  va_get (D := D) (ci := 3) (v := .int xt) (C := R_M) (T := F_M) (N := 28) Z.1.1 Z.1.2.1 Z.1.2.2.2.2 i_M Z.1.2.2.2.1 Z.2.1 hP 0 rfl rfl 4 (by decide) (Z.1.2.2.2.2 _ q_277) (fun _ h9 => h9) rfl hd kk
theorem pM_t (Z : cxM p m c cc nL s args R_M D kd) (hP : va_P D classes (wM md kd xt xl xc xm xi xn xa xy xb xw xo xs rs af bs f1 f2 su sc con mem reg out wd pl ch dn wk) H) (hO : okM A md) (hS : va_S A H0 H locs) {v : Int32} (hd : decode cc pc = .ok (.putfield 87, 3)) (kk : ∀ (H1 : Heap) (locs1 : List Loc), va_P D classes (wM md kd v xl xc xm xi xn xa xy xb xw xo xs rs af bs f1 f2 su sc con mem reg out wd pl ch dn wk) H1 → va_S A H0 H1 locs1 → W p l e R s m args below meth c H1 locs1 cells slots Q (F0 m (pc + 3) ls rest)) : W p l e R s m args below meth c H locs cells slots Q (F0 m pc ls (.int v :: .ref (md 0) :: rest)) :=
  va_put (D := D) (ci := 3) (v := .int v) (ty := .int) (C := R_M) (T := F_M) (N := 28) Z.1.1 Z.1.2.1 Z.1.2.2.2.2 i_M t_M t_M_ok n_M Z.1.2.2.2.1 Z.2.1 hP (hO _ _ _ _ _ _ _ _ _ _ _ _ _ _ _ _ _ _ _ _ _ _ _ _ _ _ _ _ _) hS 0 rfl rfl 4 (by decide) (Z.1.2.2.2.2 _ q_277) (fun _ h9 => h9) rfl (by decide +kernel) rfl rfl (Nat.le_of_ble_eq_true rfl) hd (fun H1 l1 h1 _ h3 => kk H1 l1 h1 h3)
theorem gM_l (Z : cxM p m c cc nL s args R_M D kd) (hP : va_P D classes (wM md kd xt xl xc xm xi xn xa xy xb xw xo xs rs af bs f1 f2 su sc con mem reg out wd pl ch dn wk) H) (hd : decode cc pc = .ok (.getfield 66, 3)) (kk : W p l e R s m args below meth c H locs cells slots Q (F0 m (pc + 3) ls (.int xl :: rest))) : W p l e R s m args below meth c H locs cells slots Q (F0 m pc ls (.ref (md 0) :: rest)) :=
  va_get (D := D) (ci := 3) (v := .int xl) (C := R_M) (T := F_M) (N := 28) Z.1.1 Z.1.2.1 Z.1.2.2.2.2 i_M Z.1.2.2.2.1 Z.2.1 hP 0 rfl rfl 5 (by decide) (Z.1.2.2.2.2 _ q_278) (fun _ h9 => h9) rfl hd kk
theorem pM_l (Z : cxM p m c cc nL s args R_M D kd) (hP : va_P D classes (wM md kd xt xl xc xm xi xn xa xy xb xw xo xs rs af bs f1 f2 su sc con mem reg out wd pl ch dn wk) H) (hO : okM A md) (hS : va_S A H0 H locs) {v : Int32} (hd : decode cc pc = .ok (.putfield 66, 3)) (kk : ∀ (H1 : Heap) (locs1 : List Loc), va_P D classes (wM md kd xt v xc xm xi xn xa xy xb xw xo xs rs af bs f1 f2 su sc con mem reg out wd pl ch dn wk) H1 → va_S A H0 H1 locs1 → W p l e R s m args below meth c H1 locs1 cells slots Q (F0 m (pc + 3) ls rest)) : W p l e R s m args below meth c H locs cells slots Q (F0 m pc ls (.int v :: .ref (md 0) :: rest)) :=
  va_put (D := D) (ci := 3) (v := .int v) (ty := .int) (C := R_M) (T := F_M) (N := 28) Z.1.1 Z.1.2.1 Z.1.2.2.2.2 i_M t_M t_M_ok n_M Z.1.2.2.2.1 Z.2.1 hP (hO _ _ _ _ _ _ _ _ _ _ _ _ _ _ _ _ _ _ _ _ _ _ _ _ _ _ _ _ _) hS 0 rfl rfl 5 (by decide) (Z.1.2.2.2.2 _ q_278) (fun _ h9 => h9) rfl (by decide +kernel) rfl rfl (Nat.le_of_ble_eq_true rfl) hd (fun H1 l1 h1 _ h3 => kk H1 l1 h1 h3)
theorem gM_carry (Z : cxM p m c cc nL s args R_M D kd) (hP : va_P D classes (wM md kd xt xl xc xm xi xn xa xy xb xw xo xs rs af bs f1 f2 su sc con mem reg out wd pl ch dn wk) H) (hd : decode cc pc = .ok (.getfield 98, 3)) (kk : W p l e R s m args below meth c H locs cells slots Q (F0 m (pc + 3) ls (.int xc :: rest))) : W p l e R s m args below meth c H locs cells slots Q (F0 m pc ls (.ref (md 0) :: rest)) :=
  va_get (D := D) (ci := 3) (v := .int xc) (C := R_M) (T := F_M) (N := 28) Z.1.1 Z.1.2.1 Z.1.2.2.2.2 i_M Z.1.2.2.2.1 Z.2.1 hP 0 rfl rfl 6 (by decide) (Z.1.2.2.2.2 _ q_279) (fun _ h9 => h9) rfl hd kk
theorem pM_carry (Z : cxM p m c cc nL s args R_M D kd) (hP : va_P D classes (wM md kd xt xl xc xm xi xn xa xy xb xw xo xs rs af bs f1 f2 su sc con mem reg out wd pl ch dn wk) H) (hO : okM A md) (hS : va_S A H0 H locs) {v : Int32} (hd : decode cc pc = .ok (.putfield 98, 3)) (kk : ∀ (H1 : Heap) (locs1 : List Loc), va_P D classes (wM md kd xt xl v xm xi xn xa xy xb xw xo xs rs af bs f1 f2 su sc con mem reg out wd pl ch dn wk) H1 → va_S A H0 H1 locs1 → W p l e R s m args below meth c H1 locs1 cells slots Q (F0 m (pc + 3) ls rest)) : W p l e R s m args below meth c H locs cells slots Q (F0 m pc ls (.int v :: .ref (md 0) :: rest)) :=
  va_put (D := D) (ci := 3) (v := .int v) (ty := .int) (C := R_M) (T := F_M) (N := 28) Z.1.1 Z.1.2.1 Z.1.2.2.2.2 i_M t_M t_M_ok n_M Z.1.2.2.2.1 Z.2.1 hP (hO _ _ _ _ _ _ _ _ _ _ _ _ _ _ _ _ _ _ _ _ _ _ _ _ _ _ _ _ _) hS 0 rfl rfl 6 (by decide) (Z.1.2.2.2.2 _ q_279) (fun _ h9 => h9) rfl (by decide +kernel) rfl rfl (Nat.le_of_ble_eq_true rfl) hd (fun H1 l1 h1 _ h3 => kk H1 l1 h1 h3)
theorem gM_mar (Z : cxM p m c cc nL s args R_M D kd) (hP : va_P D classes (wM md kd xt xl xc xm xi xn xa xy xb xw xo xs rs af bs f1 f2 su sc con mem reg out wd pl ch dn wk) H) (hd : decode cc pc = .ok (.getfield 75, 3)) (kk : W p l e R s m args below meth c H locs cells slots Q (F0 m (pc + 3) ls (.int xm :: rest))) : W p l e R s m args below meth c H locs cells slots Q (F0 m pc ls (.ref (md 0) :: rest)) :=
  va_get (D := D) (ci := 3) (v := .int xm) (C := R_M) (T := F_M) (N := 28) Z.1.1 Z.1.2.1 Z.1.2.2.2.2 i_M Z.1.2.2.2.1 Z.2.1 hP 0 rfl rfl 7 (by decide) (Z.1.2.2.2.2 _ q_280) (fun _ h9 => h9) rfl hd kk
theorem pM_mar (Z : cxM p m c cc nL s args R_M D kd) (hP : va_P D classes (wM md kd xt xl xc xm xi xn xa xy xb xw xo xs rs af bs f1 f2 su sc con mem reg out wd pl ch dn wk) H) (hO : okM A md) (hS : va_S A H0 H locs) {v : Int32} (hd : decode cc pc = .ok (.putfield 75, 3)) (kk : ∀ (H1 : Heap) (locs1 : List Loc), va_P D classes (wM md kd xt xl xc v xi xn xa xy xb xw xo xs rs af bs f1 f2 su sc con mem reg out wd pl ch dn wk) H1 → va_S A H0 H1 locs1 → W p l e R s m args below meth c H1 locs1 cells slots Q (F0 m (pc + 3) ls rest)) : W p l e R s m args below meth c H locs cells slots Q (F0 m pc ls (.int v :: .ref (md 0) :: rest)) :=
  va_put (D := D) (ci := 3) (v := .int v) (ty := .int) (C := R_M) (T := F_M) (N := 28) Z.1.1 Z.1.2.1 Z.1.2.2.2.2 i_M t_M t_M_ok n_M Z.1.2.2.2.1 Z.2.1 hP (hO _ _ _ _ _ _ _ _ _ _ _ _ _ _ _ _ _ _ _ _ _ _ _ _ _ _ _ _ _) hS 0 rfl rfl 7 (by decide) (Z.1.2.2.2.2 _ q_280) (fun _ h9 => h9) rfl (by decide +kernel) rfl rfl (Nat.le_of_ble_eq_true rfl) hd (fun H1 l1 h1 _ h3 => kk H1 l1 h1 h3)
theorem gM_input (Z : cxM p m c cc nL s args R_M D kd) (hP : va_P D classes (wM md kd xt xl xc xm xi xn xa xy xb xw xo xs rs af bs f1 f2 su sc con mem reg out wd pl ch dn wk) H) (hd : decode cc pc = .ok (.getfield 47, 3)) (kk : W p l e R s m args below meth c H locs cells slots Q (F0 m (pc + 3) ls (.int xi :: rest))) : W p l e R s m args below meth c H locs cells slots Q (F0 m pc ls (.ref (md 0) :: rest)) :=
  va_get (D := D) (ci := 3) (v := .int xi) (C := R_M) (T := F_M) (N := 28) Z.1.1 Z.1.2.1 Z.1.2.2.2.2 i_M Z.1.2.2.2.1 Z.2.1 hP 0 rfl rfl 8 (by decide) (Z.1.2.2.2.2 _ q_281) (fun _ h9 => h9) rfl hd kk
theorem pM_input (Z : cxM p m c cc nL s args R_M D kd) (hP : va_P D classes (wM md kd xt xl xc xm xi xn xa xy xb xw xo xs rs af bs f1 f2 su sc con mem reg out wd pl ch dn wk) H) (hO : okM A md) (hS : va_S A H0 H locs) {v : Int32} (hd : decode cc pc = .ok (.putfield 47, 3)) (kk : ∀ (H1 : Heap) (locs1 : List Loc), va_P D classes (wM md kd xt xl xc xm v xn xa xy xb xw xo xs rs af bs f1 f2 su sc con mem reg out wd pl ch dn wk) H1 → va_S A H0 H1 locs1 → W p l e R s m args below meth c H1 locs1 cells slots Q (F0 m (pc + 3) ls rest)) : W p l e R s m args below meth c H locs cells slots Q (F0 m pc ls (.int v :: .ref (md 0) :: rest)) :=
  va_put (D := D) (ci := 3) (v := .int v) (ty := .int) (C := R_M) (T := F_M) (N := 28) Z.1.1 Z.1.2.1 Z.1.2.2.2.2 i_M t_M t_M_ok n_M Z.1.2.2.2.1 Z.2.1 hP (hO _ _ _ _ _ _ _ _ _ _ _ _ _ _ _ _ _ _ _ _ _ _ _ _ _ _ _ _ _) hS 0 rfl rfl 8 (by decide) (Z.1.2.2.2.2 _ q_281) (fun _ h9 => h9) rfl (by decide +kernel) rfl rfl (Nat.le_of_ble_eq_true rfl) hd (fun H1 l1 h1 _ h3 => kk H1 l1 h1 h3)
theorem gM_places (Z : cxM p m c cc nL s args R_M D kd) (hP : va_P D classes (wM md kd xt xl xc xm xi xn xa xy xb xw xo xs rs af bs f1 f2 su sc con mem reg out wd pl ch dn wk) H) (hd : decode cc pc = .ok (.getfield 22, 3)) (kk : W p l e R s m args below meth c H locs cells slots Q (F0 m (pc + 3) ls (.ref (md 5) :: rest))) : W p l e R s m args below meth c H locs cells slots Q (F0 m pc ls (.ref (md 0) :: rest)) :=
  va_get (D := D) (ci := 3) (v := .ref (md 5)) (C := R_M) (T := F_M) (N := 28) Z.1.1 Z.1.2.1 Z.1.2.2.2.2 i_M Z.1.2.2.2.1 Z.2.1 hP 0 rfl rfl 9 (by decide) (Z.1.2.2.2.2 _ q_282) (fun _ h9 => h9) rfl hd kk
theorem gM_changes (Z : cxM p m c cc nL s args R_M D kd) (hP : va_P D classes (wM md kd xt xl xc xm xi xn xa xy xb xw xo xs rs af bs f1 f2 su sc con mem reg out wd pl ch dn wk) H) (hd : decode cc pc = .ok (.getfield 25, 3)) (kk : W p l e R s m args below meth c H locs cells slots Q (F0 m (pc + 3) ls (.ref (md 6) :: rest))) : W p l e R s m args below meth c H locs cells slots Q (F0 m pc ls (.ref (md 0) :: rest)) :=
  va_get (D := D) (ci := 3) (v := .ref (md 6)) (C := R_M) (T := F_M) (N := 28) Z.1.1 Z.1.2.1 Z.1.2.2.2.2 i_M Z.1.2.2.2.1 Z.2.1 hP 0 rfl rfl 10 (by decide) (Z.1.2.2.2.2 _ q_283) (fun _ h9 => h9) rfl hd kk
theorem gM_lines (Z : cxM p m c cc nL s args R_M D kd) (hP : va_P D classes (wM md kd xt xl xc xm xi xn xa xy xb xw xo xs rs af bs f1 f2 su sc con mem reg out wd pl ch dn wk) H) (hd : decode cc pc = .ok (.getfield 28, 3)) (kk : W p l e R s m args below meth c H locs cells slots Q (F0 m (pc + 3) ls (.ref (md 7) :: rest))) : W p l e R s m args below meth c H locs cells slots Q (F0 m pc ls (.ref (md 0) :: rest)) :=
  va_get (D := D) (ci := 3) (v := .ref (md 7)) (C := R_M) (T := F_M) (N := 28) Z.1.1 Z.1.2.1 Z.1.2.2.2.2 i_M Z.1.2.2.2.1 Z.2.1 hP 0 rfl rfl 11 (by decide) (Z.1.2.2.2.2 _ q_284) (fun _ h9 => h9) rfl hd kk
theorem gM_done (Z : cxM p m c cc nL s args R_M D kd) (hP : va_P D classes (wM md kd xt xl xc xm xi xn xa xy xb xw xo xs rs af bs f1 f2 su sc con mem reg out wd pl ch dn wk) H) (hd : decode cc pc = .ok (.getfield 32, 3)) (kk : W p l e R s m args below meth c H locs cells slots Q (F0 m (pc + 3) ls (.ref (md 8) :: rest))) : W p l e R s m args below meth c H locs cells slots Q (F0 m pc ls (.ref (md 0) :: rest)) :=
  va_get (D := D) (ci := 3) (v := .ref (md 8)) (C := R_M) (T := F_M) (N := 28) Z.1.1 Z.1.2.1 Z.1.2.2.2.2 i_M Z.1.2.2.2.1 Z.2.1 hP 0 rfl rfl 12 (by decide) (Z.1.2.2.2.2 _ q_285) (fun _ h9 => h9) rfl hd kk
theorem gM_hand (Z : cxM p m c cc nL s args R_M D kd) (hP : va_P D classes (wM md kd xt xl xc xm xi xn xa xy xb xw xo xs rs af bs f1 f2 su sc con mem reg out wd pl ch dn wk) H) (hd : decode cc pc = .ok (.getfield 72, 3)) (kk : W p l e R s m args below meth c H locs cells slots Q (F0 m (pc + 3) ls (.int xn :: rest))) : W p l e R s m args below meth c H locs cells slots Q (F0 m pc ls (.ref (md 0) :: rest)) :=
  va_get (D := D) (ci := 3) (v := .int xn) (C := R_M) (T := F_M) (N := 28) Z.1.1 Z.1.2.1 Z.1.2.2.2.2 i_M Z.1.2.2.2.1 Z.2.1 hP 0 rfl rfl 13 (by decide) (Z.1.2.2.2.2 _ q_286) (fun _ h9 => h9) rfl hd kk
theorem pM_hand (Z : cxM p m c cc nL s args R_M D kd) (hP : va_P D classes (wM md kd xt xl xc xm xi xn xa xy xb xw xo xs rs af bs f1 f2 su sc con mem reg out wd pl ch dn wk) H) (hO : okM A md) (hS : va_S A H0 H locs) {v : Int32} (hd : decode cc pc = .ok (.putfield 72, 3)) (kk : ∀ (H1 : Heap) (locs1 : List Loc), va_P D classes (wM md kd xt xl xc xm xi v xa xy xb xw xo xs rs af bs f1 f2 su sc con mem reg out wd pl ch dn wk) H1 → va_S A H0 H1 locs1 → W p l e R s m args below meth c H1 locs1 cells slots Q (F0 m (pc + 3) ls rest)) : W p l e R s m args below meth c H locs cells slots Q (F0 m pc ls (.int v :: .ref (md 0) :: rest)) :=
  va_put (D := D) (ci := 3) (v := .int v) (ty := .int) (C := R_M) (T := F_M) (N := 28) Z.1.1 Z.1.2.1 Z.1.2.2.2.2 i_M t_M t_M_ok n_M Z.1.2.2.2.1 Z.2.1 hP (hO _ _ _ _ _ _ _ _ _ _ _ _ _ _ _ _ _ _ _ _ _ _ _ _ _ _ _ _ _) hS 0 rfl rfl 13 (by decide) (Z.1.2.2.2.2 _ q_286) (fun _ h9 => h9) rfl (by decide +kernel) rfl rfl (Nat.le_of_ble_eq_true rfl) hd (fun H1 l1 h1 _ h3 => kk H1 l1 h1 h3)
theorem gM_gives (Z : cxM p m c cc nL s args R_M D kd) (hP : va_P D classes (wM md kd xt xl xc xm xi xn xa xy xb xw xo xs rs af bs f1 f2 su sc con mem reg out wd pl ch dn wk) H) (hd : decode cc pc = .ok (.getfield 121, 3)) (kk : W p l e R s m args below meth c H locs cells slots Q (F0 m (pc + 3) ls (.int xa :: rest))) : W p l e R s m args below meth c H locs cells slots Q (F0 m pc ls (.ref (md 0) :: rest)) :=
  va_get (D := D) (ci := 3) (v := .int xa) (C := R_M) (T := F_M) (N := 28) Z.1.1 Z.1.2.1 Z.1.2.2.2.2 i_M Z.1.2.2.2.1 Z.2.1 hP 0 rfl rfl 14 (by decide) (Z.1.2.2.2.2 _ q_287) (fun _ h9 => h9) rfl hd kk
theorem pM_gives (Z : cxM p m c cc nL s args R_M D kd) (hP : va_P D classes (wM md kd xt xl xc xm xi xn xa xy xb xw xo xs rs af bs f1 f2 su sc con mem reg out wd pl ch dn wk) H) (hO : okM A md) (hS : va_S A H0 H locs) {v : Int32} (hv : v = 0 ∨ v = 1) (hd : decode cc pc = .ok (.putfield 121, 3)) (kk : ∀ (H1 : Heap) (locs1 : List Loc), va_P D classes (wM md kd xt xl xc xm xi xn v xy xb xw xo xs rs af bs f1 f2 su sc con mem reg out wd pl ch dn wk) H1 → va_S A H0 H1 locs1 → W p l e R s m args below meth c H1 locs1 cells slots Q (F0 m (pc + 3) ls rest)) : W p l e R s m args below meth c H locs cells slots Q (F0 m pc ls (.int v :: .ref (md 0) :: rest)) :=
  va_put (D := D) (ci := 3) (v := .int v) (ty := .boolean) (C := R_M) (T := F_M) (N := 28) Z.1.1 Z.1.2.1 Z.1.2.2.2.2 i_M t_M t_M_ok n_M Z.1.2.2.2.1 Z.2.1 hP (hO _ _ _ _ _ _ _ _ _ _ _ _ _ _ _ _ _ _ _ _ _ _ _ _ _ _ _ _ _) hS 0 rfl rfl 14 (by decide) (Z.1.2.2.2.2 _ q_287) (fun _ h9 => h9) rfl (by decide +kernel) (fit_z hv).1 (fit_z hv).2 (Nat.le_of_ble_eq_true rfl) hd (fun H1 l1 h1 _ h3 => kk H1 l1 h1 h3)
theorem gM_cycles (Z : cxM p m c cc nL s args R_M D kd) (hP : va_P D classes (wM md kd xt xl xc xm xi xn xa xy xb xw xo xs rs af bs f1 f2 su sc con mem reg out wd pl ch dn wk) H) (hd : decode cc pc = .ok (.getfield 56, 3)) (kk : W p l e R s m args below meth c H locs cells slots Q (F0 m (pc + 3) ls (.int xy :: rest))) : W p l e R s m args below meth c H locs cells slots Q (F0 m pc ls (.ref (md 0) :: rest)) :=
  va_get (D := D) (ci := 3) (v := .int xy) (C := R_M) (T := F_M) (N := 28) Z.1.1 Z.1.2.1 Z.1.2.2.2.2 i_M Z.1.2.2.2.1 Z.2.1 hP 0 rfl rfl 15 (by decide) (Z.1.2.2.2.2 _ q_288) (fun _ h9 => h9) rfl hd kk
theorem pM_cycles (Z : cxM p m c cc nL s args R_M D kd) (hP : va_P D classes (wM md kd xt xl xc xm xi xn xa xy xb xw xo xs rs af bs f1 f2 su sc con mem reg out wd pl ch dn wk) H) (hO : okM A md) (hS : va_S A H0 H locs) {v : Int32} (hd : decode cc pc = .ok (.putfield 56, 3)) (kk : ∀ (H1 : Heap) (locs1 : List Loc), va_P D classes (wM md kd xt xl xc xm xi xn xa v xb xw xo xs rs af bs f1 f2 su sc con mem reg out wd pl ch dn wk) H1 → va_S A H0 H1 locs1 → W p l e R s m args below meth c H1 locs1 cells slots Q (F0 m (pc + 3) ls rest)) : W p l e R s m args below meth c H locs cells slots Q (F0 m pc ls (.int v :: .ref (md 0) :: rest)) :=
  va_put (D := D) (ci := 3) (v := .int v) (ty := .int) (C := R_M) (T := F_M) (N := 28) Z.1.1 Z.1.2.1 Z.1.2.2.2.2 i_M t_M t_M_ok n_M Z.1.2.2.2.1 Z.2.1 hP (hO _ _ _ _ _ _ _ _ _ _ _ _ _ _ _ _ _ _ _ _ _ _ _ _ _ _ _ _ _) hS 0 rfl rfl 15 (by decide) (Z.1.2.2.2.2 _ q_288) (fun _ h9 => h9) rfl (by decide +kernel) rfl rfl (Nat.le_of_ble_eq_true rfl) hd (fun H1 l1 h1 _ h3 => kk H1 l1 h1 h3)
theorem gM_waited (Z : cxM p m c cc nL s args R_M D kd) (hP : va_P D classes (wM md kd xt xl xc xm xi xn xa xy xb xw xo xs rs af bs f1 f2 su sc con mem reg out wd pl ch dn wk) H) (hd : decode cc pc = .ok (.getfield 131, 3)) (kk : W p l e R s m args below meth c H locs cells slots Q (F0 m (pc + 3) ls (.int xw :: rest))) : W p l e R s m args below meth c H locs cells slots Q (F0 m pc ls (.ref (md 0) :: rest)) :=
  va_get (D := D) (ci := 3) (v := .int xw) (C := R_M) (T := F_M) (N := 28) Z.1.1 Z.1.2.1 Z.1.2.2.2.2 i_M Z.1.2.2.2.1 Z.2.1 hP 0 rfl rfl 16 (by decide) (Z.1.2.2.2.2 _ q_289) (fun _ h9 => h9) rfl hd kk
theorem pM_waited (Z : cxM p m c cc nL s args R_M D kd) (hP : va_P D classes (wM md kd xt xl xc xm xi xn xa xy xb xw xo xs rs af bs f1 f2 su sc con mem reg out wd pl ch dn wk) H) (hO : okM A md) (hS : va_S A H0 H locs) {v : Int32} (hd : decode cc pc = .ok (.putfield 131, 3)) (kk : ∀ (H1 : Heap) (locs1 : List Loc), va_P D classes (wM md kd xt xl xc xm xi xn xa xy xb v xo xs rs af bs f1 f2 su sc con mem reg out wd pl ch dn wk) H1 → va_S A H0 H1 locs1 → W p l e R s m args below meth c H1 locs1 cells slots Q (F0 m (pc + 3) ls rest)) : W p l e R s m args below meth c H locs cells slots Q (F0 m pc ls (.int v :: .ref (md 0) :: rest)) :=
  va_put (D := D) (ci := 3) (v := .int v) (ty := .int) (C := R_M) (T := F_M) (N := 28) Z.1.1 Z.1.2.1 Z.1.2.2.2.2 i_M t_M t_M_ok n_M Z.1.2.2.2.1 Z.2.1 hP (hO _ _ _ _ _ _ _ _ _ _ _ _ _ _ _ _ _ _ _ _ _ _ _ _ _ _ _ _ _) hS 0 rfl rfl 16 (by decide) (Z.1.2.2.2.2 _ q_289) (fun _ h9 => h9) rfl (by decide +kernel) rfl rfl (Nat.le_of_ble_eq_true rfl) hd (fun H1 l1 h1 _ h3 => kk H1 l1 h1 h3)
theorem gM_switched (Z : cxM p m c cc nL s args R_M D kd) (hP : va_P D classes (wM md kd xt xl xc xm xi xn xa xy xb xw xo xs rs af bs f1 f2 su sc con mem reg out wd pl ch dn wk) H) (hd : decode cc pc = .ok (.getfield 125, 3)) (kk : W p l e R s m args below meth c H locs cells slots Q (F0 m (pc + 3) ls (.int xs :: rest))) : W p l e R s m args below meth c H locs cells slots Q (F0 m pc ls (.ref (md 0) :: rest)) :=
  va_get (D := D) (ci := 3) (v := .int xs) (C := R_M) (T := F_M) (N := 28) Z.1.1 Z.1.2.1 Z.1.2.2.2.2 i_M Z.1.2.2.2.1 Z.2.1 hP 0 rfl rfl 17 (by decide) (Z.1.2.2.2.2 _ q_290) (fun _ h9 => h9) rfl hd kk
theorem pM_switched (Z : cxM p m c cc nL s args R_M D kd) (hP : va_P D classes (wM md kd xt xl xc xm xi xn xa xy xb xw xo xs rs af bs f1 f2 su sc con mem reg out wd pl ch dn wk) H) (hO : okM A md) (hS : va_S A H0 H locs) {v : Int32} (hd : decode cc pc = .ok (.putfield 125, 3)) (kk : ∀ (H1 : Heap) (locs1 : List Loc), va_P D classes (wM md kd xt xl xc xm xi xn xa xy xb xw xo v rs af bs f1 f2 su sc con mem reg out wd pl ch dn wk) H1 → va_S A H0 H1 locs1 → W p l e R s m args below meth c H1 locs1 cells slots Q (F0 m (pc + 3) ls rest)) : W p l e R s m args below meth c H locs cells slots Q (F0 m pc ls (.int v :: .ref (md 0) :: rest)) :=
  va_put (D := D) (ci := 3) (v := .int v) (ty := .int) (C := R_M) (T := F_M) (N := 28) Z.1.1 Z.1.2.1 Z.1.2.2.2.2 i_M t_M t_M_ok n_M Z.1.2.2.2.1 Z.2.1 hP (hO _ _ _ _ _ _ _ _ _ _ _ _ _ _ _ _ _ _ _ _ _ _ _ _ _ _ _ _ _) hS 0 rfl rfl 17 (by decide) (Z.1.2.2.2.2 _ q_290) (fun _ h9 => h9) rfl (by decide +kernel) rfl rfl (Nat.le_of_ble_eq_true rfl) hd (fun H1 l1 h1 _ h3 => kk H1 l1 h1 h3)
theorem gM_began (Z : cxM p m c cc nL s args R_M D kd) (hP : va_P D classes (wM md kd xt xl xc xm xi xn xa xy xb xw xo xs rs af bs f1 f2 su sc con mem reg out wd pl ch dn wk) H) (hd : decode cc pc = .ok (.getfield 35, 3)) (kk : W p l e R s m args below meth c H locs cells slots Q (F0 m (pc + 3) ls (.int xb :: rest))) : W p l e R s m args below meth c H locs cells slots Q (F0 m pc ls (.ref (md 0) :: rest)) :=
  va_get (D := D) (ci := 3) (v := .int xb) (C := R_M) (T := F_M) (N := 28) Z.1.1 Z.1.2.1 Z.1.2.2.2.2 i_M Z.1.2.2.2.1 Z.2.1 hP 0 rfl rfl 18 (by decide) (Z.1.2.2.2.2 _ q_291) (fun _ h9 => h9) rfl hd kk
theorem pM_began (Z : cxM p m c cc nL s args R_M D kd) (hP : va_P D classes (wM md kd xt xl xc xm xi xn xa xy xb xw xo xs rs af bs f1 f2 su sc con mem reg out wd pl ch dn wk) H) (hO : okM A md) (hS : va_S A H0 H locs) {v : Int32} (hd : decode cc pc = .ok (.putfield 35, 3)) (kk : ∀ (H1 : Heap) (locs1 : List Loc), va_P D classes (wM md kd xt xl xc xm xi xn xa xy v xw xo xs rs af bs f1 f2 su sc con mem reg out wd pl ch dn wk) H1 → va_S A H0 H1 locs1 → W p l e R s m args below meth c H1 locs1 cells slots Q (F0 m (pc + 3) ls rest)) : W p l e R s m args below meth c H locs cells slots Q (F0 m pc ls (.int v :: .ref (md 0) :: rest)) :=
  va_put (D := D) (ci := 3) (v := .int v) (ty := .int) (C := R_M) (T := F_M) (N := 28) Z.1.1 Z.1.2.1 Z.1.2.2.2.2 i_M t_M t_M_ok n_M Z.1.2.2.2.1 Z.2.1 hP (hO _ _ _ _ _ _ _ _ _ _ _ _ _ _ _ _ _ _ _ _ _ _ _ _ _ _ _ _ _) hS 0 rfl rfl 18 (by decide) (Z.1.2.2.2.2 _ q_291) (fun _ h9 => h9) rfl (by decide +kernel) rfl rfl (Nat.le_of_ble_eq_true rfl) hd (fun H1 l1 h1 _ h3 => kk H1 l1 h1 h3)
theorem gM_outs (Z : cxM p m c cc nL s args R_M D kd) (hP : va_P D classes (wM md kd xt xl xc xm xi xn xa xy xb xw xo xs rs af bs f1 f2 su sc con mem reg out wd pl ch dn wk) H) (hd : decode cc pc = .ok (.getfield 118, 3)) (kk : W p l e R s m args below meth c H locs cells slots Q (F0 m (pc + 3) ls (.int xo :: rest))) : W p l e R s m args below meth c H locs cells slots Q (F0 m pc ls (.ref (md 0) :: rest)) :=
  va_get (D := D) (ci := 3) (v := .int xo) (C := R_M) (T := F_M) (N := 28) Z.1.1 Z.1.2.1 Z.1.2.2.2.2 i_M Z.1.2.2.2.1 Z.2.1 hP 0 rfl rfl 19 (by decide) (Z.1.2.2.2.2 _ q_292) (fun _ h9 => h9) rfl hd kk
theorem pM_outs (Z : cxM p m c cc nL s args R_M D kd) (hP : va_P D classes (wM md kd xt xl xc xm xi xn xa xy xb xw xo xs rs af bs f1 f2 su sc con mem reg out wd pl ch dn wk) H) (hO : okM A md) (hS : va_S A H0 H locs) {v : Int32} (hd : decode cc pc = .ok (.putfield 118, 3)) (kk : ∀ (H1 : Heap) (locs1 : List Loc), va_P D classes (wM md kd xt xl xc xm xi xn xa xy xb xw v xs rs af bs f1 f2 su sc con mem reg out wd pl ch dn wk) H1 → va_S A H0 H1 locs1 → W p l e R s m args below meth c H1 locs1 cells slots Q (F0 m (pc + 3) ls rest)) : W p l e R s m args below meth c H locs cells slots Q (F0 m pc ls (.int v :: .ref (md 0) :: rest)) :=
  va_put (D := D) (ci := 3) (v := .int v) (ty := .int) (C := R_M) (T := F_M) (N := 28) Z.1.1 Z.1.2.1 Z.1.2.2.2.2 i_M t_M t_M_ok n_M Z.1.2.2.2.1 Z.2.1 hP (hO _ _ _ _ _ _ _ _ _ _ _ _ _ _ _ _ _ _ _ _ _ _ _ _ _ _ _ _ _) hS 0 rfl rfl 19 (by decide) (Z.1.2.2.2.2 _ q_292) (fun _ h9 => h9) rfl (by decide +kernel) rfl rfl (Nat.le_of_ble_eq_true rfl) hd (fun H1 l1 h1 _ h3 => kk H1 l1 h1 h3)
theorem gM_out (Z : cxM p m c cc nL s args R_M D kd) (hP : va_P D classes (wM md kd xt xl xc xm xi xn xa xy xb xw xo xs rs af bs f1 f2 su sc con mem reg out wd pl ch dn wk) H) (hd : decode cc pc = .ok (.getfield 39, 3)) (kk : W p l e R s m args below meth c H locs cells slots Q (F0 m (pc + 3) ls (.ref (md 9) :: rest))) : W p l e R s m args below meth c H locs cells slots Q (F0 m pc ls (.ref (md 0) :: rest)) :=
  va_get (D := D) (ci := 3) (v := .ref (md 9)) (C := R_M) (T := F_M) (N := 28) Z.1.1 Z.1.2.1 Z.1.2.2.2.2 i_M Z.1.2.2.2.1 Z.2.1 hP 0 rfl rfl 20 (by decide) (Z.1.2.2.2.2 _ q_293) (fun _ h9 => h9) rfl hd kk
theorem gM_rsel (Z : cxM p m c cc nL s args R_M D kd) (hP : va_P D classes (wM md kd xt xl xc xm xi xn xa xy xb xw xo xs rs af bs f1 f2 su sc con mem reg out wd pl ch dn wk) H) (hd : decode cc pc = .ok (.getfield 69, 3)) (kk : W p l e R s m args below meth c H locs cells slots Q (F0 m (pc + 3) ls (.int rs :: rest))) : W p l e R s m args below meth c H locs cells slots Q (F0 m pc ls (.ref (md 0) :: rest)) :=
  va_get (D := D) (ci := 3) (v := .int rs) (C := R_M) (T := F_M) (N := 28) Z.1.1 Z.1.2.1 Z.1.2.2.2.2 i_M Z.1.2.2.2.1 Z.2.1 hP 0 rfl rfl 21 (by decide) (Z.1.2.2.2.2 _ q_294) (fun _ h9 => h9) rfl hd kk
theorem pM_rsel (Z : cxM p m c cc nL s args R_M D kd) (hP : va_P D classes (wM md kd xt xl xc xm xi xn xa xy xb xw xo xs rs af bs f1 f2 su sc con mem reg out wd pl ch dn wk) H) (hO : okM A md) (hS : va_S A H0 H locs) {v : Int32} (hd : decode cc pc = .ok (.putfield 69, 3)) (kk : ∀ (H1 : Heap) (locs1 : List Loc), va_P D classes (wM md kd xt xl xc xm xi xn xa xy xb xw xo xs v af bs f1 f2 su sc con mem reg out wd pl ch dn wk) H1 → va_S A H0 H1 locs1 → W p l e R s m args below meth c H1 locs1 cells slots Q (F0 m (pc + 3) ls rest)) : W p l e R s m args below meth c H locs cells slots Q (F0 m pc ls (.int v :: .ref (md 0) :: rest)) :=
  va_put (D := D) (ci := 3) (v := .int v) (ty := .int) (C := R_M) (T := F_M) (N := 28) Z.1.1 Z.1.2.1 Z.1.2.2.2.2 i_M t_M t_M_ok n_M Z.1.2.2.2.1 Z.2.1 hP (hO _ _ _ _ _ _ _ _ _ _ _ _ _ _ _ _ _ _ _ _ _ _ _ _ _ _ _ _ _) hS 0 rfl rfl 21 (by decide) (Z.1.2.2.2.2 _ q_294) (fun _ h9 => h9) rfl (by decide +kernel) rfl rfl (Nat.le_of_ble_eq_true rfl) hd (fun H1 l1 h1 _ h3 => kk H1 l1 h1 h3)
theorem gM_aluf (Z : cxM p m c cc nL s args R_M D kd) (hP : va_P D classes (wM md kd xt xl xc xm xi xn xa xy xb xw xo xs rs af bs f1 f2 su sc con mem reg out wd pl ch dn wk) H) (hd : decode cc pc = .ok (.getfield 84, 3)) (kk : W p l e R s m args below meth c H locs cells slots Q (F0 m (pc + 3) ls (.int af :: rest))) : W p l e R s m args below meth c H locs cells slots Q (F0 m pc ls (.ref (md 0) :: rest)) :=
  va_get (D := D) (ci := 3) (v := .int af) (C := R_M) (T := F_M) (N := 28) Z.1.1 Z.1.2.1 Z.1.2.2.2.2 i_M Z.1.2.2.2.1 Z.2.1 hP 0 rfl rfl 22 (by decide) (Z.1.2.2.2.2 _ q_295) (fun _ h9 => h9) rfl hd kk
theorem pM_aluf (Z : cxM p m c cc nL s args R_M D kd) (hP : va_P D classes (wM md kd xt xl xc xm xi xn xa xy xb xw xo xs rs af bs f1 f2 su sc con mem reg out wd pl ch dn wk) H) (hO : okM A md) (hS : va_S A H0 H locs) {v : Int32} (hd : decode cc pc = .ok (.putfield 84, 3)) (kk : ∀ (H1 : Heap) (locs1 : List Loc), va_P D classes (wM md kd xt xl xc xm xi xn xa xy xb xw xo xs rs v bs f1 f2 su sc con mem reg out wd pl ch dn wk) H1 → va_S A H0 H1 locs1 → W p l e R s m args below meth c H1 locs1 cells slots Q (F0 m (pc + 3) ls rest)) : W p l e R s m args below meth c H locs cells slots Q (F0 m pc ls (.int v :: .ref (md 0) :: rest)) :=
  va_put (D := D) (ci := 3) (v := .int v) (ty := .int) (C := R_M) (T := F_M) (N := 28) Z.1.1 Z.1.2.1 Z.1.2.2.2.2 i_M t_M t_M_ok n_M Z.1.2.2.2.1 Z.2.1 hP (hO _ _ _ _ _ _ _ _ _ _ _ _ _ _ _ _ _ _ _ _ _ _ _ _ _ _ _ _ _) hS 0 rfl rfl 22 (by decide) (Z.1.2.2.2.2 _ q_295) (fun _ h9 => h9) rfl (by decide +kernel) rfl rfl (Nat.le_of_ble_eq_true rfl) hd (fun H1 l1 h1 _ h3 => kk H1 l1 h1 h3)
theorem gM_bs (Z : cxM p m c cc nL s args R_M D kd) (hP : va_P D classes (wM md kd xt xl xc xm xi xn xa xy xb xw xo xs rs af bs f1 f2 su sc con mem reg out wd pl ch dn wk) H) (hd : decode cc pc = .ok (.getfield 59, 3)) (kk : W p l e R s m args below meth c H locs cells slots Q (F0 m (pc + 3) ls (.int bs :: rest))) : W p l e R s m args below meth c H locs cells slots Q (F0 m pc ls (.ref (md 0) :: rest)) :=
  va_get (D := D) (ci := 3) (v := .int bs) (C := R_M) (T := F_M) (N := 28) Z.1.1 Z.1.2.1 Z.1.2.2.2.2 i_M Z.1.2.2.2.1 Z.2.1 hP 0 rfl rfl 23 (by decide) (Z.1.2.2.2.2 _ q_296) (fun _ h9 => h9) rfl hd kk
theorem pM_bs (Z : cxM p m c cc nL s args R_M D kd) (hP : va_P D classes (wM md kd xt xl xc xm xi xn xa xy xb xw xo xs rs af bs f1 f2 su sc con mem reg out wd pl ch dn wk) H) (hO : okM A md) (hS : va_S A H0 H locs) {v : Int32} (hd : decode cc pc = .ok (.putfield 59, 3)) (kk : ∀ (H1 : Heap) (locs1 : List Loc), va_P D classes (wM md kd xt xl xc xm xi xn xa xy xb xw xo xs rs af v f1 f2 su sc con mem reg out wd pl ch dn wk) H1 → va_S A H0 H1 locs1 → W p l e R s m args below meth c H1 locs1 cells slots Q (F0 m (pc + 3) ls rest)) : W p l e R s m args below meth c H locs cells slots Q (F0 m pc ls (.int v :: .ref (md 0) :: rest)) :=
  va_put (D := D) (ci := 3) (v := .int v) (ty := .int) (C := R_M) (T := F_M) (N := 28) Z.1.1 Z.1.2.1 Z.1.2.2.2.2 i_M t_M t_M_ok n_M Z.1.2.2.2.1 Z.2.1 hP (hO _ _ _ _ _ _ _ _ _ _ _ _ _ _ _ _ _ _ _ _ _ _ _ _ _ _ _ _ _) hS 0 rfl rfl 23 (by decide) (Z.1.2.2.2.2 _ q_296) (fun _ h9 => h9) rfl (by decide +kernel) rfl rfl (Nat.le_of_ble_eq_true rfl) hd (fun H1 l1 h1 _ h3 => kk H1 l1 h1 h3)
theorem gM_f1 (Z : cxM p m c cc nL s args R_M D kd) (hP : va_P D classes (wM md kd xt xl xc xm xi xn xa xy xb xw xo xs rs af bs f1 f2 su sc con mem reg out wd pl ch dn wk) H) (hd : decode cc pc = .ok (.getfield 50, 3)) (kk : W p l e R s m args below meth c H locs cells slots Q (F0 m (pc + 3) ls (.int f1 :: rest))) : W p l e R s m args below meth c H locs cells slots Q (F0 m pc ls (.ref (md 0) :: rest)) :=
  va_get (D := D) (ci := 3) (v := .int f1) (C := R_M) (T := F_M) (N := 28) Z.1.1 Z.1.2.1 Z.1.2.2.2.2 i_M Z.1.2.2.2.1 Z.2.1 hP 0 rfl rfl 24 (by decide) (Z.1.2.2.2.2 _ q_297) (fun _ h9 => h9) rfl hd kk
theorem pM_f1 (Z : cxM p m c cc nL s args R_M D kd) (hP : va_P D classes (wM md kd xt xl xc xm xi xn xa xy xb xw xo xs rs af bs f1 f2 su sc con mem reg out wd pl ch dn wk) H) (hO : okM A md) (hS : va_S A H0 H locs) {v : Int32} (hd : decode cc pc = .ok (.putfield 50, 3)) (kk : ∀ (H1 : Heap) (locs1 : List Loc), va_P D classes (wM md kd xt xl xc xm xi xn xa xy xb xw xo xs rs af bs v f2 su sc con mem reg out wd pl ch dn wk) H1 → va_S A H0 H1 locs1 → W p l e R s m args below meth c H1 locs1 cells slots Q (F0 m (pc + 3) ls rest)) : W p l e R s m args below meth c H locs cells slots Q (F0 m pc ls (.int v :: .ref (md 0) :: rest)) :=
  va_put (D := D) (ci := 3) (v := .int v) (ty := .int) (C := R_M) (T := F_M) (N := 28) Z.1.1 Z.1.2.1 Z.1.2.2.2.2 i_M t_M t_M_ok n_M Z.1.2.2.2.1 Z.2.1 hP (hO _ _ _ _ _ _ _ _ _ _ _ _ _ _ _ _ _ _ _ _ _ _ _ _ _ _ _ _ _) hS 0 rfl rfl 24 (by decide) (Z.1.2.2.2.2 _ q_297) (fun _ h9 => h9) rfl (by decide +kernel) rfl rfl (Nat.le_of_ble_eq_true rfl) hd (fun H1 l1 h1 _ h3 => kk H1 l1 h1 h3)
theorem gM_f2 (Z : cxM p m c cc nL s args R_M D kd) (hP : va_P D classes (wM md kd xt xl xc xm xi xn xa xy xb xw xo xs rs af bs f1 f2 su sc con mem reg out wd pl ch dn wk) H) (hd : decode cc pc = .ok (.getfield 53, 3)) (kk : W p l e R s m args below meth c H locs cells slots Q (F0 m (pc + 3) ls (.int f2 :: rest))) : W p l e R s m args below meth c H locs cells slots Q (F0 m pc ls (.ref (md 0) :: rest)) :=
  va_get (D := D) (ci := 3) (v := .int f2) (C := R_M) (T := F_M) (N := 28) Z.1.1 Z.1.2.1 Z.1.2.2.2.2 i_M Z.1.2.2.2.1 Z.2.1 hP 0 rfl rfl 25 (by decide) (Z.1.2.2.2.2 _ q_298) (fun _ h9 => h9) rfl hd kk
theorem pM_f2 (Z : cxM p m c cc nL s args R_M D kd) (hP : va_P D classes (wM md kd xt xl xc xm xi xn xa xy xb xw xo xs rs af bs f1 f2 su sc con mem reg out wd pl ch dn wk) H) (hO : okM A md) (hS : va_S A H0 H locs) {v : Int32} (hd : decode cc pc = .ok (.putfield 53, 3)) (kk : ∀ (H1 : Heap) (locs1 : List Loc), va_P D classes (wM md kd xt xl xc xm xi xn xa xy xb xw xo xs rs af bs f1 v su sc con mem reg out wd pl ch dn wk) H1 → va_S A H0 H1 locs1 → W p l e R s m args below meth c H1 locs1 cells slots Q (F0 m (pc + 3) ls rest)) : W p l e R s m args below meth c H locs cells slots Q (F0 m pc ls (.int v :: .ref (md 0) :: rest)) :=
  va_put (D := D) (ci := 3) (v := .int v) (ty := .int) (C := R_M) (T := F_M) (N := 28) Z.1.1 Z.1.2.1 Z.1.2.2.2.2 i_M t_M t_M_ok n_M Z.1.2.2.2.1 Z.2.1 hP (hO _ _ _ _ _ _ _ _ _ _ _ _ _ _ _ _ _ _ _ _ _ _ _ _ _ _ _ _ _) hS 0 rfl rfl 25 (by decide) (Z.1.2.2.2.2 _ q_298) (fun _ h9 => h9) rfl (by decide +kernel) rfl rfl (Nat.le_of_ble_eq_true rfl) hd (fun H1 l1 h1 _ h3 => kk H1 l1 h1 h3)
theorem gM_sum (Z : cxM p m c cc nL s args R_M D kd) (hP : va_P D classes (wM md kd xt xl xc xm xi xn xa xy xb xw xo xs rs af bs f1 f2 su sc con mem reg out wd pl ch dn wk) H) (hd : decode cc pc = .ok (.getfield 78, 3)) (kk : W p l e R s m args below meth c H locs cells slots Q (F0 m (pc + 3) ls (.int su :: rest))) : W p l e R s m args below meth c H locs cells slots Q (F0 m pc ls (.ref (md 0) :: rest)) :=
  va_get (D := D) (ci := 3) (v := .int su) (C := R_M) (T := F_M) (N := 28) Z.1.1 Z.1.2.1 Z.1.2.2.2.2 i_M Z.1.2.2.2.1 Z.2.1 hP 0 rfl rfl 26 (by decide) (Z.1.2.2.2.2 _ q_299) (fun _ h9 => h9) rfl hd kk
theorem pM_sum (Z : cxM p m c cc nL s args R_M D kd) (hP : va_P D classes (wM md kd xt xl xc xm xi xn xa xy xb xw xo xs rs af bs f1 f2 su sc con mem reg out wd pl ch dn wk) H) (hO : okM A md) (hS : va_S A H0 H locs) {v : Int32} (hd : decode cc pc = .ok (.putfield 78, 3)) (kk : ∀ (H1 : Heap) (locs1 : List Loc), va_P D classes (wM md kd xt xl xc xm xi xn xa xy xb xw xo xs rs af bs f1 f2 v sc con mem reg out wd pl ch dn wk) H1 → va_S A H0 H1 locs1 → W p l e R s m args below meth c H1 locs1 cells slots Q (F0 m (pc + 3) ls rest)) : W p l e R s m args below meth c H locs cells slots Q (F0 m pc ls (.int v :: .ref (md 0) :: rest)) :=
  va_put (D := D) (ci := 3) (v := .int v) (ty := .int) (C := R_M) (T := F_M) (N := 28) Z.1.1 Z.1.2.1 Z.1.2.2.2.2 i_M t_M t_M_ok n_M Z.1.2.2.2.1 Z.2.1 hP (hO _ _ _ _ _ _ _ _ _ _ _ _ _ _ _ _ _ _ _ _ _ _ _ _ _ _ _ _ _) hS 0 rfl rfl 26 (by decide) (Z.1.2.2.2.2 _ q_299) (fun _ h9 => h9) rfl (by decide +kernel) rfl rfl (Nat.le_of_ble_eq_true rfl) hd (fun H1 l1 h1 _ h3 => kk H1 l1 h1 h3)
theorem gM_sumCarry (Z : cxM p m c cc nL s args R_M D kd) (hP : va_P D classes (wM md kd xt xl xc xm xi xn xa xy xb xw xo xs rs af bs f1 f2 su sc con mem reg out wd pl ch dn wk) H) (hd : decode cc pc = .ok (.getfield 81, 3)) (kk : W p l e R s m args below meth c H locs cells slots Q (F0 m (pc + 3) ls (.int sc :: rest))) : W p l e R s m args below meth c H locs cells slots Q (F0 m pc ls (.ref (md 0) :: rest)) :=
  va_get (D := D) (ci := 3) (v := .int sc) (C := R_M) (T := F_M) (N := 28) Z.1.1 Z.1.2.1 Z.1.2.2.2.2 i_M Z.1.2.2.2.1 Z.2.1 hP 0 rfl rfl 27 (by decide) (Z.1.2.2.2.2 _ q_300) (fun _ h9 => h9) rfl hd kk
theorem pM_sumCarry (Z : cxM p m c cc nL s args R_M D kd) (hP : va_P D classes (wM md kd xt xl xc xm xi xn xa xy xb xw xo xs rs af bs f1 f2 su sc con mem reg out wd pl ch dn wk) H) (hO : okM A md) (hS : va_S A H0 H locs) {v : Int32} (hd : decode cc pc = .ok (.putfield 81, 3)) (kk : ∀ (H1 : Heap) (locs1 : List Loc), va_P D classes (wM md kd xt xl xc xm xi xn xa xy xb xw xo xs rs af bs f1 f2 su v con mem reg out wd pl ch dn wk) H1 → va_S A H0 H1 locs1 → W p l e R s m args below meth c H1 locs1 cells slots Q (F0 m (pc + 3) ls rest)) : W p l e R s m args below meth c H locs cells slots Q (F0 m pc ls (.int v :: .ref (md 0) :: rest)) :=
  va_put (D := D) (ci := 3) (v := .int v) (ty := .int) (C := R_M) (T := F_M) (N := 28) Z.1.1 Z.1.2.1 Z.1.2.2.2.2 i_M t_M t_M_ok n_M Z.1.2.2.2.1 Z.2.1 hP (hO _ _ _ _ _ _ _ _ _ _ _ _ _ _ _ _ _ _ _ _ _ _ _ _ _ _ _ _ _) hS 0 rfl rfl 27 (by decide) (Z.1.2.2.2.2 _ q_300) (fun _ h9 => h9) rfl (by decide +kernel) rfl rfl (Nat.le_of_ble_eq_true rfl) hd (fun H1 l1 h1 _ h3 => kk H1 l1 h1 h3)
theorem lC_constants (Z : cxC p m c cc nL s args R_C D kc) (hP : va_P D classes (wC ad kc am sm xt xl xc xm xi xn xa xy xb xw xo xs bu sh al ac con mem reg out wd pl ch dn wk) H) {i : Int32} (hi : vp_in i 256) (hd : decode cc pc = .ok (.iaload, 1)) (kk : W p l e R s m args below meth c H locs cells slots Q (F0 m (pc + 1) ls (.int (con i.toNatClampNeg) :: rest))) : W p l e R s m args below meth c H locs cells slots Q (F0 m pc ls (.int i :: .ref (ad 2) :: rest)) :=
  va_iald Z.1.1 Z.1.2.1 Z.2.1 hP 2 1 rfl rfl hi hd kk
theorem sC_constants (Z : cxC p m c cc nL s args R_C D kc) (hP : va_P D classes (wC ad kc am sm xt xl xc xm xi xn xa xy xb xw xo xs bu sh al ac con mem reg out wd pl ch dn wk) H) (hO : okC A ad am sm) (hS : va_S A H0 H locs) {i x : Int32} (hi : vp_in i 256) (hd : decode cc pc = .ok (.iastore, 1)) (kk : ∀ (H1 : Heap) (locs1 : List Loc), va_P D classes (wC ad kc am sm xt xl xc xm xi xn xa xy xb xw xo xs bu sh al ac (upd con i.toNatClampNeg x) mem reg out wd pl ch dn wk) H1 → va_S A H0 H1 locs1 → W p l e R s m args below meth c H1 locs1 cells slots Q (F0 m (pc + 1) ls rest)) : W p l e R s m args below meth c H locs cells slots Q (F0 m pc ls (.int x :: .int i :: .ref (ad 2) :: rest)) :=
  va_iast Z.1.1 Z.1.2.1 Z.2.1 hP (hO _ _ _ _ _ _ _ _ _ _ _ _ _ _ _ _ _ _ _ _ _ _ _ _ _ _) hS 2 1 rfl rfl hi hd (fun H1 l1 h1 _ h3 => kk H1 l1 (h1) h3)
theorem lC_memory (Z : cxC p m c cc nL s args R_C D kc) (hP : va_P D classes (wC ad kc am sm xt xl xc xm xi xn xa xy xb xw xo xs bu sh al ac con mem reg out wd pl ch dn wk) H) {i : Int32} (hi : vp_in i 1024) (hd : decode cc pc = .ok (.iaload, 1)) (kk : W p l e R s m args below meth c H locs cells slots Q (F0 m (pc + 1) ls (.int (mem i.toNatClampNeg) :: rest))) : W p l e R s m args below meth c H locs cells slots Q (F0 m pc ls (.int i :: .ref (ad 3) :: rest)) :=
  va_iald Z.1.1 Z.1.2.1 Z.2.1 hP 3 2 rfl rfl hi hd kk
theorem sC_memory (Z : cxC p m c cc nL s args R_C D kc) (hP : va_P D classes (wC ad kc am sm xt xl xc xm xi xn xa xy xb xw xo xs bu sh al ac con mem reg out wd pl ch dn wk) H) (hO : okC A ad am sm) (hS : va_S A H0 H locs) {i x : Int32} (hi : vp_in i 1024) (hd : decode cc pc = .ok (.iastore, 1)) (kk : ∀ (H1 : Heap) (locs1 : List Loc), va_P D classes (wC ad kc am sm xt xl xc xm xi xn xa xy xb xw xo xs bu sh al ac con (upd mem i.toNatClampNeg x) reg out wd pl ch dn wk) H1 → va_S A H0 H1 locs1 → W p l e R s m args below meth c H1 locs1 cells slots Q (F0 m (pc + 1) ls rest)) : W p l e R s m args below meth c H locs cells slots Q (F0 m pc ls (.int x :: .int i :: .ref (ad 3) :: rest)) :=
  va_iast Z.1.1 Z.1.2.1 Z.2.1 hP (hO _ _ _ _ _ _ _ _ _ _ _ _ _ _ _ _ _ _ _ _ _ _ _ _ _ _) hS 3 2 rfl rfl hi hd (fun H1 l1 h1 _ h3 => kk H1 l1 (h1) h3)
theorem lC_registers (Z : cxC p m c cc nL s args R_C D kc) (hP : va_P D classes (wC ad kc am sm xt xl xc xm xi xn xa xy xb xw xo xs bu sh al ac con mem reg out wd pl ch dn wk) H) {i : Int32} (hi : vp_in i 32) (hd : decode cc pc = .ok (.iaload, 1)) (kk : W p l e R s m args below meth c H locs cells slots Q (F0 m (pc + 1) ls (.int (reg i.toNatClampNeg) :: rest))) : W p l e R s m args below meth c H locs cells slots Q (F0 m pc ls (.int i :: .ref (ad 4) :: rest)) :=
  va_iald Z.1.1 Z.1.2.1 Z.2.1 hP 4 3 rfl rfl hi hd kk
theorem sC_registers (Z : cxC p m c cc nL s args R_C D kc) (hP : va_P D classes (wC ad kc am sm xt xl xc xm xi xn xa xy xb xw xo xs bu sh al ac con mem reg out wd pl ch dn wk) H) (hO : okC A ad am sm) (hS : va_S A H0 H locs) {i x : Int32} (hi : vp_in i 32) (hd : decode cc pc = .ok (.iastore, 1)) (kk : ∀ (H1 : Heap) (locs1 : List Loc), va_P D classes (wC ad kc am sm xt xl xc xm xi xn xa xy xb xw xo xs bu sh al ac con mem (upd reg i.toNatClampNeg x) out wd pl ch dn wk) H1 → va_S A H0 H1 locs1 → W p l e R s m args below meth c H1 locs1 cells slots Q (F0 m (pc + 1) ls rest)) : W p l e R s m args below meth c H locs cells slots Q (F0 m pc ls (.int x :: .int i :: .ref (ad 4) :: rest)) :=
  va_iast Z.1.1 Z.1.2.1 Z.2.1 hP (hO _ _ _ _ _ _ _ _ _ _ _ _ _ _ _ _ _ _ _ _ _ _ _ _ _ _) hS 4 3 rfl rfl hi hd (fun H1 l1 h1 _ h3 => kk H1 l1 (h1) h3)
theorem lC_outs (Z : cxC p m c cc nL s args R_C D kc) (hP : va_P D classes (wC ad kc am sm xt xl xc xm xi xn xa xy xb xw xo xs bu sh al ac con mem reg out wd pl ch dn wk) H) {i : Int32} (hi : vp_in i 500) (hd : decode cc pc = .ok (.iaload, 1)) (kk : W p l e R s m args below meth c H locs cells slots Q (F0 m (pc + 1) ls (.int (out i.toNatClampNeg) :: rest))) : W p l e R s m args below meth c H locs cells slots Q (F0 m pc ls (.int i :: .ref (ad 6) :: rest)) :=
  va_iald Z.1.1 Z.1.2.1 Z.2.1 hP 6 5 rfl rfl hi hd kk
theorem sC_outs (Z : cxC p m c cc nL s args R_C D kc) (hP : va_P D classes (wC ad kc am sm xt xl xc xm xi xn xa xy xb xw xo xs bu sh al ac con mem reg out wd pl ch dn wk) H) (hO : okC A ad am sm) (hS : va_S A H0 H locs) {i x : Int32} (hi : vp_in i 500) (hd : decode cc pc = .ok (.iastore, 1)) (kk : ∀ (H1 : Heap) (locs1 : List Loc), va_P D classes (wC ad kc am sm xt xl xc xm xi xn xa xy xb xw xo xs bu sh al ac con mem reg (upd out i.toNatClampNeg x) wd pl ch dn wk) H1 → va_S A H0 H1 locs1 → W p l e R s m args below meth c H1 locs1 cells slots Q (F0 m (pc + 1) ls rest)) : W p l e R s m args below meth c H locs cells slots Q (F0 m pc ls (.int x :: .int i :: .ref (ad 6) :: rest)) :=
  va_iast Z.1.1 Z.1.2.1 Z.2.1 hP (hO _ _ _ _ _ _ _ _ _ _ _ _ _ _ _ _ _ _ _ _ _ _ _ _ _ _) hS 6 5 rfl rfl hi hd (fun H1 l1 h1 _ h3 => kk H1 l1 (h1) h3)
theorem lM_instructions (Z : cxM p m c cc nL s args R_M D kd) (hP : va_P D classes (wM md kd xt xl xc xm xi xn xa xy xb xw xo xs rs af bs f1 f2 su sc con mem reg out wd pl ch dn wk) H) {i : Int32} (hi : vp_in i 1024) (hd : decode cc pc = .ok (.iaload, 1)) (kk : W p l e R s m args below meth c H locs cells slots Q (F0 m (pc + 1) ls (.int (wd i.toNatClampNeg) :: rest))) : W p l e R s m args below meth c H locs cells slots Q (F0 m pc ls (.int i :: .ref (md 1) :: rest)) :=
  va_iald Z.1.1 Z.1.2.1 Z.2.1 hP 1 0 rfl rfl hi hd kk
theorem sM_instructions (Z : cxM p m c cc nL s args R_M D kd) (hP : va_P D classes (wM md kd xt xl xc xm xi xn xa xy xb xw xo xs rs af bs f1 f2 su sc con mem reg out wd pl ch dn wk) H) (hO : okM A md) (hS : va_S A H0 H locs) {i x : Int32} (hi : vp_in i 1024) (hd : decode cc pc = .ok (.iastore, 1)) (kk : ∀ (H1 : Heap) (locs1 : List Loc), va_P D classes (wM md kd xt xl xc xm xi xn xa xy xb xw xo xs rs af bs f1 f2 su sc con mem reg out (upd wd i.toNatClampNeg x) pl ch dn wk) H1 → va_S A H0 H1 locs1 → W p l e R s m args below meth c H1 locs1 cells slots Q (F0 m (pc + 1) ls rest)) : W p l e R s m args below meth c H locs cells slots Q (F0 m pc ls (.int x :: .int i :: .ref (md 1) :: rest)) :=
  va_iast Z.1.1 Z.1.2.1 Z.2.1 hP (hO _ _ _ _ _ _ _ _ _ _ _ _ _ _ _ _ _ _ _ _ _ _ _ _ _ _ _ _ _) hS 1 0 rfl rfl hi hd (fun H1 l1 h1 _ h3 => kk H1 l1 (h1) h3)
theorem lM_constants (Z : cxM p m c cc nL s args R_M D kd) (hP : va_P D classes (wM md kd xt xl xc xm xi xn xa xy xb xw xo xs rs af bs f1 f2 su sc con mem reg out wd pl ch dn wk) H) {i : Int32} (hi : vp_in i 256) (hd : decode cc pc = .ok (.iaload, 1)) (kk : W p l e R s m args below meth c H locs cells slots Q (F0 m (pc + 1) ls (.int (con i.toNatClampNeg) :: rest))) : W p l e R s m args below meth c H locs cells slots Q (F0 m pc ls (.int i :: .ref (md 2) :: rest)) :=
  va_iald Z.1.1 Z.1.2.1 Z.2.1 hP 2 1 rfl rfl hi hd kk
theorem sM_constants (Z : cxM p m c cc nL s args R_M D kd) (hP : va_P D classes (wM md kd xt xl xc xm xi xn xa xy xb xw xo xs rs af bs f1 f2 su sc con mem reg out wd pl ch dn wk) H) (hO : okM A md) (hS : va_S A H0 H locs) {i x : Int32} (hi : vp_in i 256) (hd : decode cc pc = .ok (.iastore, 1)) (kk : ∀ (H1 : Heap) (locs1 : List Loc), va_P D classes (wM md kd xt xl xc xm xi xn xa xy xb xw xo xs rs af bs f1 f2 su sc (upd con i.toNatClampNeg x) mem reg out wd pl ch dn wk) H1 → va_S A H0 H1 locs1 → W p l e R s m args below meth c H1 locs1 cells slots Q (F0 m (pc + 1) ls rest)) : W p l e R s m args below meth c H locs cells slots Q (F0 m pc ls (.int x :: .int i :: .ref (md 2) :: rest)) :=
  va_iast Z.1.1 Z.1.2.1 Z.2.1 hP (hO _ _ _ _ _ _ _ _ _ _ _ _ _ _ _ _ _ _ _ _ _ _ _ _ _ _ _ _ _) hS 2 1 rfl rfl hi hd (fun H1 l1 h1 _ h3 => kk H1 l1 (h1) h3)
theorem lM_memory (Z : cxM p m c cc nL s args R_M D kd) (hP : va_P D classes (wM md kd xt xl xc xm xi xn xa xy xb xw xo xs rs af bs f1 f2 su sc con mem reg out wd pl ch dn wk) H) {i : Int32} (hi : vp_in i 1024) (hd : decode cc pc = .ok (.iaload, 1)) (kk : W p l e R s m args below meth c H locs cells slots Q (F0 m (pc + 1) ls (.int (mem i.toNatClampNeg) :: rest))) : W p l e R s m args below meth c H locs cells slots Q (F0 m pc ls (.int i :: .ref (md 3) :: rest)) :=
  va_iald Z.1.1 Z.1.2.1 Z.2.1 hP 3 2 rfl rfl hi hd kk
theorem sM_memory (Z : cxM p m c cc nL s args R_M D kd) (hP : va_P D classes (wM md kd xt xl xc xm xi xn xa xy xb xw xo xs rs af bs f1 f2 su sc con mem reg out wd pl ch dn wk) H) (hO : okM A md) (hS : va_S A H0 H locs) {i x : Int32} (hi : vp_in i 1024) (hd : decode cc pc = .ok (.iastore, 1)) (kk : ∀ (H1 : Heap) (locs1 : List Loc), va_P D classes (wM md kd xt xl xc xm xi xn xa xy xb xw xo xs rs af bs f1 f2 su sc con (upd mem i.toNatClampNeg x) reg out wd pl ch dn wk) H1 → va_S A H0 H1 locs1 → W p l e R s m args below meth c H1 locs1 cells slots Q (F0 m (pc + 1) ls rest)) : W p l e R s m args below meth c H locs cells slots Q (F0 m pc ls (.int x :: .int i :: .ref (md 3) :: rest)) :=
  va_iast Z.1.1 Z.1.2.1 Z.2.1 hP (hO _ _ _ _ _ _ _ _ _ _ _ _ _ _ _ _ _ _ _ _ _ _ _ _ _ _ _ _ _) hS 3 2 rfl rfl hi hd (fun H1 l1 h1 _ h3 => kk H1 l1 (h1) h3)
theorem lM_registers (Z : cxM p m c cc nL s args R_M D kd) (hP : va_P D classes (wM md kd xt xl xc xm xi xn xa xy xb xw xo xs rs af bs f1 f2 su sc con mem reg out wd pl ch dn wk) H) {i : Int32} (hi : vp_in i 32) (hd : decode cc pc = .ok (.iaload, 1)) (kk : W p l e R s m args below meth c H locs cells slots Q (F0 m (pc + 1) ls (.int (reg i.toNatClampNeg) :: rest))) : W p l e R s m args below meth c H locs cells slots Q (F0 m pc ls (.int i :: .ref (md 4) :: rest)) :=
  va_iald Z.1.1 Z.1.2.1 Z.2.1 hP 4 3 rfl rfl hi hd kk
theorem sM_registers (Z : cxM p m c cc nL s args R_M D kd) (hP : va_P D classes (wM md kd xt xl xc xm xi xn xa xy xb xw xo xs rs af bs f1 f2 su sc con mem reg out wd pl ch dn wk) H) (hO : okM A md) (hS : va_S A H0 H locs) {i x : Int32} (hi : vp_in i 32) (hd : decode cc pc = .ok (.iastore, 1)) (kk : ∀ (H1 : Heap) (locs1 : List Loc), va_P D classes (wM md kd xt xl xc xm xi xn xa xy xb xw xo xs rs af bs f1 f2 su sc con mem (upd reg i.toNatClampNeg x) out wd pl ch dn wk) H1 → va_S A H0 H1 locs1 → W p l e R s m args below meth c H1 locs1 cells slots Q (F0 m (pc + 1) ls rest)) : W p l e R s m args below meth c H locs cells slots Q (F0 m pc ls (.int x :: .int i :: .ref (md 4) :: rest)) :=
  va_iast Z.1.1 Z.1.2.1 Z.2.1 hP (hO _ _ _ _ _ _ _ _ _ _ _ _ _ _ _ _ _ _ _ _ _ _ _ _ _ _ _ _ _) hS 4 3 rfl rfl hi hd (fun H1 l1 h1 _ h3 => kk H1 l1 (h1) h3)
theorem lM_places (Z : cxM p m c cc nL s args R_M D kd) (hP : va_P D classes (wM md kd xt xl xc xm xi xn xa xy xb xw xo xs rs af bs f1 f2 su sc con mem reg out wd pl ch dn wk) H) {i : Int32} (hi : vp_in i 16) (hd : decode cc pc = .ok (.iaload, 1)) (kk : W p l e R s m args below meth c H locs cells slots Q (F0 m (pc + 1) ls (.int (pl i.toNatClampNeg) :: rest))) : W p l e R s m args below meth c H locs cells slots Q (F0 m pc ls (.int i :: .ref (md 5) :: rest)) :=
  va_iald Z.1.1 Z.1.2.1 Z.2.1 hP 5 4 rfl rfl hi hd kk
theorem sM_places (Z : cxM p m c cc nL s args R_M D kd) (hP : va_P D classes (wM md kd xt xl xc xm xi xn xa xy xb xw xo xs rs af bs f1 f2 su sc con mem reg out wd pl ch dn wk) H) (hO : okM A md) (hS : va_S A H0 H locs) {i x : Int32} (hi : vp_in i 16) (hd : decode cc pc = .ok (.iastore, 1)) (kk : ∀ (H1 : Heap) (locs1 : List Loc), va_P D classes (wM md kd xt xl xc xm xi xn xa xy xb xw xo xs rs af bs f1 f2 su sc con mem reg out wd (upd pl i.toNatClampNeg x) ch dn wk) H1 → va_S A H0 H1 locs1 → W p l e R s m args below meth c H1 locs1 cells slots Q (F0 m (pc + 1) ls rest)) : W p l e R s m args below meth c H locs cells slots Q (F0 m pc ls (.int x :: .int i :: .ref (md 5) :: rest)) :=
  va_iast Z.1.1 Z.1.2.1 Z.2.1 hP (hO _ _ _ _ _ _ _ _ _ _ _ _ _ _ _ _ _ _ _ _ _ _ _ _ _ _ _ _ _) hS 5 4 rfl rfl hi hd (fun H1 l1 h1 _ h3 => kk H1 l1 (h1) h3)
theorem lM_changes (Z : cxM p m c cc nL s args R_M D kd) (hP : va_P D classes (wM md kd xt xl xc xm xi xn xa xy xb xw xo xs rs af bs f1 f2 su sc con mem reg out wd pl ch dn wk) H) {i : Int32} (hi : vp_in i 16) (hd : decode cc pc = .ok (.iaload, 1)) (kk : W p l e R s m args below meth c H locs cells slots Q (F0 m (pc + 1) ls (.int (ch i.toNatClampNeg) :: rest))) : W p l e R s m args below meth c H locs cells slots Q (F0 m pc ls (.int i :: .ref (md 6) :: rest)) :=
  va_iald Z.1.1 Z.1.2.1 Z.2.1 hP 6 5 rfl rfl hi hd kk
theorem sM_changes (Z : cxM p m c cc nL s args R_M D kd) (hP : va_P D classes (wM md kd xt xl xc xm xi xn xa xy xb xw xo xs rs af bs f1 f2 su sc con mem reg out wd pl ch dn wk) H) (hO : okM A md) (hS : va_S A H0 H locs) {i x : Int32} (hi : vp_in i 16) (hd : decode cc pc = .ok (.iastore, 1)) (kk : ∀ (H1 : Heap) (locs1 : List Loc), va_P D classes (wM md kd xt xl xc xm xi xn xa xy xb xw xo xs rs af bs f1 f2 su sc con mem reg out wd pl (upd ch i.toNatClampNeg x) dn wk) H1 → va_S A H0 H1 locs1 → W p l e R s m args below meth c H1 locs1 cells slots Q (F0 m (pc + 1) ls rest)) : W p l e R s m args below meth c H locs cells slots Q (F0 m pc ls (.int x :: .int i :: .ref (md 6) :: rest)) :=
  va_iast Z.1.1 Z.1.2.1 Z.2.1 hP (hO _ _ _ _ _ _ _ _ _ _ _ _ _ _ _ _ _ _ _ _ _ _ _ _ _ _ _ _ _) hS 6 5 rfl rfl hi hd (fun H1 l1 h1 _ h3 => kk H1 l1 (h1) h3)
theorem lM_lines (Z : cxM p m c cc nL s args R_M D kd) (hP : va_P D classes (wM md kd xt xl xc xm xi xn xa xy xb xw xo xs rs af bs f1 f2 su sc con mem reg out wd pl ch dn wk) H) {i : Int32} (hi : vp_in i 16) (hd : decode cc pc = .ok (.baload, 1)) (kk : W p l e R s m args below meth c H locs cells slots Q (F0 m (pc + 1) ls (.int (wk i.toNatClampNeg) :: rest))) : W p l e R s m args below meth c H locs cells slots Q (F0 m pc ls (.int i :: .ref (md 7) :: rest)) :=
  va_zald Z.1.1 Z.1.2.1 Z.2.1 hP 7 6 rfl rfl hi hd kk
theorem sM_lines (Z : cxM p m c cc nL s args R_M D kd) (hP : va_P D classes (wM md kd xt xl xc xm xi xn xa xy xb xw xo xs rs af bs f1 f2 su sc con mem reg out wd pl ch dn wk) H) (hO : okM A md) (hS : va_S A H0 H locs) {i x : Int32} (hv : x = 0 ∨ x = 1) (hi : vp_in i 16) (hd : decode cc pc = .ok (.bastore, 1)) (kk : ∀ (H1 : Heap) (locs1 : List Loc), va_P D classes (wM md kd xt xl xc xm xi xn xa xy xb xw xo xs rs af bs f1 f2 su sc con mem reg out wd pl ch dn (upd wk i.toNatClampNeg x)) H1 → va_S A H0 H1 locs1 → W p l e R s m args below meth c H1 locs1 cells slots Q (F0 m (pc + 1) ls rest)) : W p l e R s m args below meth c H locs cells slots Q (F0 m pc ls (.int x :: .int i :: .ref (md 7) :: rest)) :=
  va_zast Z.1.1 Z.1.2.1 Z.2.1 hP (hO _ _ _ _ _ _ _ _ _ _ _ _ _ _ _ _ _ _ _ _ _ _ _ _ _ _ _ _ _) hS 7 6 rfl rfl hi hd (fun H1 l1 h1 _ h3 => kk H1 l1 (by rw [nar_z hv] at h1; exact h1) h3)
theorem lM_done (Z : cxM p m c cc nL s args R_M D kd) (hP : va_P D classes (wM md kd xt xl xc xm xi xn xa xy xb xw xo xs rs af bs f1 f2 su sc con mem reg out wd pl ch dn wk) H) {i : Int32} (hi : vp_in i 16) (hd : decode cc pc = .ok (.iaload, 1)) (kk : W p l e R s m args below meth c H locs cells slots Q (F0 m (pc + 1) ls (.int (dn i.toNatClampNeg) :: rest))) : W p l e R s m args below meth c H locs cells slots Q (F0 m pc ls (.int i :: .ref (md 8) :: rest)) :=
  va_iald Z.1.1 Z.1.2.1 Z.2.1 hP 8 7 rfl rfl hi hd kk
theorem sM_done (Z : cxM p m c cc nL s args R_M D kd) (hP : va_P D classes (wM md kd xt xl xc xm xi xn xa xy xb xw xo xs rs af bs f1 f2 su sc con mem reg out wd pl ch dn wk) H) (hO : okM A md) (hS : va_S A H0 H locs) {i x : Int32} (hi : vp_in i 16) (hd : decode cc pc = .ok (.iastore, 1)) (kk : ∀ (H1 : Heap) (locs1 : List Loc), va_P D classes (wM md kd xt xl xc xm xi xn xa xy xb xw xo xs rs af bs f1 f2 su sc con mem reg out wd pl ch (upd dn i.toNatClampNeg x) wk) H1 → va_S A H0 H1 locs1 → W p l e R s m args below meth c H1 locs1 cells slots Q (F0 m (pc + 1) ls rest)) : W p l e R s m args below meth c H locs cells slots Q (F0 m pc ls (.int x :: .int i :: .ref (md 8) :: rest)) :=
  va_iast Z.1.1 Z.1.2.1 Z.2.1 hP (hO _ _ _ _ _ _ _ _ _ _ _ _ _ _ _ _ _ _ _ _ _ _ _ _ _ _ _ _ _) hS 8 7 rfl rfl hi hd (fun H1 l1 h1 _ h3 => kk H1 l1 (h1) h3)
theorem lM_out (Z : cxM p m c cc nL s args R_M D kd) (hP : va_P D classes (wM md kd xt xl xc xm xi xn xa xy xb xw xo xs rs af bs f1 f2 su sc con mem reg out wd pl ch dn wk) H) {i : Int32} (hi : vp_in i 500) (hd : decode cc pc = .ok (.iaload, 1)) (kk : W p l e R s m args below meth c H locs cells slots Q (F0 m (pc + 1) ls (.int (out i.toNatClampNeg) :: rest))) : W p l e R s m args below meth c H locs cells slots Q (F0 m pc ls (.int i :: .ref (md 9) :: rest)) :=
  va_iald Z.1.1 Z.1.2.1 Z.2.1 hP 9 8 rfl rfl hi hd kk
theorem sM_out (Z : cxM p m c cc nL s args R_M D kd) (hP : va_P D classes (wM md kd xt xl xc xm xi xn xa xy xb xw xo xs rs af bs f1 f2 su sc con mem reg out wd pl ch dn wk) H) (hO : okM A md) (hS : va_S A H0 H locs) {i x : Int32} (hi : vp_in i 500) (hd : decode cc pc = .ok (.iastore, 1)) (kk : ∀ (H1 : Heap) (locs1 : List Loc), va_P D classes (wM md kd xt xl xc xm xi xn xa xy xb xw xo xs rs af bs f1 f2 su sc con mem reg (upd out i.toNatClampNeg x) wd pl ch dn wk) H1 → va_S A H0 H1 locs1 → W p l e R s m args below meth c H1 locs1 cells slots Q (F0 m (pc + 1) ls rest)) : W p l e R s m args below meth c H locs cells slots Q (F0 m pc ls (.int x :: .int i :: .ref (md 9) :: rest)) :=
  va_iast Z.1.1 Z.1.2.1 Z.2.1 hP (hO _ _ _ _ _ _ _ _ _ _ _ _ _ _ _ _ _ _ _ _ _ _ _ _ _ _ _ _ _) hS 9 8 rfl rfl hi hd (fun H1 l1 h1 _ h3 => kk H1 l1 (h1) h3)
theorem lC_store (Z : cxC p m c cc nL s args R_C D kc) (hP : va_P D classes (wC ad kc am sm xt xl xc xm xi xn xa xy xb xw xo xs bu sh al ac con mem reg out wd pl ch dn wk) H) {i : Int32} (hi : vp_in i 1024) (hd : decode cc pc = .ok (.aaload, 1)) (kk : W p l e R s m args below meth c H locs cells slots Q (F0 m (pc + 1) ls (.ref (am i.toNatClampNeg) :: rest))) : W p l e R s m args below meth c H locs cells slots Q (F0 m pc ls (.int i :: .ref (ad 1) :: rest)) :=
  va_aldq Z.1.1 Z.1.2.1 Z.2.1 hP 1 0 rfl rfl hi hd kk
theorem lC_strands (Z : cxC p m c cc nL s args R_C D kc) (hP : va_P D classes (wC ad kc am sm xt xl xc xm xi xn xa xy xb xw xo xs bu sh al ac con mem reg out wd pl ch dn wk) H) {i : Int32} (hi : vp_in i 16) (hd : decode cc pc = .ok (.aaload, 1)) (kk : W p l e R s m args below meth c H locs cells slots Q (F0 m (pc + 1) ls (.ref (sm i.toNatClampNeg) :: rest))) : W p l e R s m args below meth c H locs cells slots Q (F0 m pc ls (.int i :: .ref (ad 5) :: rest)) :=
  va_aldq Z.1.1 Z.1.2.1 Z.2.1 hP 5 4 rfl rfl hi hd kk
theorem gK_rsel (Z : cxC p m c cc nL s args R_C D kc) (hP : va_P D classes (wC ad kc am sm xt xl xc xm xi xn xa xy xb xw xo xs bu sh al ac con mem reg out wd pl ch dn wk) H) {i : Nat} (hi : i < 1024) (hd : decode cc pc = .ok (.getfield 96, 3)) (kk : W p l e R s m args below meth c H locs cells slots Q (F0 m (pc + 3) ls (.int (mRs (wd i)) :: rest))) : W p l e R s m args below meth c H locs cells slots Q (F0 m pc ls (.ref (am i) :: rest)) :=
  va_getN (D := D) (ci := 1) (v := .int (mRs (wd i))) (C := R_K) (T := F_K) (N := 8) (host := R_C) Z.1.1 Z.1.2.1 Z.1.2.2.2.2 i_K Z.1.2.2.2.1 Z.2.1 hP (7 + i) (wC_k hi) rfl 0 (by decide) (va_Nw.use rfl (Z.2.2.1 _ q_24)) (fun _ h9 => h9) rfl hd kk
theorem gK_aluf (Z : cxC p m c cc nL s args R_C D kc) (hP : va_P D classes (wC ad kc am sm xt xl xc xm xi xn xa xy xb xw xo xs bu sh al ac con mem reg out wd pl ch dn wk) H) {i : Nat} (hi : i < 1024) (hd : decode cc pc = .ok (.getfield 141, 3)) (kk : W p l e R s m args below meth c H locs cells slots Q (F0 m (pc + 3) ls (.int (mAf (wd i)) :: rest))) : W p l e R s m args below meth c H locs cells slots Q (F0 m pc ls (.ref (am i) :: rest)) :=
  va_getN (D := D) (ci := 1) (v := .int (mAf (wd i))) (C := R_K) (T := F_K) (N := 8) (host := R_C) Z.1.1 Z.1.2.1 Z.1.2.2.2.2 i_K Z.1.2.2.2.1 Z.2.1 hP (7 + i) (wC_k hi) rfl 1 (by decide) (va_Nw.use rfl (Z.2.2.1 _ q_26)) (fun _ h9 => h9) rfl hd kk
theorem gK_bs (Z : cxC p m c cc nL s args R_C D kc) (hP : va_P D classes (wC ad kc am sm xt xl xc xm xi xn xa xy xb xw xo xs bu sh al ac con mem reg out wd pl ch dn wk) H) {i : Nat} (hi : i < 1024) (hd : decode cc pc = .ok (.getfield 80, 3)) (kk : W p l e R s m args below meth c H locs cells slots Q (F0 m (pc + 3) ls (.int (mBs (wd i)) :: rest))) : W p l e R s m args below meth c H locs cells slots Q (F0 m pc ls (.ref (am i) :: rest)) :=
  va_getN (D := D) (ci := 1) (v := .int (mBs (wd i))) (C := R_K) (T := F_K) (N := 8) (host := R_C) Z.1.1 Z.1.2.1 Z.1.2.2.2.2 i_K Z.1.2.2.2.1 Z.2.1 hP (7 + i) (wC_k hi) rfl 2 (by decide) (va_Nw.use rfl (Z.2.2.1 _ q_28)) (fun _ h9 => h9) rfl hd kk
theorem gK_f1 (Z : cxC p m c cc nL s args R_C D kc) (hP : va_P D classes (wC ad kc am sm xt xl xc xm xi xn xa xy xb xw xo xs bu sh al ac con mem reg out wd pl ch dn wk) H) {i : Nat} (hi : i < 1024) (hd : decode cc pc = .ok (.getfield 77, 3)) (kk : W p l e R s m args below meth c H locs cells slots Q (F0 m (pc + 3) ls (.int (mF1 (wd i)) :: rest))) : W p l e R s m args below meth c H locs cells slots Q (F0 m pc ls (.ref (am i) :: rest)) :=
  va_getN (D := D) (ci := 1) (v := .int (mF1 (wd i))) (C := R_K) (T := F_K) (N := 8) (host := R_C) Z.1.1 Z.1.2.1 Z.1.2.2.2.2 i_K Z.1.2.2.2.1 Z.2.1 hP (7 + i) (wC_k hi) rfl 3 (by decide) (va_Nw.use rfl (Z.2.2.1 _ q_30)) (fun _ h9 => h9) rfl hd kk
theorem gK_f2 (Z : cxC p m c cc nL s args R_C D kc) (hP : va_P D classes (wC ad kc am sm xt xl xc xm xi xn xa xy xb xw xo xs bu sh al ac con mem reg out wd pl ch dn wk) H) {i : Nat} (hi : i < 1024) (hd : decode cc pc = .ok (.getfield 87, 3)) (kk : W p l e R s m args below meth c H locs cells slots Q (F0 m (pc + 3) ls (.int (mF2 (wd i)) :: rest))) : W p l e R s m args below meth c H locs cells slots Q (F0 m pc ls (.ref (am i) :: rest)) :=
  va_getN (D := D) (ci := 1) (v := .int (mF2 (wd i))) (C := R_K) (T := F_K) (N := 8) (host := R_C) Z.1.1 Z.1.2.1 Z.1.2.2.2.2 i_K Z.1.2.2.2.1 Z.2.1 hP (7 + i) (wC_k hi) rfl 4 (by decide) (va_Nw.use rfl (Z.2.2.1 _ q_32)) (fun _ h9 => h9) rfl hd kk
theorem gK_loadsT (Z : cxC p m c cc nL s args R_C D kc) (hP : va_P D classes (wC ad kc am sm xt xl xc xm xi xn xa xy xb xw xo xs bu sh al ac con mem reg out wd pl ch dn wk) H) {i : Nat} (hi : i < 1024) (hd : decode cc pc = .ok (.getfield 153, 3)) (kk : W p l e R s m args below meth c H locs cells slots Q (F0 m (pc + 3) ls (.int (mLT (wd i)) :: rest))) : W p l e R s m args below meth c H locs cells slots Q (F0 m pc ls (.ref (am i) :: rest)) :=
  va_getN (D := D) (ci := 1) (v := .int (mLT (wd i))) (C := R_K) (T := F_K) (N := 8) (host := R_C) Z.1.1 Z.1.2.1 Z.1.2.2.2.2 i_K Z.1.2.2.2.1 Z.2.1 hP (7 + i) (wC_k hi) rfl 5 (by decide) (va_Nw.use rfl (Z.2.2.1 _ q_34)) (fun _ h9 => h9) rfl hd kk
theorem gK_loadsL (Z : cxC p m c cc nL s args R_C D kc) (hP : va_P D classes (wC ad kc am sm xt xl xc xm xi xn xa xy xb xw xo xs bu sh al ac con mem reg out wd pl ch dn wk) H) {i : Nat} (hi : i < 1024) (hd : decode cc pc = .ok (.getfield 159, 3)) (kk : W p l e R s m args below meth c H locs cells slots Q (F0 m (pc + 3) ls (.int (mLL (wd i)) :: rest))) : W p l e R s m args below meth c H locs cells slots Q (F0 m pc ls (.ref (am i) :: rest)) :=
  va_getN (D := D) (ci := 1) (v := .int (mLL (wd i))) (C := R_K) (T := F_K) (N := 8) (host := R_C) Z.1.1 Z.1.2.1 Z.1.2.2.2.2 i_K Z.1.2.2.2.1 Z.2.1 hP (7 + i) (wC_k hi) rfl 6 (by decide) (va_Nw.use rfl (Z.2.2.1 _ q_36)) (fun _ h9 => h9) rfl hd kk
theorem gK_next (Z : cxC p m c cc nL s args R_C D kc) (hP : va_P D classes (wC ad kc am sm xt xl xc xm xi xn xa xy xb xw xo xs bu sh al ac con mem reg out wd pl ch dn wk) H) {i : Nat} (hi : i < 1024) (hd : decode cc pc = .ok (.getfield 162, 3)) (kk : W p l e R s m args below meth c H locs cells slots Q (F0 m (pc + 3) ls (.int (mNx (wd i)) :: rest))) : W p l e R s m args below meth c H locs cells slots Q (F0 m pc ls (.ref (am i) :: rest)) :=
  va_getN (D := D) (ci := 1) (v := .int (mNx (wd i))) (C := R_K) (T := F_K) (N := 8) (host := R_C) Z.1.1 Z.1.2.1 Z.1.2.2.2.2 i_K Z.1.2.2.2.1 Z.2.1 hP (7 + i) (wC_k hi) rfl 7 (by decide) (va_Nw.use rfl (Z.2.2.1 _ q_38)) (fun _ h9 => h9) rfl hd kk
theorem gS_place (Z : cxC p m c cc nL s args R_C D kc) (hP : va_P D classes (wC ad kc am sm xt xl xc xm xi xn xa xy xb xw xo xs bu sh al ac con mem reg out wd pl ch dn wk) H) {i : Nat} (hi : i < 16) (hd : decode cc pc = .ok (.getfield 68, 3)) (kk : W p l e R s m args below meth c H locs cells slots Q (F0 m (pc + 3) ls (.int (pl i) :: rest))) : W p l e R s m args below meth c H locs cells slots Q (F0 m pc ls (.ref (sm i) :: rest)) :=
  va_getN (D := D) (ci := 2) (v := .int (pl i)) (C := R_S) (T := F_S) (N := 4) (host := R_C) Z.1.1 Z.1.2.1 Z.1.2.2.2.2 i_S Z.1.2.2.2.1 Z.2.1 hP (1031 + i) (wC_s hi) rfl 0 (by decide) (va_Nw.use rfl (Z.2.2.1 _ q_62)) (fun _ h9 => h9) rfl hd kk
theorem pS_place (Z : cxC p m c cc nL s args R_C D kc) (hP : va_P D classes (wC ad kc am sm xt xl xc xm xi xn xa xy xb xw xo xs bu sh al ac con mem reg out wd pl ch dn wk) H) (hO : okC A ad am sm) (hS : va_S A H0 H locs) {i : Nat} {v : Int32} (hi : i < 16) (hd : decode cc pc = .ok (.putfield 68, 3)) (kk : ∀ (H1 : Heap) (locs1 : List Loc), va_P D classes (wC ad kc am sm xt xl xc xm xi xn xa xy xb xw xo xs bu sh al ac con mem reg out wd (upd pl i v) ch dn wk) H1 → va_S A H0 H1 locs1 → W p l e R s m args below meth c H1 locs1 cells slots Q (F0 m (pc + 3) ls rest)) : W p l e R s m args below meth c H locs cells slots Q (F0 m pc ls (.int v :: .ref (sm i) :: rest)) := by
  refine va_putN (D := D) (ci := 2) (v := .int v) (ty := .int) (C := R_S) (T := F_S) (N := 4) (host := R_C) Z.1.1 Z.1.2.1 Z.1.2.2.2.2 i_S t_S t_S_ok n_S Z.1.2.2.2.1 Z.2.1 hP (hO _ _ _ _ _ _ _ _ _ _ _ _ _ _ _ _ _ _ _ _ _ _ _ _ _ _) hS (1031 + i) (wC_s hi) rfl 0 (by decide) (va_Nw.use rfl (Z.2.2.1 _ q_62)) (fun _ h9 => h9) rfl (by decide +kernel) rfl rfl (Nat.le_of_ble_eq_true rfl) hd (fun H1 l1 h1 _ h3 => kk H1 l1 ?_ h3)
  have h2 : va_P D classes ((wC ad kc am sm xt xl xc xm xi xn xa xy xb xw xo xs bu sh al ac con mem reg out wd pl ch dn wk).set (1031 + i) (sm i, .inr (2, [.int v, .int (ch i), .int (dn i), .int (wk i)]))) H1 := h1
  rw [wC_sset hi] at h2
  simpa only [upd_s] using h2
theorem gS_change (Z : cxC p m c cc nL s args R_C D kc) (hP : va_P D classes (wC ad kc am sm xt xl xc xm xi xn xa xy xb xw xo xs bu sh al ac con mem reg out wd pl ch dn wk) H) {i : Nat} (hi : i < 16) (hd : decode cc pc = .ok (.getfield 71, 3)) (kk : W p l e R s m args below meth c H locs cells slots Q (F0 m (pc + 3) ls (.int (ch i) :: rest))) : W p l e R s m args below meth c H locs cells slots Q (F0 m pc ls (.ref (sm i) :: rest)) :=
  va_getN (D := D) (ci := 2) (v := .int (ch i)) (C := R_S) (T := F_S) (N := 4) (host := R_C) Z.1.1 Z.1.2.1 Z.1.2.2.2.2 i_S Z.1.2.2.2.1 Z.2.1 hP (1031 + i) (wC_s hi) rfl 1 (by decide) (va_Nw.use rfl (Z.2.2.1 _ q_63)) (fun _ h9 => h9) rfl hd kk
theorem pS_change (Z : cxC p m c cc nL s args R_C D kc) (hP : va_P D classes (wC ad kc am sm xt xl xc xm xi xn xa xy xb xw xo xs bu sh al ac con mem reg out wd pl ch dn wk) H) (hO : okC A ad am sm) (hS : va_S A H0 H locs) {i : Nat} {v : Int32} (hi : i < 16) (hd : decode cc pc = .ok (.putfield 71, 3)) (kk : ∀ (H1 : Heap) (locs1 : List Loc), va_P D classes (wC ad kc am sm xt xl xc xm xi xn xa xy xb xw xo xs bu sh al ac con mem reg out wd pl (upd ch i v) dn wk) H1 → va_S A H0 H1 locs1 → W p l e R s m args below meth c H1 locs1 cells slots Q (F0 m (pc + 3) ls rest)) : W p l e R s m args below meth c H locs cells slots Q (F0 m pc ls (.int v :: .ref (sm i) :: rest)) := by
  refine va_putN (D := D) (ci := 2) (v := .int v) (ty := .int) (C := R_S) (T := F_S) (N := 4) (host := R_C) Z.1.1 Z.1.2.1 Z.1.2.2.2.2 i_S t_S t_S_ok n_S Z.1.2.2.2.1 Z.2.1 hP (hO _ _ _ _ _ _ _ _ _ _ _ _ _ _ _ _ _ _ _ _ _ _ _ _ _ _) hS (1031 + i) (wC_s hi) rfl 1 (by decide) (va_Nw.use rfl (Z.2.2.1 _ q_63)) (fun _ h9 => h9) rfl (by decide +kernel) rfl rfl (Nat.le_of_ble_eq_true rfl) hd (fun H1 l1 h1 _ h3 => kk H1 l1 ?_ h3)
  have h2 : va_P D classes ((wC ad kc am sm xt xl xc xm xi xn xa xy xb xw xo xs bu sh al ac con mem reg out wd pl ch dn wk).set (1031 + i) (sm i, .inr (2, [.int (pl i), .int v, .int (dn i), .int (wk i)]))) H1 := h1
  rw [wC_sset hi] at h2
  simpa only [upd_s] using h2
theorem gS_done (Z : cxC p m c cc nL s args R_C D kc) (hP : va_P D classes (wC ad kc am sm xt xl xc xm xi xn xa xy xb xw xo xs bu sh al ac con mem reg out wd pl ch dn wk) H) {i : Nat} (hi : i < 16) (hd : decode cc pc = .ok (.getfield 165, 3)) (kk : W p l e R s m args below meth c H locs cells slots Q (F0 m (pc + 3) ls (.int (dn i) :: rest))) : W p l e R s m args below meth c H locs cells slots Q (F0 m pc ls (.ref (sm i) :: rest)) :=
  va_getN (D := D) (ci := 2) (v := .int (dn i)) (C := R_S) (T := F_S) (N := 4) (host := R_C) Z.1.1 Z.1.2.1 Z.1.2.2.2.2 i_S Z.1.2.2.2.1 Z.2.1 hP (1031 + i) (wC_s hi) rfl 2 (by decide) (va_Nw.use rfl (Z.2.2.1 _ q_64)) (fun _ h9 => h9) rfl hd kk
theorem pS_done (Z : cxC p m c cc nL s args R_C D kc) (hP : va_P D classes (wC ad kc am sm xt xl xc xm xi xn xa xy xb xw xo xs bu sh al ac con mem reg out wd pl ch dn wk) H) (hO : okC A ad am sm) (hS : va_S A H0 H locs) {i : Nat} {v : Int32} (hi : i < 16) (hd : decode cc pc = .ok (.putfield 165, 3)) (kk : ∀ (H1 : Heap) (locs1 : List Loc), va_P D classes (wC ad kc am sm xt xl xc xm xi xn xa xy xb xw xo xs bu sh al ac con mem reg out wd pl ch (upd dn i v) wk) H1 → va_S A H0 H1 locs1 → W p l e R s m args below meth c H1 locs1 cells slots Q (F0 m (pc + 3) ls rest)) : W p l e R s m args below meth c H locs cells slots Q (F0 m pc ls (.int v :: .ref (sm i) :: rest)) := by
  refine va_putN (D := D) (ci := 2) (v := .int v) (ty := .int) (C := R_S) (T := F_S) (N := 4) (host := R_C) Z.1.1 Z.1.2.1 Z.1.2.2.2.2 i_S t_S t_S_ok n_S Z.1.2.2.2.1 Z.2.1 hP (hO _ _ _ _ _ _ _ _ _ _ _ _ _ _ _ _ _ _ _ _ _ _ _ _ _ _) hS (1031 + i) (wC_s hi) rfl 2 (by decide) (va_Nw.use rfl (Z.2.2.1 _ q_64)) (fun _ h9 => h9) rfl (by decide +kernel) rfl rfl (Nat.le_of_ble_eq_true rfl) hd (fun H1 l1 h1 _ h3 => kk H1 l1 ?_ h3)
  have h2 : va_P D classes ((wC ad kc am sm xt xl xc xm xi xn xa xy xb xw xo xs bu sh al ac con mem reg out wd pl ch dn wk).set (1031 + i) (sm i, .inr (2, [.int (pl i), .int (ch i), .int v, .int (wk i)]))) H1 := h1
  rw [wC_sset hi] at h2
  simpa only [upd_s] using h2
theorem gS_woken (Z : cxC p m c cc nL s args R_C D kc) (hP : va_P D classes (wC ad kc am sm xt xl xc xm xi xn xa xy xb xw xo xs bu sh al ac con mem reg out wd pl ch dn wk) H) {i : Nat} (hi : i < 16) (hd : decode cc pc = .ok (.getfield 40, 3)) (kk : W p l e R s m args below meth c H locs cells slots Q (F0 m (pc + 3) ls (.int (wk i) :: rest))) : W p l e R s m args below meth c H locs cells slots Q (F0 m pc ls (.ref (sm i) :: rest)) :=
  va_getN (D := D) (ci := 2) (v := .int (wk i)) (C := R_S) (T := F_S) (N := 4) (host := R_C) Z.1.1 Z.1.2.1 Z.1.2.2.2.2 i_S Z.1.2.2.2.1 Z.2.1 hP (1031 + i) (wC_s hi) rfl 3 (by decide) (va_Nw.use rfl (Z.2.2.1 _ q_65)) (fun _ h9 => h9) rfl hd kk
theorem pS_woken (Z : cxC p m c cc nL s args R_C D kc) (hP : va_P D classes (wC ad kc am sm xt xl xc xm xi xn xa xy xb xw xo xs bu sh al ac con mem reg out wd pl ch dn wk) H) (hO : okC A ad am sm) (hS : va_S A H0 H locs) {i : Nat} {v : Int32} (hv : v = 0 ∨ v = 1) (hi : i < 16) (hd : decode cc pc = .ok (.putfield 40, 3)) (kk : ∀ (H1 : Heap) (locs1 : List Loc), va_P D classes (wC ad kc am sm xt xl xc xm xi xn xa xy xb xw xo xs bu sh al ac con mem reg out wd pl ch dn (upd wk i v)) H1 → va_S A H0 H1 locs1 → W p l e R s m args below meth c H1 locs1 cells slots Q (F0 m (pc + 3) ls rest)) : W p l e R s m args below meth c H locs cells slots Q (F0 m pc ls (.int v :: .ref (sm i) :: rest)) := by
  refine va_putN (D := D) (ci := 2) (v := .int v) (ty := .boolean) (C := R_S) (T := F_S) (N := 4) (host := R_C) Z.1.1 Z.1.2.1 Z.1.2.2.2.2 i_S t_S t_S_ok n_S Z.1.2.2.2.1 Z.2.1 hP (hO _ _ _ _ _ _ _ _ _ _ _ _ _ _ _ _ _ _ _ _ _ _ _ _ _ _) hS (1031 + i) (wC_s hi) rfl 3 (by decide) (va_Nw.use rfl (Z.2.2.1 _ q_65)) (fun _ h9 => h9) rfl (by decide +kernel) (fit_z hv).1 (fit_z hv).2 (Nat.le_of_ble_eq_true rfl) hd (fun H1 l1 h1 _ h3 => kk H1 l1 ?_ h3)
  have h2 : va_P D classes ((wC ad kc am sm xt xl xc xm xi xn xa xy xb xw xo xs bu sh al ac con mem reg out wd pl ch dn wk).set (1031 + i) (sm i, .inr (2, [.int (pl i), .int (ch i), .int (dn i), .int v]))) H1 := h1
  rw [wC_sset hi] at h2
  simpa only [upd_s] using h2
end LAY
end
section
/-- the room of a method that calls d deep -/
def rmD (d : Nat) : Room := { frames := d, cells := 0, slots := 0, locals := 27 * d }
/-- a method's end: void or an int, with the picture behind it; nothing outside A has changed -/
def qV (Pic : Heap → Prop) (A : Nat → Prop) : Array Value → State → Outcome → State → Prop := fun _ st o t => o = .returned none ∧ Pic t.heap ∧ va_F A st t
def qI (r : Int32) (Pic : Heap → Prop) (A : Nat → Prop) : Array Value → State → Outcome → State → Prop := fun _ st o t => o = .returned (some (.int r)) ∧ Pic t.heap ∧ va_F A st t
/-- a method's start: the cells ws, the tables' words for tys -/
def bS (D : va_G) (ws : va_W) (tys : List (ClassId × FieldType)) (U : State) : Prop := va_P D classes ws U.heap ∧ va_K D classes tys U ∧ nW U
theorem bS.blind {D : va_G} {ws : va_W} {tys : List (ClassId × FieldType)} {av : List Value} : FrameBlind (va_Pc av (bS D ws tys)) := fun a U g mk q => ⟨q.1, q.2.1, va_K.moved (u := U) (U := U.calling g mk a) (Vm.Alike.refl U.vm) q.2.2.1, nW.same (s := U) (U := U.calling g mk a) rfl q.2.2.2⟩
theorem bS.at {D : va_G} {ws : va_W} {tys : List (ClassId × FieldType)} {s U : State} {H : Heap} (hP : va_P D classes ws H) (hK : va_K D classes tys s) (hN : nW s) (hU : U.heap = H) (hW : s.WarmedH U.vm) : bS D ws tys U := ⟨by rw [hU]; exact hP, va_K.moved hW.alike hK, hN.warm hW⟩
theorem startM {l : Launch} {y : MethodName} {cc : ByteArray} {maxL : Nat} {ret : Option FieldType} {rm : Room} {av : List Value} {B : State → Prop} {Qc : Array Value → State → Outcome → State → Prop} {mc ms : Nat} {free : Addr → Prop} (hy : plainName y.cls = true) (hsz : (lg_sl av).length ≤ maxL)
    (body : ∀ (p : Program) (e : Env) (s : State) (m : MethodId) (below : List Frame) (meth : Method) (c : Code) (ls : Array Slot), CallFix p m c cc maxL s av.toArray gW y.cls → meth.sig.returnType = ret → meth.locks = false → meth.name = y.name → B s → lv_has ls maxL (lv_args 0 av) →
      W p l e rm s m av.toArray below meth c s.heap [] 0 0 (MQ below Qc av.toArray s mc ms free) (F0 m 0 ls [])) : Met l y (Cond.code y cc maxL ret :: gW) rm (va_Pc av B) Qc mc ms free := by
  refine Met.ofW (cc := cc) (maxL := maxL) (ret := ret) hy rfl ?_
  intro p e s m args below meth c s₁ B0 hml hv
  obtain ⟨rfl, hB⟩ := hv
  have hts := atoms_spec (ws := Cond.code y cc maxL ret :: gW) B0.pre
  rw [lg_entry_eq]
  exact body p e s m below meth c _ ⟨B0.exec, B0.bytes, hml, findClass_of_methodNamed B0.named, fun w hw => hts w (List.mem_cons_of_mem _ hw)⟩ B0.returns B0.notSynchronized (name_of_methodNamed B0.named B0.method).1 hB (lv_entry av hsz)
/-- a call's words, for a virtual and for a static one -/
def lkV (own C : String) (idx : Nat) (y : MethodName) (b : ByteArray) (mL : Nat) (ret : Option FieldType) (n : Nat) : Prop := (Cond.methodLink own idx y ∈ gW ∧ Cond.instanceMethod y ∈ gW ∧ Cond.selects C y y ∈ gW ∧ Cond.initialized C ∈ gW ∧ Cond.code y b mL ret ∈ gW) ∧ y.cls = C ∧ y.cls ≠ "java/lang/invoke/MethodHandle" ∧ y.cls ≠ "java/lang/invoke/VarHandle" ∧ (parseMethodDescriptor y.desc).map (fun d => d.parameters.length) = some n
def lkS (own : String) (idx : Nat) (y : MethodName) (b : ByteArray) (mL : Nat) (ret : Option FieldType) (n : Nat) : Prop := (Cond.methodLink own idx y ∈ gW ∧ Cond.static y ∈ gW ∧ Cond.initialized own ∈ gW ∧ Cond.code y b mL ret ∈ gW) ∧ y.cls = own ∧ y.cls ≠ "java/lang/invoke/MethodHandle" ∧ y.cls ≠ "java/lang/invoke/VarHandle" ∧ (parseMethodDescriptor y.desc).map (fun d => d.parameters.length) = some n
theorem gW_call {y : MethodName} {b : ByteArray} {mL : Nat} {ret : Option FieldType} {ws : List Cond} (hc : Cond.code y b mL ret ∈ gW) (hw : ∀ w ∈ ws, w ∈ gW) : GoodIn gW (ws ++ (Cond.code y b mL ret :: gW)) := by
  refine gW_in fun w h => ?_
  rcases List.mem_append.mp h with h | h
  · exact hw w h
  · rcases List.mem_cons.mp h with rfl | h
    · exact hc
    · exact h
section CALLS
variable {p : Program} {l : Launch} {e : Env} {R : Room} {s : State} {m : MethodId} {args : Array Value} {below : List Frame} {meth : Method} {c : Code} {H H0 : Heap} {locs : List Loc} {cells slots : Nat} {Q : State → Prop} {cc : ByteArray} {nL pc : Nat} {own C : String} {ls : Array Slot} {rest st0 : List Value} {D : va_G} {A : Nat → Prop}
  {idx mL n : Nat} {y : MethodName} {b : ByteArray} {ret : Option FieldType} {rm : Room} {Pc : Array Value → State → Prop} {Qc : Array Value → State → Outcome → State → Prop} {free : Addr → Prop} {a mc ms : Nat} {As : List Value} {ws : va_W} {tys : List (ClassId × FieldType)}
theorem lkV.cw (lk : lkV own C idx y b mL ret n) (hts : ∀ w ∈ gW, w.before args s = true) (hrc : rm.cells = mc) (hrs : rm.slots = ms) (hR : rm.frames + 1 ≤ R.frames ∧ 8 + (mL + 11) + rm.locals ≤ R.locals) : CallW R s args own C idx y b mL ret (Cond.code y b mL ret :: gW) rm mc ms n := by
  obtain ⟨⟨h1, h2, h3, h4, h5⟩, h6⟩ := lk
  refine cwV n hts ?_ rfl hrc hrs h6 hR
  refine gW_call h5 ?_
  intro w hw
  simp only [List.mem_cons, List.not_mem_nil, or_false] at hw
  rcases hw with rfl | rfl | rfl | rfl
  · exact h1
  · exact h2
  · exact h3
  · exact h4
theorem lkS.cw (lk : lkS own idx y b mL ret n) (hts : ∀ w ∈ gW, w.before args s = true) (hrc : rm.cells = mc) (hrs : rm.slots = ms) (hR : rm.frames + 1 ≤ R.frames ∧ 8 + (mL + 11) + rm.locals ≤ R.locals) : CallB R s args own idx y b mL ret (Cond.code y b mL ret :: gW) rm mc ms n ∧ (Cond.static y).before args s = true := by
  obtain ⟨⟨h1, h2, h3, h4⟩, h6⟩ := lk
  refine cwS n hts ?_ rfl hrc hrs h6 hR
  refine gW_call h4 ?_
  intro w hw
  simp only [List.mem_cons, List.not_mem_nil, or_false] at hw
  rcases hw with rfl | rfl | rfl
  · exact h1
  · exact h2
  · exact h3
/-- a call that reads: the heap stays -/
theorem callR {r : Int32} (lk : lkV own C idx y b mL ret n) (X : CallFix p m c cc nL s args gW own) (hM : Met l y (Cond.code y b mL ret :: gW) rm (va_Pc (.ref a :: As) (bS D ws tys)) (QcRead r) 0 0 (fun _ => False)) (hP : va_P D classes ws H) (hK : va_K D classes tys s) (hN : nW s)
    (hrec : ∃ cell : Cell, H[a]? = some cell ∧ cell.vm.isStatics = false ∧ s.vm.findClass C = some cell.cls) (hrc : rm.cells = 0) (hrs : rm.slots = 0) (hR : rm.frames + 1 ≤ R.frames ∧ 8 + (mL + 11) + rm.locals ≤ R.locals) (hf : cells ≤ R.cells ∧ slots ≤ R.slots) (hsz : ls.size = nL) (hn : As.length = n) (hst : st0 = As.reverse ++ .ref a :: rest) (hW : (rest.map fun v => v.category).sum ≤ 8) (hd : decode cc pc = .ok (.invokevirtual idx, 3))
    (kk : W p l e R s m args below meth c H locs cells slots Q (F0 m (pc + 3) ls (.int r :: rest))) : W p l e R s m args below meth c H locs cells slots Q (F0 m pc ls st0) :=
  W.callR (W.runV X hM (lk.cw X.2.2.2.2 hrc hrs hR) ⟨bS.blind, hrec, fun U hU hW => ⟨rfl, bS.at hP hK hN hU hW⟩⟩ rfl hn hsz hst (lv_room hW) hd hf) kk
/-- a static call that needs no cells -/
theorem callSt {r : Int32} (lk : lkS own idx y b mL ret n) (X : CallFix p m c cc nL s args gW own) (hM : Met l y (Cond.code y b mL ret :: gW) rm (va_Pc As (fun _ => True)) (QcRead r) 0 0 (fun _ => False)) (hrc : rm.cells = 0) (hrs : rm.slots = 0) (hR : rm.frames + 1 ≤ R.frames ∧ 8 + (mL + 11) + rm.locals ≤ R.locals) (hf : cells ≤ R.cells ∧ slots ≤ R.slots) (hsz : ls.size = nL) (hn : As.length = n) (hst : st0 = As.reverse ++ rest) (hW : (rest.map fun v => v.category).sum ≤ 8) (hd : decode cc pc = .ok (.invokestatic idx, 3))
    (kk : W p l e R s m args below meth c H locs cells slots Q (F0 m (pc + 3) ls (.int r :: rest))) : W p l e R s m args below meth c H locs cells slots Q (F0 m pc ls st0) :=
  W.callR (W.runS X hM (lk.cw X.2.2.2.2 hrc hrs hR) ⟨fun _ _ _ _ q => q, fun U hU hW => ⟨rfl, trivial⟩⟩ rfl hn hsz hst (lv_room hW) hd hf) kk
/-- a call that writes: void -/
theorem callWv {Pic : Heap → Prop} (lk : lkV own C idx y b mL ret n) (X : CallFix p m c cc nL s args gW own) (hM : Met l y (Cond.code y b mL ret :: gW) rm (va_Pc (.ref a :: As) (bS D ws tys)) (qV Pic A) 0 0 A) (hP : va_P D classes ws H) (hK : va_K D classes tys s) (hN : nW s) (hS : va_S A H0 H locs)
    (hrec : ∃ cell : Cell, H[a]? = some cell ∧ cell.vm.isStatics = false ∧ s.vm.findClass C = some cell.cls) (hrc : rm.cells = 0) (hrs : rm.slots = 0) (hR : rm.frames + 1 ≤ R.frames ∧ 8 + (mL + 11) + rm.locals ≤ R.locals) (hf : cells ≤ R.cells ∧ slots ≤ R.slots) (hsz : ls.size = nL) (hn : As.length = n) (hst : st0 = As.reverse ++ .ref a :: rest) (hW : (rest.map fun v => v.category).sum ≤ 8) (hd : decode cc pc = .ok (.invokevirtual idx, 3))
    (kk : ∀ (H1 : Heap) (locs1 : List Loc), Pic H1 → va_S A H0 H1 locs1 → W p l e R s m args below meth c H1 locs1 cells slots Q (F0 m (pc + 3) ls rest)) : W p l e R s m args below meth c H locs cells slots Q (F0 m pc ls st0) := by
  intro T hT X1
  obtain ⟨v, st₀, t, T', L, h0, X', hL, e1, ⟨hv, hp, hz, hk⟩, st⟩ := W.runV X hM (lk.cw X.2.2.2.2 hrc hrs hR) ⟨bS.blind, hrec, fun U hU hW => ⟨rfl, bS.at hP hK hN hU hW⟩⟩ rfl hn hsz hst (lv_room hW) hd hf T hT X1
  cases hv
  rw [h0] at hz hk
  obtain ⟨t2, a1, b1⟩ := kk T'.heap (locs ++ L) (by rw [e1]; exact hp) ⟨Nat.le_trans hS.1 (by rw [e1]; exact hz), fun q h1 h2 => by rw [e1, hk q (Nat.lt_of_lt_of_le h1 hS.1) h2]; exact hS.2.1 q h1 h2, fun q hq => by
      rcases List.mem_append.mp hq with h | h
      · exact hS.2.2 q h
      · exact hL q h⟩ T' rfl X'
  exact ⟨t2, st t2 a1, b1⟩
/-- a call that writes and answers an int; A1: the callee's own part; what the heap keeps outside it is told -/
theorem callWi {Pic : Heap → Prop} {r : Int32} {A1 : Nat → Prop} (lk : lkV own C idx y b mL ret n) (X : CallFix p m c cc nL s args gW own) (hM : Met l y (Cond.code y b mL ret :: gW) rm (va_Pc (.ref a :: As) (bS D ws tys)) (qI r Pic A1) 0 0 A1) (hP : va_P D classes ws H) (hK : va_K D classes tys s) (hN : nW s) (hS : va_S A H0 H locs) (hA : ∀ q, A1 q → A q)
    (hrec : ∃ cell : Cell, H[a]? = some cell ∧ cell.vm.isStatics = false ∧ s.vm.findClass C = some cell.cls) (hrc : rm.cells = 0) (hrs : rm.slots = 0) (hR : rm.frames + 1 ≤ R.frames ∧ 8 + (mL + 11) + rm.locals ≤ R.locals) (hf : cells ≤ R.cells ∧ slots ≤ R.slots) (hsz : ls.size = nL) (hn : As.length = n) (hst : st0 = As.reverse ++ .ref a :: rest) (hW : (rest.map fun v => v.category).sum ≤ 8) (hd : decode cc pc = .ok (.invokevirtual idx, 3))
    (kk : ∀ (H1 : Heap) (locs1 : List Loc), Pic H1 → (∀ q : Nat, q < H.size → ¬ A1 q → H1[q]? = H[q]?) → va_S A H0 H1 locs1 → W p l e R s m args below meth c H1 locs1 cells slots Q (F0 m (pc + 3) ls (.int r :: rest))) : W p l e R s m args below meth c H locs cells slots Q (F0 m pc ls st0) := by
  intro T hT X1
  obtain ⟨v, st₀, t, T', L, h0, X', hL, e1, ⟨hv, hp, hz, hk⟩, st⟩ := W.runV X hM (lk.cw X.2.2.2.2 hrc hrs hR) ⟨bS.blind, hrec, fun U hU hW => ⟨rfl, bS.at hP hK hN hU hW⟩⟩ rfl hn hsz hst (lv_room hW) hd hf T hT X1
  cases hv
  rw [h0] at hz hk
  obtain ⟨t2, a1, b1⟩ := kk T'.heap (locs ++ L) (by rw [e1]; exact hp) (fun q h1 h2 => by rw [e1]; exact hk q h1 h2) ⟨Nat.le_trans hS.1 (by rw [e1]; exact hz), fun q h1 h2 => by rw [e1, hk q (Nat.lt_of_lt_of_le h1 hS.1) (fun z => h2 (hA q z))]; exact hS.2.1 q h1 h2, fun q hq => by
      rcases List.mem_append.mp hq with h | h
      · exact hS.2.2 q h
      · exact hA _ (hL q h)⟩ T' rfl X'
  exact ⟨t2, st t2 a1, b1⟩
/-- the same, void -/
theorem callWv1 {Pic : Heap → Prop} {A1 : Nat → Prop} (lk : lkV own C idx y b mL ret n) (X : CallFix p m c cc nL s args gW own) (hM : Met l y (Cond.code y b mL ret :: gW) rm (va_Pc (.ref a :: As) (bS D ws tys)) (qV Pic A1) 0 0 A1) (hP : va_P D classes ws H) (hK : va_K D classes tys s) (hN : nW s) (hS : va_S A H0 H locs) (hA : ∀ q, A1 q → A q)
    (hrec : ∃ cell : Cell, H[a]? = some cell ∧ cell.vm.isStatics = false ∧ s.vm.findClass C = some cell.cls) (hrc : rm.cells = 0) (hrs : rm.slots = 0) (hR : rm.frames + 1 ≤ R.frames ∧ 8 + (mL + 11) + rm.locals ≤ R.locals) (hf : cells ≤ R.cells ∧ slots ≤ R.slots) (hsz : ls.size = nL) (hn : As.length = n) (hst : st0 = As.reverse ++ .ref a :: rest) (hW : (rest.map fun v => v.category).sum ≤ 8) (hd : decode cc pc = .ok (.invokevirtual idx, 3))
    (kk : ∀ (H1 : Heap) (locs1 : List Loc), Pic H1 → (∀ q : Nat, q < H.size → ¬ A1 q → H1[q]? = H[q]?) → va_S A H0 H1 locs1 → W p l e R s m args below meth c H1 locs1 cells slots Q (F0 m (pc + 3) ls rest)) : W p l e R s m args below meth c H locs cells slots Q (F0 m pc ls st0) := by
  intro T hT X1
  obtain ⟨v, st₀, t, T', L, h0, X', hL, e1, ⟨hv, hp, hz, hk⟩, st⟩ := W.runV X hM (lk.cw X.2.2.2.2 hrc hrs hR) ⟨bS.blind, hrec, fun U hU hW => ⟨rfl, bS.at hP hK hN hU hW⟩⟩ rfl hn hsz hst (lv_room hW) hd hf T hT X1
  cases hv
  rw [h0] at hz hk
  obtain ⟨t2, a1, b1⟩ := kk T'.heap (locs ++ L) (by rw [e1]; exact hp) (fun q h1 h2 => by rw [e1]; exact hk q h1 h2) ⟨Nat.le_trans hS.1 (by rw [e1]; exact hz), fun q h1 h2 => by rw [e1, hk q (Nat.lt_of_lt_of_le h1 hS.1) (fun z => h2 (hA q z))]; exact hS.2.1 q h1 h2, fun q hq => by
      rcases List.mem_append.mp hq with h | h
      · exact hS.2.2 q h
      · exact hA _ (hL q h)⟩ T' rfl X'
  exact ⟨t2, st t2 a1, b1⟩
/-- ends -/
theorem rdI {v r : Int32} (X : CallFix p m c cc nL s args gW own) (hr : meth.sig.returnType = some .int) (hlk : meth.locks = false) (hd : decode cc pc = .ok (.ireturn, 1)) (ev : v = r) : W p l e R s m args below meth c s.heap [] 0 0 (MQ below (QcRead r) args s 0 0 (fun _ => False)) (F0 m pc ls [.int v]) :=
  W.iret X.1 X.2.1 hr (fun t ht _ => ⟨by rw [ev], ht⟩) (fun _ h => by cases h) hd hlk
theorem rdZ {v r : Int32} (X : CallFix p m c cc nL s args gW own) (hr : meth.sig.returnType = some .boolean) (hlk : meth.locks = false) (hd : decode cc pc = .ok (.ireturn, 1)) (hv : v = 0 ∨ v = 1) (ev : v = r) : W p l e R s m args below meth c s.heap [] 0 0 (MQ below (QcRead r) args s 0 0 (fun _ => False)) (F0 m pc ls [.int v]) :=
  W.zret X.1 X.2.1 hr (fit_z hv).1 (fun t ht _ => ⟨by rw [ev], ht⟩) (fun _ h => by cases h) hd hlk
theorem wrV {Pic : Heap → Prop} (X : CallFix p m c cc nL s args gW own) (hr : meth.sig.returnType = none) (hlk : meth.locks = false) (hS : va_S A s.heap H locs) (hd : decode cc pc = .ok (.return_, 1)) (hp : Pic H) : W p l e R s m args below meth c H locs 0 0 (MQ below (qV Pic A) args s 0 0 A) (F0 m pc ls []) :=
  W.vret X.1 X.2.1 hr (fun t ht _ => ⟨rfl, by rw [ht]; exact hp, hS.F ht⟩) hS.2.2 hd hlk
theorem wrI {v r : Int32} {Pic : Heap → Prop} (X : CallFix p m c cc nL s args gW own) (hr : meth.sig.returnType = some .int) (hlk : meth.locks = false) (hS : va_S A s.heap H locs) (hd : decode cc pc = .ok (.ireturn, 1)) (ev : v = r) (hp : Pic H) : W p l e R s m args below meth c H locs 0 0 (MQ below (qI r Pic A) args s 0 0 A) (F0 m pc ls [.int v]) :=
  W.iret X.1 X.2.1 hr (fun t ht _ => ⟨by rw [ev], by rw [ht]; exact hp, hS.F ht⟩) hS.2.2 hd hlk
theorem wrZ {v r : Int32} {Pic : Heap → Prop} (X : CallFix p m c cc nL s args gW own) (hr : meth.sig.returnType = some .boolean) (hlk : meth.locks = false) (hS : va_S A s.heap H locs) (hd : decode cc pc = .ok (.ireturn, 1)) (hv : v = 0 ∨ v = 1) (ev : v = r) (hp : Pic H) : W p l e R s m args below meth c H locs 0 0 (MQ below (qI r Pic A) args s 0 0 A) (F0 m pc ls [.int v]) :=
  W.zret X.1 X.2.1 hr (fit_z hv).1 (fun t ht _ => ⟨by rw [ev], by rw [ht]; exact hp, hS.F ht⟩) hS.2.2 hd hlk
end CALLS
end
section
theorem k_C_46 : lkS R_C 46 y_C_within b_C_within 6 (some .boolean) 3 := ⟨⟨q_147, q_148, q_1, q_149⟩, by decide +kernel⟩
theorem k_C_50 : lkV R_C R_K 50 y_K_become b_K_become 2 none 1 := ⟨⟨q_150, q_151, q_152, q_2, q_153⟩, by decide +kernel⟩
theorem k_C_64 : lkS R_C 64 y_C_isTask b_C_isTask 1 (some .boolean) 1 := ⟨⟨q_177, q_178, q_1, q_179⟩, by decide +kernel⟩
theorem k_C_83 : lkV R_C R_K 83 y_K_isConstant b_K_isConstant 1 (some .boolean) 0 := ⟨⟨q_194, q_195, q_196, q_2, q_197⟩, by decide +kernel⟩
theorem k_C_117 : lkV R_C R_C 117 y_C_sum b_C_sum 2 none 1 := ⟨⟨q_214, q_216, qs_C_sum, q_1, q_217⟩, by decide +kernel⟩
theorem k_C_120 : lkV R_C R_C 120 y_C_difference b_C_difference 2 none 1 := ⟨⟨q_218, q_220, qs_C_difference, q_1, q_221⟩, by decide +kernel⟩
theorem k_C_134 : lkV R_C R_C 134 y_C_shift b_C_shift 2 none 1 := ⟨⟨q_202, q_204, qs_C_shift, q_1, q_205⟩, by decide +kernel⟩
theorem k_C_137 : lkV R_C R_C 137 y_C_drive b_C_drive 2 none 1 := ⟨⟨q_206, q_208, qs_C_drive, q_1, q_209⟩, by decide +kernel⟩
theorem k_C_144 : lkV R_C R_C 144 y_C_reckon b_C_reckon 2 none 1 := ⟨⟨q_210, q_212, qs_C_reckon, q_1, q_213⟩, by decide +kernel⟩
theorem k_C_147 : lkV R_C R_C 147 y_C_change b_C_change 2 (some .int) 1 := ⟨⟨q_222, q_224, qs_C_change, q_1, q_225⟩, by decide +kernel⟩
theorem k_C_150 : lkV R_C R_C 150 y_C_send b_C_send 1 none 0 := ⟨⟨q_227, q_229, qs_C_send, q_1, q_230⟩, by decide +kernel⟩
theorem k_C_156 : lkS R_C 156 y_C_isFromAlu b_C_isFromAlu 1 (some .boolean) 1 := ⟨⟨q_231, q_232, q_1, q_233⟩, by decide +kernel⟩
theorem k_C_170 : lkV R_C R_C 170 y_C_isWaiting b_C_isWaiting 3 (some .boolean) 1 := ⟨⟨q_190, q_192, qs_C_isWaiting, q_1, q_193⟩, by decide +kernel⟩
theorem k_C_177 : lkV R_C R_C 177 y_C_step b_C_step 4 none 2 := ⟨⟨q_198, q_200, qs_C_step, q_1, q_201⟩, by decide +kernel⟩
theorem k_C_184 : lkV R_C R_C 184 y_C_greatest b_C_greatest 2 (some .int) 0 := ⟨⟨q_236, q_238, qs_C_greatest, q_1, q_239⟩, by decide +kernel⟩
theorem k_M_42 : lkS R_M 42 y_M_within b_M_within 2 (some .boolean) 2 := ⟨⟨q_363, q_364, q_4, q_365⟩, by decide +kernel⟩
theorem k_M_62 : lkV R_M R_M 62 y_M_hasConstant b_M_hasConstant 1 (some .boolean) 0 := ⟨⟨q_399, q_401, qs_M_hasConstant, q_4, q_402⟩, by decide +kernel⟩
theorem k_M_90 : lkV R_M R_M 90 y_M_add b_M_add 2 none 1 := ⟨⟨q_419, q_421, qs_M_add, q_4, q_422⟩, by decide +kernel⟩
theorem k_M_94 : lkV R_M R_M 94 y_M_take b_M_take 3 none 2 := ⟨⟨q_423, q_425, qs_M_take, q_4, q_426⟩, by decide +kernel⟩
theorem k_M_101 : lkV R_M R_M 101 y_M_shifted b_M_shifted 1 (some .int) 0 := ⟨⟨q_407, q_409, qs_M_shifted, q_4, q_410⟩, by decide +kernel⟩
theorem k_M_105 : lkV R_M R_M 105 y_M_bus b_M_bus 1 (some .int) 0 := ⟨⟨q_411, q_413, qs_M_bus, q_4, q_414⟩, by decide +kernel⟩
theorem k_M_108 : lkV R_M R_M 108 y_M_reckon b_M_reckon 2 none 1 := ⟨⟨q_415, q_417, qs_M_reckon, q_4, q_418⟩, by decide +kernel⟩
theorem k_M_111 : lkV R_M R_M 111 y_M_change b_M_change 3 (some .int) 2 := ⟨⟨q_427, q_429, qs_M_change, q_4, q_430⟩, by decide +kernel⟩
theorem k_M_115 : lkV R_M R_M 115 y_M_isOfAlu b_M_isOfAlu 1 (some .boolean) 0 := ⟨⟨q_431, q_433, qs_M_isOfAlu, q_4, q_434⟩, by decide +kernel⟩
theorem k_M_128 : lkV R_M R_M 128 y_M_waits b_M_waits 2 (some .boolean) 0 := ⟨⟨q_395, q_397, qs_M_waits, q_4, q_398⟩, by decide +kernel⟩
theorem k_M_134 : lkV R_M R_M 134 y_M_act b_M_act 5 none 1 := ⟨⟨q_403, q_405, qs_M_act, q_4, q_406⟩, by decide +kernel⟩
theorem k_M_137 : lkV R_M R_M 137 y_M_give b_M_give 4 none 1 := ⟨⟨q_435, q_437, qs_M_give, q_4, q_438⟩, by decide +kernel⟩
theorem k_L_13 : lkV R_L R_C 13 y_C_store b_C_store 3 (some .boolean) 2 := ⟨⟨q_142, q_143, q_144, q_1, q_145⟩, by decide +kernel⟩
theorem k_L_17 : lkV R_L R_M 17 y_M_store b_M_store 3 (some .boolean) 2 := ⟨⟨q_359, q_360, q_361, q_4, q_362⟩, by decide +kernel⟩
theorem k_L_18 : lkV R_L R_C 18 y_C_constant b_C_constant 3 (some .boolean) 2 := ⟨⟨q_154, q_155, q_156, q_1, q_157⟩, by decide +kernel⟩
theorem k_L_21 : lkV R_L R_M 21 y_M_constant b_M_constant 3 (some .boolean) 2 := ⟨⟨q_366, q_367, q_368, q_4, q_369⟩, by decide +kernel⟩
theorem k_L_22 : lkV R_L R_C 22 y_C_poke b_C_poke 3 (some .boolean) 2 := ⟨⟨q_160, q_161, q_162, q_1, q_163⟩, by decide +kernel⟩
theorem k_L_25 : lkV R_L R_M 25 y_M_poke b_M_poke 3 (some .boolean) 2 := ⟨⟨q_371, q_372, q_373, q_4, q_374⟩, by decide +kernel⟩
theorem k_L_26 : lkV R_L R_C 26 y_C_set b_C_set 3 (some .boolean) 2 := ⟨⟨q_164, q_165, q_166, q_1, q_167⟩, by decide +kernel⟩
theorem k_L_29 : lkV R_L R_M 29 y_M_set b_M_set 3 (some .boolean) 2 := ⟨⟨q_375, q_376, q_377, q_4, q_378⟩, by decide +kernel⟩
theorem k_L_30 : lkV R_L R_C 30 y_C_port b_C_port 2 none 1 := ⟨⟨q_169, q_170, q_171, q_1, q_172⟩, by decide +kernel⟩
theorem k_L_34 : lkV R_L R_M 34 y_M_port b_M_port 2 none 1 := ⟨⟨q_379, q_380, q_381, q_4, q_382⟩, by decide +kernel⟩
theorem k_L_35 : lkV R_L R_C 35 y_C_wake b_C_wake 3 (some .boolean) 1 := ⟨⟨q_173, q_174, q_175, q_1, q_176⟩, by decide +kernel⟩
theorem k_L_39 : lkV R_L R_M 39 y_M_wake b_M_wake 3 (some .boolean) 1 := ⟨⟨q_383, q_384, q_385, q_4, q_386⟩, by decide +kernel⟩
theorem k_L_40 : lkV R_L R_C 40 y_C_start b_C_start 3 (some .boolean) 2 := ⟨⟨q_181, q_182, q_183, q_1, q_184⟩, by decide +kernel⟩
theorem k_L_43 : lkV R_L R_M 43 y_M_start b_M_start 3 (some .boolean) 2 := ⟨⟨q_387, q_388, q_389, q_4, q_390⟩, by decide +kernel⟩
theorem k_L_44 : lkV R_L R_C 44 y_C_run b_C_run 8 (some .int) 1 := ⟨⟨q_185, q_186, q_187, q_1, q_188⟩, by decide +kernel⟩
theorem k_L_48 : lkV R_L R_M 48 y_M_run b_M_run 5 (some .int) 1 := ⟨⟨q_391, q_392, q_393, q_4, q_394⟩, by decide +kernel⟩
theorem k_L_49 : lkV R_L R_C 49 y_C_register b_C_register 2 (some .int) 1 := ⟨⟨q_240, q_241, q_242, q_1, q_243⟩, by decide +kernel⟩
theorem k_L_52 : lkV R_L R_M 52 y_M_register b_M_register 2 (some .int) 1 := ⟨⟨q_439, q_440, q_441, q_4, q_442⟩, by decide +kernel⟩
theorem k_L_53 : lkV R_L R_C 53 y_C_peek b_C_peek 2 (some .int) 1 := ⟨⟨q_244, q_245, q_246, q_1, q_247⟩, by decide +kernel⟩
theorem k_L_56 : lkV R_L R_M 56 y_M_peek b_M_peek 2 (some .int) 1 := ⟨⟨q_443, q_444, q_445, q_4, q_446⟩, by decide +kernel⟩
theorem k_L_57 : lkV R_L R_C 57 y_C_task b_C_task 4 (some .int) 2 := ⟨⟨q_248, q_249, q_250, q_1, q_251⟩, by decide +kernel⟩
theorem k_L_61 : lkV R_L R_M 61 y_M_task b_M_task 3 (some .int) 2 := ⟨⟨q_447, q_448, q_449, q_4, q_450⟩, by decide +kernel⟩
theorem k_L_62 : lkV R_L R_C 62 y_C_now b_C_now 1 (some .int) 0 := ⟨⟨q_252, q_253, q_254, q_1, q_255⟩, by decide +kernel⟩
theorem k_L_66 : lkV R_L R_M 66 y_M_now b_M_now 1 (some .int) 0 := ⟨⟨q_451, q_452, q_453, q_4, q_454⟩, by decide +kernel⟩
theorem k_L_67 : lkV R_L R_C 67 y_C_out b_C_out 2 (some .int) 1 := ⟨⟨q_256, q_257, q_258, q_1, q_259⟩, by decide +kernel⟩
theorem k_L_70 : lkV R_L R_M 70 y_M_out b_M_out 2 (some .int) 1 := ⟨⟨q_455, q_456, q_457, q_4, q_458⟩, by decide +kernel⟩
theorem k_L_71 : lkV R_L R_C 71 y_C_count b_C_count 2 (some .int) 1 := ⟨⟨q_263, q_264, q_265, q_1, q_266⟩, by decide +kernel⟩
theorem k_L_74 : lkV R_L R_M 74 y_M_count b_M_count 2 (some .int) 1 := ⟨⟨q_459, q_460, q_461, q_4, q_462⟩, by decide +kernel⟩
end
section
/-! the pure machine: what a cycle works out -/
def shF (f x : Int32) : Int32 := if f = 4 then (x <<< ((1 : Int32) &&& 31)) &&& 65535 else if f = 5 then x >>> ((1 : Int32) &&& 31) else if f = 6 then ((x <<< ((8 : Int32) &&& 31)) &&& 65535) ||| (x >>> ((8 : Int32) &&& 31)) else x
def cnF (f1 f2 : Int32) : Int32 := if f1 = 7 ∨ f2 = 7 then 1 else 0
def wtF (f1 bs f2 d : Int32) : Int32 := if (f1 = 1 ∧ d < 5) ∨ (bs = 5 ∧ cnF f1 f2 = 0 ∧ d < 4) ∨ (f2 = 6 ∧ d < 2) then 1 else 0
def buF (cn rs bs xi xn xm xl : Int32) (con mem reg : Nat → Int32) : Int32 := if cn = 0 then (if bs = 0 then reg rs.toNatClampNeg else if bs = 1 then 0 else if bs = 2 then 65535 else if bs = 3 then xi else if bs = 4 then xn else if bs = 5 then mem (xm &&& 1023).toNatClampNeg else if bs = 6 then xl else xm) else con (8 * rs + bs).toNatClampNeg
def smA (v : Int32) : Int32 := v &&& 65535
def smC (v : Int32) : Int32 := (v >>> ((16 : Int32) &&& 31)) &&& 1
def dfA (b v : Int32) : Int32 := (b - v) &&& 65535
def dfC (b v : Int32) : Int32 := if b < v then 0 else 1
def alF (af b t c : Int32) : Int32 := if af = 0 then b else if af = 1 then t else if af = 2 then b ||| t else if af = 3 then b &&& t else if af = 4 then b ^^^ t else if af = 5 then smA (b + 1) else if af = 6 then dfA b 1 else if af = 7 then smA (b + t) else if af = 8 then dfA b t else if af = 9 then dfA b (t + 1) else if af = 10 then smA (b + t + 1) else if af = 11 then smA (b + c) else if af = 12 then b &&& t else if af = 13 then b &&& (t ^^^ (-1)) else 0
def acF (af b t c : Int32) : Int32 := if af = 5 then smC (b + 1) else if af = 6 then dfC b 1 else if af = 7 then smC (b + t) else if af = 8 then dfC b t else if af = 9 then dfC b (t + 1) else if af = 10 then smC (b + t + 1) else if af = 11 then smC (b + c) else 0
def isA (af : Int32) : Int32 := if af = 0 ∨ af = 2 ∨ af = 5 ∨ af = 6 ∨ (10 ≤ af ∧ af ≤ 12) then 1 else 0
def chF (f2 b sh c i : Int32) : Int32 := if f2 = 1 then (if b = 0 then 1 else 0) else if f2 = 2 then (if sh &&& 32768 = 0 then 0 else 1) else if f2 = 3 then (if sh = 0 then 1 else 0) else if f2 = 4 then b &&& 1023 else if f2 = 5 then c else if f2 = 8 then i &&& 1 else 0
def grN (wk : Nat → Int32) : Nat → Nat
  | 0 => 0
  | n + 1 => if wk (n + 1) = 0 then grN wk n else n + 1
/-! small laws -/
theorem sw_out {x : Int32} (lo n : Nat) (h : ∀ k, k < n → ¬ x = nI (lo + k)) {hi : Int} (hh : hi = lo + n - 1 := by decide) : x.toInt < lo ∨ hi < x.toInt := by
  subst hh
  by_cases h1 : x.toInt < lo
  · exact Or.inl h1
  · by_cases h2 : (lo : Int) + n - 1 < x.toInt
    · exact Or.inr h2
    · exfalso
      have hx : ¬ x < 0 := by
        rw [Int32.lt_iff_toInt_lt]
        have : (0 : Int32).toInt = 0 := rfl
        omega
      obtain ⟨j, hj, rfl⟩ := nI_of hx
      rw [nI_toInt hj] at h1 h2
      exact h (j - lo) (by omega) (by rw [show lo + (j - lo) = j by omega])
theorem vp_lt {x : Int32} {n : Nat} (h : vp_in x n) : x.toNatClampNeg < n := Nat.not_le.mp fun q => h (Or.inr q)
theorem i64_le (a b : Int32) : a.toInt64 ≤ b.toInt64 ↔ a ≤ b := by
  rw [Int64.le_iff_toInt_le, Int32.le_iff_toInt_le]
  simp
theorem w64 {x a b : Int32} {A B : Int64} (hA : A = a.toInt64) (hB : B = b.toInt64) : (A ≤ x.toInt64 ∧ x.toInt64 ≤ B) ↔ (a ≤ x ∧ x ≤ b) := by
  subst hA; subst hB
  rw [i64_le, i64_le]
theorem in_of {x b : Int32} {n : Nat} (hb : b.toInt + 1 = n) (h : 0 ≤ x ∧ x ≤ b) : vp_in x n := by
  rw [vp_in_iff]
  have h1 := Int32.le_iff_toInt_le.mp h.1
  have h2 := Int32.le_iff_toInt_le.mp h.2
  have : (0 : Int32).toInt = 0 := rfl
  omega
theorem ite10 {P : Prop} [Decidable P] : (if P then (1 : Int32) else 0) = 0 ↔ ¬ P := by
  by_cases h : P <;> simp [h]
theorem z01 {P : Prop} [Decidable P] : (if P then (1 : Int32) else 0) = 0 ∨ (if P then (1 : Int32) else 0) = 1 := by
  by_cases h : P <;> simp [h]
theorem lg_lt0 (x y : Int64) : lg_cmp x y < 0 ↔ x < y := by
  unfold lg_cmp
  by_cases h : x > y
  · have : ¬ x < y := by
      rw [gt_iff_lt, Int64.lt_iff_toInt_lt] at h
      rw [Int64.lt_iff_toInt_lt]; omega
    simp [h, this]
  · by_cases h2 : x = y
    · subst h2; simp
    · have : x < y := by
        rw [gt_iff_lt, Int64.lt_iff_toInt_lt] at h
        rw [← Int64.toInt_inj] at h2
        rw [Int64.lt_iff_toInt_lt]; omega
      simp [h, h2, this]
theorem lg_gt0 (x y : Int64) : 0 < lg_cmp x y ↔ y < x := by
  unfold lg_cmp
  by_cases h : x > y
  · simp [h, gt_iff_lt.mp h]
  · by_cases h2 : x = y
    · subst h2; simp
    · have : ¬ y < x := h
      simp [h, h2]
theorem l64 (x y : Int64) : ¬ x < y ↔ y ≤ x := by
  rw [Int64.lt_iff_toInt_lt, Int64.le_iff_toInt_le]; omega
theorem l32 (x y : Int32) : ¬ x < y ↔ y ≤ x := by
  rw [Int32.lt_iff_toInt_lt, Int32.le_iff_toInt_le]; omega
theorem l32' (x y : Int32) : ¬ x ≤ y ↔ y < x := by
  rw [Int32.lt_iff_toInt_lt, Int32.le_iff_toInt_le]; omega
end
section
section MIC
variable {p : Program} {l : Launch} {e : Env} {R : Room} {s : State} {m : MethodId} {args : Array Value} {below : List Frame} {meth : Method} {c : Code} {H H0 : Heap} {locs : List Loc} {cells slots : Nat} {Q : State → Prop} {cc : ByteArray} {nL pc : Nat} {own : String} {ls : Array Slot} {rest : List Value} {D : va_G} {A : Nat → Prop} {ad am sm md : Nat → Nat} {kc kd : Nat → ClassId} {xt xl xc xm xi xn xa xy xb xw xo xs bu sh al ac rs af bs f1 f2 su sc : Int32} {con mem reg out wd pl ch dn wk : Nat → Int32} {q : Nat} {v0 v1 v2 v3 v4 v5 v6 v7 : Int32}
theorem gKK_f1 (Z : cxC p m c cc nL s args R_K D kc) (hP : va_P D classes (wC ad kc am sm xt xl xc xm xi xn xa xy xb xw xo xs bu sh al ac con mem reg out wd pl ch dn wk) H) {i : Nat} (hi : i < 1024) (hd : decode cc pc = .ok (.getfield 21, 3)) (kk : W p l e R s m args below meth c H locs cells slots Q (F0 m (pc + 3) ls (.int (mF1 (wd i)) :: rest))) : W p l e R s m args below meth c H locs cells slots Q (F0 m pc ls (.ref (am i) :: rest)) :=
  va_get (D := D) (ci := 1) (v := .int (mF1 (wd i))) (C := R_K) (T := F_K) (N := 8) Z.1.1 Z.1.2.1 Z.1.2.2.2.2 i_K Z.1.2.2.2.1 Z.2.1 hP (7 + i) (wC_k hi) rfl 3 (by decide) (Z.1.2.2.2.2 _ q_29) (fun _ h9 => h9) rfl hd kk
theorem gKK_f2 (Z : cxC p m c cc nL s args R_K D kc) (hP : va_P D classes (wC ad kc am sm xt xl xc xm xi xn xa xy xb xw xo xs bu sh al ac con mem reg out wd pl ch dn wk) H) {i : Nat} (hi : i < 1024) (hd : decode cc pc = .ok (.getfield 24, 3)) (kk : W p l e R s m args below meth c H locs cells slots Q (F0 m (pc + 3) ls (.int (mF2 (wd i)) :: rest))) : W p l e R s m args below meth c H locs cells slots Q (F0 m pc ls (.ref (am i) :: rest)) :=
  va_get (D := D) (ci := 1) (v := .int (mF2 (wd i))) (C := R_K) (T := F_K) (N := 8) Z.1.1 Z.1.2.1 Z.1.2.2.2.2 i_K Z.1.2.2.2.1 Z.2.1 hP (7 + i) (wC_k hi) rfl 4 (by decide) (Z.1.2.2.2.2 _ q_31) (fun _ h9 => h9) rfl hd kk
/-- a micro alone -/
def w1 (q : Nat) (v0 v1 v2 v3 v4 v5 v6 v7 : Int32) : va_W := [(q, .inr (1, [.int v0, .int v1, .int v2, .int v3, .int v4, .int v5, .int v6, .int v7]))]
theorem ok1 {e : va_E} : va_D (fun x => x = q) [(q, e)] := by
  refine ⟨fun i j x y hi hj _ => ?_, fun k x hk => ?_⟩
  · have h1 := (List.getElem?_eq_some_iff.mp hi).1
    have h2 := (List.getElem?_eq_some_iff.mp hj).1
    simp at h1 h2
    omega
  · have h1 := (List.getElem?_eq_some_iff.mp hk).1
    simp at h1
    subst h1
    cases hk
    rfl
theorem pKK_rsel (Z : CallFix p m c cc nL s args gW R_K ∧ va_K D classes [] s ∧ nW s) (hP : va_P D classes (w1 q v0 v1 v2 v3 v4 v5 v6 v7) H) (hO : True) (hS : va_S (fun x => x = q) H0 H locs) {v : Int32} (hd : decode cc pc = .ok (.putfield 9, 3)) (kk : ∀ (H1 : Heap) (locs1 : List Loc), va_P D classes (w1 q v v1 v2 v3 v4 v5 v6 v7) H1 → va_S (fun x => x = q) H0 H1 locs1 → W p l e R s m args below meth c H1 locs1 cells slots Q (F0 m (pc + 3) ls rest)) : W p l e R s m args below meth c H locs cells slots Q (F0 m pc ls (.int v :: .ref q :: rest)) :=
  va_put (D := D) (ci := 1) (v := .int v) (ty := .int) (C := R_K) (T := F_K) (N := 8) Z.1.1 Z.1.2.1 Z.1.2.2.2.2 i_K t_K t_K_ok n_K Z.1.2.2.2.1 Z.2.1 hP ok1 hS 0 rfl rfl 0 (by decide) (Z.1.2.2.2.2 _ q_23) (fun _ h9 => h9) rfl (by decide +kernel) rfl rfl (Nat.le_of_ble_eq_true rfl) hd (fun H1 l1 h1 _ h3 => kk H1 l1 h1 h3)
theorem pKK_aluf (Z : CallFix p m c cc nL s args gW R_K ∧ va_K D classes [] s ∧ nW s) (hP : va_P D classes (w1 q v0 v1 v2 v3 v4 v5 v6 v7) H) (hO : True) (hS : va_S (fun x => x = q) H0 H locs) {v : Int32} (hd : decode cc pc = .ok (.putfield 15, 3)) (kk : ∀ (H1 : Heap) (locs1 : List Loc), va_P D classes (w1 q v0 v v2 v3 v4 v5 v6 v7) H1 → va_S (fun x => x = q) H0 H1 locs1 → W p l e R s m args below meth c H1 locs1 cells slots Q (F0 m (pc + 3) ls rest)) : W p l e R s m args below meth c H locs cells slots Q (F0 m pc ls (.int v :: .ref q :: rest)) :=
  va_put (D := D) (ci := 1) (v := .int v) (ty := .int) (C := R_K) (T := F_K) (N := 8) Z.1.1 Z.1.2.1 Z.1.2.2.2.2 i_K t_K t_K_ok n_K Z.1.2.2.2.1 Z.2.1 hP ok1 hS 0 rfl rfl 1 (by decide) (Z.1.2.2.2.2 _ q_25) (fun _ h9 => h9) rfl (by decide +kernel) rfl rfl (Nat.le_of_ble_eq_true rfl) hd (fun H1 l1 h1 _ h3 => kk H1 l1 h1 h3)
theorem pKK_bs (Z : CallFix p m c cc nL s args gW R_K ∧ va_K D classes [] s ∧ nW s) (hP : va_P D classes (w1 q v0 v1 v2 v3 v4 v5 v6 v7) H) (hO : True) (hS : va_S (fun x => x = q) H0 H locs) {v : Int32} (hd : decode cc pc = .ok (.putfield 18, 3)) (kk : ∀ (H1 : Heap) (locs1 : List Loc), va_P D classes (w1 q v0 v1 v v3 v4 v5 v6 v7) H1 → va_S (fun x => x = q) H0 H1 locs1 → W p l e R s m args below meth c H1 locs1 cells slots Q (F0 m (pc + 3) ls rest)) : W p l e R s m args below meth c H locs cells slots Q (F0 m pc ls (.int v :: .ref q :: rest)) :=
  va_put (D := D) (ci := 1) (v := .int v) (ty := .int) (C := R_K) (T := F_K) (N := 8) Z.1.1 Z.1.2.1 Z.1.2.2.2.2 i_K t_K t_K_ok n_K Z.1.2.2.2.1 Z.2.1 hP ok1 hS 0 rfl rfl 2 (by decide) (Z.1.2.2.2.2 _ q_27) (fun _ h9 => h9) rfl (by decide +kernel) rfl rfl (Nat.le_of_ble_eq_true rfl) hd (fun H1 l1 h1 _ h3 => kk H1 l1 h1 h3)
theorem pKK_f1 (Z : CallFix p m c cc nL s args gW R_K ∧ va_K D classes [] s ∧ nW s) (hP : va_P D classes (w1 q v0 v1 v2 v3 v4 v5 v6 v7) H) (hO : True) (hS : va_S (fun x => x = q) H0 H locs) {v : Int32} (hd : decode cc pc = .ok (.putfield 21, 3)) (kk : ∀ (H1 : Heap) (locs1 : List Loc), va_P D classes (w1 q v0 v1 v2 v v4 v5 v6 v7) H1 → va_S (fun x => x = q) H0 H1 locs1 → W p l e R s m args below meth c H1 locs1 cells slots Q (F0 m (pc + 3) ls rest)) : W p l e R s m args below meth c H locs cells slots Q (F0 m pc ls (.int v :: .ref q :: rest)) :=
  va_put (D := D) (ci := 1) (v := .int v) (ty := .int) (C := R_K) (T := F_K) (N := 8) Z.1.1 Z.1.2.1 Z.1.2.2.2.2 i_K t_K t_K_ok n_K Z.1.2.2.2.1 Z.2.1 hP ok1 hS 0 rfl rfl 3 (by decide) (Z.1.2.2.2.2 _ q_29) (fun _ h9 => h9) rfl (by decide +kernel) rfl rfl (Nat.le_of_ble_eq_true rfl) hd (fun H1 l1 h1 _ h3 => kk H1 l1 h1 h3)
theorem pKK_f2 (Z : CallFix p m c cc nL s args gW R_K ∧ va_K D classes [] s ∧ nW s) (hP : va_P D classes (w1 q v0 v1 v2 v3 v4 v5 v6 v7) H) (hO : True) (hS : va_S (fun x => x = q) H0 H locs) {v : Int32} (hd : decode cc pc = .ok (.putfield 24, 3)) (kk : ∀ (H1 : Heap) (locs1 : List Loc), va_P D classes (w1 q v0 v1 v2 v3 v v5 v6 v7) H1 → va_S (fun x => x = q) H0 H1 locs1 → W p l e R s m args below meth c H1 locs1 cells slots Q (F0 m (pc + 3) ls rest)) : W p l e R s m args below meth c H locs cells slots Q (F0 m pc ls (.int v :: .ref q :: rest)) :=
  va_put (D := D) (ci := 1) (v := .int v) (ty := .int) (C := R_K) (T := F_K) (N := 8) Z.1.1 Z.1.2.1 Z.1.2.2.2.2 i_K t_K t_K_ok n_K Z.1.2.2.2.1 Z.2.1 hP ok1 hS 0 rfl rfl 4 (by decide) (Z.1.2.2.2.2 _ q_31) (fun _ h9 => h9) rfl (by decide +kernel) rfl rfl (Nat.le_of_ble_eq_true rfl) hd (fun H1 l1 h1 _ h3 => kk H1 l1 h1 h3)
theorem pKK_loadsT (Z : CallFix p m c cc nL s args gW R_K ∧ va_K D classes [] s ∧ nW s) (hP : va_P D classes (w1 q v0 v1 v2 v3 v4 v5 v6 v7) H) (hO : True) (hS : va_S (fun x => x = q) H0 H locs) {v : Int32} (hv : v = 0 ∨ v = 1) (hd : decode cc pc = .ok (.putfield 27, 3)) (kk : ∀ (H1 : Heap) (locs1 : List Loc), va_P D classes (w1 q v0 v1 v2 v3 v4 v v6 v7) H1 → va_S (fun x => x = q) H0 H1 locs1 → W p l e R s m args below meth c H1 locs1 cells slots Q (F0 m (pc + 3) ls rest)) : W p l e R s m args below meth c H locs cells slots Q (F0 m pc ls (.int v :: .ref q :: rest)) :=
  va_put (D := D) (ci := 1) (v := .int v) (ty := .boolean) (C := R_K) (T := F_K) (N := 8) Z.1.1 Z.1.2.1 Z.1.2.2.2.2 i_K t_K t_K_ok n_K Z.1.2.2.2.1 Z.2.1 hP ok1 hS 0 rfl rfl 5 (by decide) (Z.1.2.2.2.2 _ q_33) (fun _ h9 => h9) rfl (by decide +kernel) (fit_z hv).1 (fit_z hv).2 (Nat.le_of_ble_eq_true rfl) hd (fun H1 l1 h1 _ h3 => kk H1 l1 h1 h3)
theorem pKK_loadsL (Z : CallFix p m c cc nL s args gW R_K ∧ va_K D classes [] s ∧ nW s) (hP : va_P D classes (w1 q v0 v1 v2 v3 v4 v5 v6 v7) H) (hO : True) (hS : va_S (fun x => x = q) H0 H locs) {v : Int32} (hv : v = 0 ∨ v = 1) (hd : decode cc pc = .ok (.putfield 31, 3)) (kk : ∀ (H1 : Heap) (locs1 : List Loc), va_P D classes (w1 q v0 v1 v2 v3 v4 v5 v v7) H1 → va_S (fun x => x = q) H0 H1 locs1 → W p l e R s m args below meth c H1 locs1 cells slots Q (F0 m (pc + 3) ls rest)) : W p l e R s m args below meth c H locs cells slots Q (F0 m pc ls (.int v :: .ref q :: rest)) :=
  va_put (D := D) (ci := 1) (v := .int v) (ty := .boolean) (C := R_K) (T := F_K) (N := 8) Z.1.1 Z.1.2.1 Z.1.2.2.2.2 i_K t_K t_K_ok n_K Z.1.2.2.2.1 Z.2.1 hP ok1 hS 0 rfl rfl 6 (by decide) (Z.1.2.2.2.2 _ q_35) (fun _ h9 => h9) rfl (by decide +kernel) (fit_z hv).1 (fit_z hv).2 (Nat.le_of_ble_eq_true rfl) hd (fun H1 l1 h1 _ h3 => kk H1 l1 h1 h3)
theorem pKK_next (Z : CallFix p m c cc nL s args gW R_K ∧ va_K D classes [] s ∧ nW s) (hP : va_P D classes (w1 q v0 v1 v2 v3 v4 v5 v6 v7) H) (hO : True) (hS : va_S (fun x => x = q) H0 H locs) {v : Int32} (hd : decode cc pc = .ok (.putfield 34, 3)) (kk : ∀ (H1 : Heap) (locs1 : List Loc), va_P D classes (w1 q v0 v1 v2 v3 v4 v5 v6 v) H1 → va_S (fun x => x = q) H0 H1 locs1 → W p l e R s m args below meth c H1 locs1 cells slots Q (F0 m (pc + 3) ls rest)) : W p l e R s m args below meth c H locs cells slots Q (F0 m pc ls (.int v :: .ref q :: rest)) :=
  va_put (D := D) (ci := 1) (v := .int v) (ty := .int) (C := R_K) (T := F_K) (N := 8) Z.1.1 Z.1.2.1 Z.1.2.2.2.2 i_K t_K t_K_ok n_K Z.1.2.2.2.1 Z.2.1 hP ok1 hS 0 rfl rfl 7 (by decide) (Z.1.2.2.2.2 _ q_37) (fun _ h9 => h9) rfl (by decide +kernel) rfl rfl (Nat.le_of_ble_eq_true rfl) hd (fun H1 l1 h1 _ h3 => kk H1 l1 h1 h3)
theorem va_P.set1 {D : va_G} {cl : List vw_C} {A : Nat → Prop} {p : Nat} {ws : va_W} {a : Nat} {e0 e : va_E} {H H1 : Heap} (h : va_P D cl ws H) (hD : va_D A ws) (hp : ws[p]? = some (a, e0)) (he : va_at D cl (a, e) H1) (oq : ∀ q : Nat, q < H.size → ¬ q = a → H1[q]? = H[q]?) : va_P D cl (ws.set p (a, e)) H1 := by
  have hl := (List.getElem?_eq_some_iff.mp hp).1
  intro k q hk
  by_cases hkp : k = p
  · subst hkp
    rw [List.getElem?_set_self hl] at hk
    cases hk
    exact he
  · rw [List.getElem?_set_ne (Ne.symm hkp)] at hk
    exact (h k q hk).kept (oq q.1 (h k q hk).lt (fun z => hkp (hD.1 k p q (a, e0) hk hp z)))
end MIC
set_option maxRecDepth 100000 in
theorem c_C_within (l : Launch) (x lo hi : Int64) : Met l y_C_within (Cond.code y_C_within b_C_within 6 (some .boolean) :: gW) (rmD 0) (va_Pc [.long x, .long lo, .long hi] (fun _ => True)) (QcRead (if lo ≤ x ∧ x ≤ hi then 1 else 0)) 0 0 (fun _ => False) := by
  refine startM (by decide) (Nat.le_of_ble_eq_true rfl) ?_
  intro p e s m below meth c ls X hr hlk hnm hB hl
  replace X : CallFix p m c b_C_within 6 s _ gW R_C := X
  obtain ⟨hx, hb, hml, hown, hts⟩ := id X
  refine lv_lload_n hx hb d_C_within_0 rfl (lv_at hl 0 rfl) ?_
  refine lv_lload_n hx hb d_C_within_1 rfl (lv_at hl 1 rfl) ?_
  refine W.lcmp hx hb d_C_within_2 ?_
  refine lv_if_lt (tgt := 17) hx hb d_C_within_3 (by decide) (fun c3t => ?_) (fun c3f => ?_)
  · skip
    refine lv_iconst (v := 0) hx hb d_C_within_17 (by decide) ?_
    exact rdZ X hr hlk d_C_within_18 (by decide) ((if_neg (fun z => (l64 _ _).mpr z.1 ((lg_lt0 _ _).mp c3t))).symm)
  · skip
    refine lv_lload_n hx hb d_C_within_6 rfl (lv_at hl 0 rfl) ?_
    refine lv_lload hx hb d_C_within_7 (lv_at hl 2 rfl) ?_
    refine W.lcmp hx hb d_C_within_9 ?_
    refine lv_if_gt (tgt := 17) hx hb d_C_within_10 (by decide) (fun c10t => ?_) (fun c10f => ?_)
    · skip
      refine lv_iconst (v := 0) hx hb d_C_within_17 (by decide) ?_
      exact rdZ X hr hlk d_C_within_18 (by decide) ((if_neg (fun z => (l64 _ _).mpr z.2 ((lg_gt0 _ _).mp c10t))).symm)
    · skip
      refine lv_iconst (v := 1) hx hb d_C_within_13 (by decide) ?_
      refine lv_goto (tgt := 18) hx hb d_C_within_14 (by decide) ?_
      exact rdZ X hr hlk d_C_within_18 (by decide) ((if_pos ⟨(l64 _ _).mp (fun z => c3f ((lg_lt0 _ _).mpr z)), (l64 _ _).mp (fun z => c10f ((lg_gt0 _ _).mpr z))⟩).symm)
theorem c_C_wn (l : Launch) (x a b : Int32) {A B : Int64} (hA : A = a.toInt64) (hB : B = b.toInt64) : Met l y_C_within (Cond.code y_C_within b_C_within 6 (some .boolean) :: gW) (rmD 0) (va_Pc [.long x.toInt64, .long A, .long B] (fun _ => True)) (QcRead (if a ≤ x ∧ x ≤ b then 1 else 0)) 0 0 (fun _ => False) := by
  have h := c_C_within l x.toInt64 A B
  have e : (if A ≤ x.toInt64 ∧ x.toInt64 ≤ B then (1 : Int32) else 0) = if a ≤ x ∧ x ≤ b then 1 else 0 := by
    by_cases h1 : a ≤ x ∧ x ≤ b
    · rw [if_pos h1, if_pos ((w64 hA hB).mpr h1)]
    · rw [if_neg h1, if_neg (fun z => h1 ((w64 hA hB).mp z))]
  rw [e] at h
  exact h
set_option maxRecDepth 100000 in
theorem c_C_isTask (l : Launch) (x : Int32) : Met l y_C_isTask (Cond.code y_C_isTask b_C_isTask 1 (some .boolean) :: gW) (rmD 1) (va_Pc [.int x] (fun _ => True)) (QcRead (if 0 ≤ x ∧ x ≤ 15 then 1 else 0)) 0 0 (fun _ => False) := by
  refine startM (by decide) (Nat.le_of_ble_eq_true rfl) ?_
  intro p e s m below meth c ls X hr hlk hnm hB hl
  replace X : CallFix p m c b_C_isTask 1 s _ gW R_C := X
  obtain ⟨hx, hb, hml, hown, hts⟩ := id X
  refine lv_iload_n hx hb d_C_isTask_0 rfl (lv_at hl 0 rfl) ?_
  refine lv_i2l hx hb d_C_isTask_1 rfl ?_
  refine lv_lconst (v := 0) hx hb d_C_isTask_2 (by decide) ?_
  refine lv_ldc2 hx hb hown (hts _ q_180) d_C_isTask_3 ?_
  refine callSt k_C_46 X (c_C_wn l x 0 15 (by decide) (by decide)) rfl rfl ⟨Nat.le_of_ble_eq_true rfl, Nat.le_of_ble_eq_true rfl⟩ ⟨Nat.zero_le _, Nat.zero_le _⟩ hl.1 rfl rfl (Nat.le_of_ble_eq_true rfl) d_C_isTask_6 ?_
  exact rdZ X hr hlk d_C_isTask_9 z01 rfl
set_option maxRecDepth 100000 in
theorem c_C_isFromAlu (l : Launch) (x : Int32) : Met l y_C_isFromAlu (Cond.code y_C_isFromAlu b_C_isFromAlu 1 (some .boolean) :: gW) (rmD 1) (va_Pc [.int x] (fun _ => True)) (QcRead (isA x)) 0 0 (fun _ => False) := by
  refine startM (by decide) (Nat.le_of_ble_eq_true rfl) ?_
  intro p e s m below meth c ls X hr hlk hnm hB hl
  replace X : CallFix p m c b_C_isFromAlu 1 s _ gW R_C := X
  obtain ⟨hx, hb, hml, hown, hts⟩ := id X
  refine lv_iload_n hx hb d_C_isFromAlu_0 rfl (lv_at hl 0 rfl) ?_
  refine lv_if_eq (tgt := 34) hx hb d_C_isFromAlu_1 (by decide) (fun c1t => ?_) (fun c1f => ?_)
  · skip
    refine lv_iconst (v := 1) hx hb d_C_isFromAlu_34 (by decide) ?_
    refine lv_goto (tgt := 39) hx hb d_C_isFromAlu_35 (by decide) ?_
    exact rdZ X hr hlk d_C_isFromAlu_39 (by decide) (if_pos (Or.inl c1t)).symm
  · skip
    refine lv_iload_n hx hb d_C_isFromAlu_4 rfl (lv_at hl 0 rfl) ?_
    refine lv_iconst (v := 2) hx hb d_C_isFromAlu_5 (by decide) ?_
    refine lv_icmp_eq (tgt := 34) hx hb d_C_isFromAlu_6 (by decide) (fun c6t => ?_) (fun c6f => ?_)
    · skip
      refine lv_iconst (v := 1) hx hb d_C_isFromAlu_34 (by decide) ?_
      refine lv_goto (tgt := 39) hx hb d_C_isFromAlu_35 (by decide) ?_
      exact rdZ X hr hlk d_C_isFromAlu_39 (by decide) (if_pos (Or.inr (Or.inl c6t))).symm
    · skip
      refine lv_iload_n hx hb d_C_isFromAlu_9 rfl (lv_at hl 0 rfl) ?_
      refine lv_iconst (v := 5) hx hb d_C_isFromAlu_10 (by decide) ?_
      refine lv_icmp_eq (tgt := 34) hx hb d_C_isFromAlu_11 (by decide) (fun c11t => ?_) (fun c11f => ?_)
      · skip
        refine lv_iconst (v := 1) hx hb d_C_isFromAlu_34 (by decide) ?_
        refine lv_goto (tgt := 39) hx hb d_C_isFromAlu_35 (by decide) ?_
        exact rdZ X hr hlk d_C_isFromAlu_39 (by decide) (if_pos (Or.inr (Or.inr (Or.inl c11t)))).symm
      · skip
        refine lv_iload_n hx hb d_C_isFromAlu_14 rfl (lv_at hl 0 rfl) ?_
        refine lv_bipush (v := 6) hx hb d_C_isFromAlu_15 (by decide) ?_
        refine lv_icmp_eq (tgt := 34) hx hb d_C_isFromAlu_17 (by decide) (fun c17t => ?_) (fun c17f => ?_)
        · skip
          refine lv_iconst (v := 1) hx hb d_C_isFromAlu_34 (by decide) ?_
          refine lv_goto (tgt := 39) hx hb d_C_isFromAlu_35 (by decide) ?_
          exact rdZ X hr hlk d_C_isFromAlu_39 (by decide) (if_pos (Or.inr (Or.inr (Or.inr (Or.inl c17t))))).symm
        · skip
          refine lv_iload_n hx hb d_C_isFromAlu_20 rfl (lv_at hl 0 rfl) ?_
          refine lv_i2l hx hb d_C_isFromAlu_21 rfl ?_
          refine lv_ldc2 hx hb hown (hts _ q_234) d_C_isFromAlu_22 ?_
          refine lv_ldc2 hx hb hown (hts _ q_235) d_C_isFromAlu_25 ?_
          refine callSt k_C_46 X (c_C_wn l x 10 12 (by decide) (by decide)) rfl rfl ⟨Nat.le_of_ble_eq_true rfl, Nat.le_of_ble_eq_true rfl⟩ ⟨Nat.zero_le _, Nat.zero_le _⟩ hl.1 rfl rfl (Nat.le_of_ble_eq_true rfl) d_C_isFromAlu_28 ?_
          refine lv_if_eq (tgt := 38) hx hb d_C_isFromAlu_31 (by decide) (fun c31t => ?_) (fun c31f => ?_)
          · skip
            refine lv_iconst (v := 0) hx hb d_C_isFromAlu_38 (by decide) ?_
            exact rdZ X hr hlk d_C_isFromAlu_39 (by decide) (if_neg (fun z => by rcases z with z | z | z | z | z <;> first | exact c1f z | exact c6f z | exact c11f z | exact c17f z | exact ite10.mp c31t z)).symm
          · skip
            refine lv_iconst (v := 1) hx hb d_C_isFromAlu_34 (by decide) ?_
            refine lv_goto (tgt := 39) hx hb d_C_isFromAlu_35 (by decide) ?_
            exact rdZ X hr hlk d_C_isFromAlu_39 (by decide) (if_pos (Or.inr (Or.inr (Or.inr (Or.inr (Decidable.not_not.mp (fun z => c31f (ite10.mpr z)))))))).symm
set_option maxRecDepth 100000 in
theorem c_K_isConstant (l : Launch) (D : va_G) {ad am sm : Nat → Nat} {kc : Nat → ClassId} {xt xl xc xm xi xn xa xy xb xw xo xs bu sh al ac : Int32} {con mem reg out wd pl ch dn wk : Nat → Int32} {i : Nat} (hi : i < 1024) : Met l y_K_isConstant (Cond.code y_K_isConstant b_K_isConstant 1 (some .boolean) :: gW) (rmD 0) (va_Pc [.ref (am i)] (bS D (wC ad kc am sm xt xl xc xm xi xn xa xy xb xw xo xs bu sh al ac con mem reg out wd pl ch dn wk) (tysC kc))) (QcRead (cnF (mF1 (wd i)) (mF2 (wd i)))) 0 0 (fun _ => False) := by
  refine startM (by decide) (Nat.le_of_ble_eq_true rfl) ?_
  intro p e s m below meth c ls X hr hlk hnm hB hl
  replace X : CallFix p m c b_K_isConstant 1 s _ gW R_K := X
  obtain ⟨hx, hb, hml, hown, hts⟩ := id X
  obtain ⟨hP, hK, hN⟩ := hB
  have Z : cxC p m c _ _ s _ R_K D kc := ⟨X, hK, hN⟩
  refine lv_aload_n hx hb d_K_isConstant_0 rfl (lv_at hl 0 rfl) ?_
  refine gKK_f1 Z hP hi d_K_isConstant_1 ?_
  refine lv_bipush (v := 7) hx hb d_K_isConstant_4 (by decide) ?_
  refine lv_icmp_eq (tgt := 18) hx hb d_K_isConstant_6 (by decide) (fun c6t => ?_) (fun c6f => ?_)
  · skip
    refine lv_iconst (v := 1) hx hb d_K_isConstant_18 (by decide) ?_
    refine lv_goto (tgt := 23) hx hb d_K_isConstant_19 (by decide) ?_
    exact rdZ X hr hlk d_K_isConstant_23 (by decide) (if_pos (Or.inl c6t)).symm
  · skip
    refine lv_aload_n hx hb d_K_isConstant_9 rfl (lv_at hl 0 rfl) ?_
    refine gKK_f2 Z hP hi d_K_isConstant_10 ?_
    refine lv_bipush (v := 7) hx hb d_K_isConstant_13 (by decide) ?_
    refine lv_icmp_ne (tgt := 22) hx hb d_K_isConstant_15 (by decide) (fun c15t => ?_) (fun c15f => ?_)
    · skip
      refine lv_iconst (v := 0) hx hb d_K_isConstant_22 (by decide) ?_
      exact rdZ X hr hlk d_K_isConstant_23 (by decide) (if_neg (fun z => by rcases z with z | z <;> first | exact c6f z | exact c15t z)).symm
    · skip
      refine lv_iconst (v := 1) hx hb d_K_isConstant_18 (by decide) ?_
      refine lv_goto (tgt := 23) hx hb d_K_isConstant_19 (by decide) ?_
      exact rdZ X hr hlk d_K_isConstant_23 (by decide) (if_pos (Or.inr c15f)).symm
set_option maxRecDepth 100000 in
theorem c_K_become (l : Launch) (D : va_G) {q : Nat} (v0 v1 v2 v3 v4 v5 v6 v7 w : Int32) : Met l y_K_become (Cond.code y_K_become b_K_become 2 none :: gW) (rmD 0) (va_Pc [.ref q, .int w] (bS D (w1 q v0 v1 v2 v3 v4 v5 v6 v7) [])) (qV (fun H => va_P D classes [(q, .inr (1, mf w))] H) (fun x => x = q)) 0 0 (fun x => x = q) := by
  refine startM (by decide) (Nat.le_of_ble_eq_true rfl) ?_
  intro p e s m below meth c ls X hr hlk hnm hB hl
  replace X : CallFix p m c b_K_become 2 s _ gW R_K := X
  obtain ⟨hx, hb, hml, hown, hts⟩ := id X
  obtain ⟨hP, hK, hN⟩ := hB
  have Z : CallFix p m c b_K_become 2 s _ gW R_K ∧ va_K D classes [] s ∧ nW s := ⟨X, hK, hN⟩
  have hO : True := trivial
  have hS : va_S (fun x => x = q) s.heap s.heap [] := va_S.rf
  suffices KK : ∀ (u v : Int32) (ls : Array Slot) (H : Heap) (locs : List Loc), lv_has ls 2 [(0, .ref q), (1, .int w)] → u = mLT w → v = mLL w → va_P D classes (w1 q (mRs w) (mAf w) (mBs w) (mF1 w) (mF2 w) u v v7) H → va_S (fun x => x = q) s.heap H locs → W p l e (rmD 0) s m [.ref q, .int w].toArray below meth c H locs 0 0 (MQ below (qV (fun H => va_P D classes [(q, .inr (1, mf w))] H) (fun x => x = q)) [.ref q, .int w].toArray s 0 0 (fun x => x = q)) (F0 m 90 ls []) by
    refine lv_aload_n hx hb d_K_become_0 rfl (lv_at hl 0 rfl) ?_
    refine lv_iload_n hx hb d_K_become_1 rfl (lv_at hl 1 rfl) ?_
    refine lv_bipush (v := 27) hx hb d_K_become_2 (by decide) ?_
    refine lv_iushr hx hb d_K_become_4 rfl ?_
    refine pKK_rsel Z hP hO hS  d_K_become_5 (fun H locs hP hS => ?_)
    refine lv_aload_n hx hb d_K_become_8 rfl (lv_at hl 0 rfl) ?_
    refine lv_iload_n hx hb d_K_become_9 rfl (lv_at hl 1 rfl) ?_
    refine lv_bipush (v := 23) hx hb d_K_become_10 (by decide) ?_
    refine lv_iushr hx hb d_K_become_12 rfl ?_
    refine lv_bipush (v := 15) hx hb d_K_become_13 (by decide) ?_
    refine lv_iand hx hb d_K_become_15 ?_
    refine pKK_aluf Z hP hO hS  d_K_become_16 (fun H locs hP hS => ?_)
    refine lv_aload_n hx hb d_K_become_19 rfl (lv_at hl 0 rfl) ?_
    refine lv_iload_n hx hb d_K_become_20 rfl (lv_at hl 1 rfl) ?_
    refine lv_bipush (v := 20) hx hb d_K_become_21 (by decide) ?_
    refine lv_iushr hx hb d_K_become_23 rfl ?_
    refine lv_bipush (v := 7) hx hb d_K_become_24 (by decide) ?_
    refine lv_iand hx hb d_K_become_26 ?_
    refine pKK_bs Z hP hO hS  d_K_become_27 (fun H locs hP hS => ?_)
    refine lv_aload_n hx hb d_K_become_30 rfl (lv_at hl 0 rfl) ?_
    refine lv_iload_n hx hb d_K_become_31 rfl (lv_at hl 1 rfl) ?_
    refine lv_bipush (v := 16) hx hb d_K_become_32 (by decide) ?_
    refine lv_iushr hx hb d_K_become_34 rfl ?_
    refine lv_bipush (v := 15) hx hb d_K_become_35 (by decide) ?_
    refine lv_iand hx hb d_K_become_37 ?_
    refine pKK_f1 Z hP hO hS  d_K_become_38 (fun H locs hP hS => ?_)
    refine lv_aload_n hx hb d_K_become_41 rfl (lv_at hl 0 rfl) ?_
    refine lv_iload_n hx hb d_K_become_42 rfl (lv_at hl 1 rfl) ?_
    refine lv_bipush (v := 12) hx hb d_K_become_43 (by decide) ?_
    refine lv_iushr hx hb d_K_become_45 rfl ?_
    refine lv_bipush (v := 15) hx hb d_K_become_46 (by decide) ?_
    refine lv_iand hx hb d_K_become_48 ?_
    refine pKK_f2 Z hP hO hS  d_K_become_49 (fun H locs hP hS => ?_)
    refine lv_aload_n hx hb d_K_become_52 rfl (lv_at hl 0 rfl) ?_
    refine lv_iload_n hx hb d_K_become_53 rfl (lv_at hl 1 rfl) ?_
    refine lv_bipush (v := 11) hx hb d_K_become_54 (by decide) ?_
    refine lv_ishr hx hb d_K_become_56 ?_
    refine lv_iconst (v := 1) hx hb d_K_become_57 (by decide) ?_
    refine lv_iand hx hb d_K_become_58 ?_
    refine lv_iconst (v := 1) hx hb d_K_become_59 (by decide) ?_
    refine lv_icmp_ne (tgt := 67) hx hb d_K_become_60 (by decide) (fun c60t => ?_) (fun c60f => ?_)
    · skip
      refine lv_iconst (v := 0) hx hb d_K_become_67 (by decide) ?_
      refine pKK_loadsT Z hP hO hS (by decide)  d_K_become_68 (fun H locs hP hS => ?_)
      refine lv_aload_n hx hb d_K_become_71 rfl (lv_at hl 0 rfl) ?_
      refine lv_iload_n hx hb d_K_become_72 rfl (lv_at hl 1 rfl) ?_
      refine lv_bipush (v := 10) hx hb d_K_become_73 (by decide) ?_
      refine lv_ishr hx hb d_K_become_75 ?_
      refine lv_iconst (v := 1) hx hb d_K_become_76 (by decide) ?_
      refine lv_iand hx hb d_K_become_77 ?_
      refine lv_iconst (v := 1) hx hb d_K_become_78 (by decide) ?_
      refine lv_icmp_ne (tgt := 86) hx hb d_K_become_79 (by decide) (fun c79t => ?_) (fun c79f => ?_)
      · skip
        refine lv_iconst (v := 0) hx hb d_K_become_86 (by decide) ?_
        refine pKK_loadsL Z hP hO hS (by decide)  d_K_become_87 (fun H locs hP hS => ?_)
        exact KK _ _ ls H locs hl ((if_neg c60t).symm) ((if_neg c79t).symm) hP hS
      · skip
        refine lv_iconst (v := 1) hx hb d_K_become_82 (by decide) ?_
        refine lv_goto (tgt := 87) hx hb d_K_become_83 (by decide) ?_
        refine pKK_loadsL Z hP hO hS (by decide)  d_K_become_87 (fun H locs hP hS => ?_)
        exact KK _ _ ls H locs hl ((if_neg c60t).symm) ((if_pos c79f).symm) hP hS
    · skip
      refine lv_iconst (v := 1) hx hb d_K_become_63 (by decide) ?_
      refine lv_goto (tgt := 68) hx hb d_K_become_64 (by decide) ?_
      refine pKK_loadsT Z hP hO hS (by decide)  d_K_become_68 (fun H locs hP hS => ?_)
      refine lv_aload_n hx hb d_K_become_71 rfl (lv_at hl 0 rfl) ?_
      refine lv_iload_n hx hb d_K_become_72 rfl (lv_at hl 1 rfl) ?_
      refine lv_bipush (v := 10) hx hb d_K_become_73 (by decide) ?_
      refine lv_ishr hx hb d_K_become_75 ?_
      refine lv_iconst (v := 1) hx hb d_K_become_76 (by decide) ?_
      refine lv_iand hx hb d_K_become_77 ?_
      refine lv_iconst (v := 1) hx hb d_K_become_78 (by decide) ?_
      refine lv_icmp_ne (tgt := 86) hx hb d_K_become_79 (by decide) (fun c79t => ?_) (fun c79f => ?_)
      · skip
        refine lv_iconst (v := 0) hx hb d_K_become_86 (by decide) ?_
        refine pKK_loadsL Z hP hO hS (by decide)  d_K_become_87 (fun H locs hP hS => ?_)
        exact KK _ _ ls H locs hl ((if_pos c60f).symm) ((if_neg c79t).symm) hP hS
      · skip
        refine lv_iconst (v := 1) hx hb d_K_become_82 (by decide) ?_
        refine lv_goto (tgt := 87) hx hb d_K_become_83 (by decide) ?_
        refine pKK_loadsL Z hP hO hS (by decide)  d_K_become_87 (fun H locs hP hS => ?_)
        exact KK _ _ ls H locs hl ((if_pos c60f).symm) ((if_pos c79f).symm) hP hS
  clear hP hS hl
  intro u v ls H locs hl eu ev hP hS
  subst eu; subst ev
  refine lv_aload_n hx hb d_K_become_90 rfl (lv_at hl 0 rfl) ?_
  refine lv_iload_n hx hb d_K_become_91 rfl (lv_at hl 1 rfl) ?_
  refine lv_sipush (v := 1023) hx hb d_K_become_92 (by decide) ?_
  refine lv_iand hx hb d_K_become_95 ?_
  refine pKK_next Z hP hO hS  d_K_become_96 (fun H locs hP hS => ?_)
  exact wrV X hr hlk hS d_K_become_99 hP
end
section
theorem nI_bv (x : Int32) : x = nI x.toBitVec.toNat := Int32.toBitVec_inj.mp (BitVec.eq_of_toNat_eq (by rw [pk_tn x.toBitVec.isLt]))
theorem mRs_e (w : Int32) : ∃ j : Nat, j < 32 ∧ mRs w = nI j := by
  refine ⟨w.toBitVec.toNat / 2 ^ 27, by have := w.toBitVec.isLt; omega, ?_⟩
  rw [nI_bv (mRs w)]
  congr 1
  exact pk_ushr w 27 27 (by decide)
theorem mBs_e (w : Int32) : ∃ j : Nat, j < 8 ∧ mBs w = nI j := pk_andE _ 3 (by decide)
theorem in_rs (w : Int32) : vp_in (mRs w) 32 := by
  obtain ⟨j, h, e⟩ := mRs_e w
  rw [e]; exact vp_in_nI h (by decide)
theorem in_8 (w : Int32) : vp_in (8 * mRs w + mBs w) 256 := by
  obtain ⟨j, h, e⟩ := mRs_e w
  obtain ⟨k, h2, e2⟩ := mBs_e w
  rw [e, e2, show (8 : Int32) = nI 8 from rfl, pk_mul, nI_add]
  exact vp_in_nI (by omega) (by decide)
theorem in_ma (x : Int32) : vp_in (x &&& 1023) 1024 := pk_andIn x 10 (by decide) (by decide)
theorem in_lt {x b : Int32} {n : Nat} (hb : b.toInt = n) (h0 : 0 ≤ x) (h : ¬ b ≤ x) : vp_in x n := by
  rw [vp_in_iff]
  have h1 := Int32.le_iff_toInt_le.mp h0
  have h2 : ¬ b.toInt ≤ x.toInt := fun z => h (Int32.le_iff_toInt_le.mpr z)
  have : (0 : Int32).toInt = 0 := rfl
  omega
set_option maxRecDepth 100000 in
theorem c_C_shift (l : Launch) (D : va_G) {A : Nat → Prop} {ad am sm : Nat → Nat} {kc : Nat → ClassId} (hO : okC A ad am sm) {xt xl xc xm xi xn xa xy xb xw xo xs bu sh al ac : Int32} {con mem reg out wd pl ch dn wk : Nat → Int32} (v : Int32) : Met l y_C_shift (Cond.code y_C_shift b_C_shift 2 none :: gW) (rmD 0) (va_Pc [.ref (ad 0), .int v] (bS D (wC ad kc am sm xt xl xc xm xi xn xa xy xb xw xo xs bu sh al ac con mem reg out wd pl ch dn wk) (tysC kc))) (qV (fun H => va_P D classes (wC ad kc am sm xt xl xc xm xi xn xa xy xb xw xo xs bu (shF v xl) al ac con mem reg out wd pl ch dn wk) H) A) 0 0 A := by
  refine startM (by decide) (Nat.le_of_ble_eq_true rfl) ?_
  intro p e s m below meth c ls X hr hlk hnm hB hl
  replace X : CallFix p m c b_C_shift 2 s _ gW R_C := X
  obtain ⟨hx, hb, hml, hown, hts⟩ := id X
  obtain ⟨hP, hK, hN⟩ := hB
  have Z : cxC p m c _ _ s _ R_C D kc := ⟨X, hK, hN⟩
  have hS : va_S A s.heap s.heap [] := va_S.rf
  refine lv_aload_n hx hb d_C_shift_0 rfl (lv_at hl 0 rfl) ?_
  refine lv_iload_n hx hb d_C_shift_1 rfl (lv_at hl 1 rfl) ?_
  refine lv_iconst (v := 4) hx hb d_C_shift_2 (by decide) ?_
  refine lv_icmp_ne (tgt := 18) hx hb d_C_shift_3 (by decide) (fun c3t => ?_) (fun c3f => ?_)
  · skip
    refine lv_iload_n hx hb d_C_shift_18 rfl (lv_at hl 1 rfl) ?_
    refine lv_iconst (v := 5) hx hb d_C_shift_19 (by decide) ?_
    refine lv_icmp_ne (tgt := 32) hx hb d_C_shift_20 (by decide) (fun c20t => ?_) (fun c20f => ?_)
    · skip
      refine lv_iload_n hx hb d_C_shift_32 rfl (lv_at hl 1 rfl) ?_
      refine lv_bipush (v := 6) hx hb d_C_shift_33 (by decide) ?_
      refine lv_icmp_ne (tgt := 59) hx hb d_C_shift_35 (by decide) (fun c35t => ?_) (fun c35f => ?_)
      · skip
        refine lv_aload_n hx hb d_C_shift_59 rfl (lv_at hl 0 rfl) ?_
        refine gC_l Z hP d_C_shift_60 ?_
        refine pC_sh Z hP hO hS d_C_shift_63 (fun H locs hP hS => ?_)
        exact wrV X hr hlk hS d_C_shift_66 (by simp only [shF, if_neg c3t, if_neg c20t, if_neg c35t]; exact hP)
      · skip
        refine lv_aload_n hx hb d_C_shift_38 rfl (lv_at hl 0 rfl) ?_
        refine gC_l Z hP d_C_shift_39 ?_
        refine lv_bipush (v := 8) hx hb d_C_shift_42 (by decide) ?_
        refine lv_ishl hx hb d_C_shift_44 ?_
        refine lv_ldc hx hb hown (hts _ q_159) d_C_shift_45 ?_
        refine lv_iand hx hb d_C_shift_47 ?_
        refine lv_aload_n hx hb d_C_shift_48 rfl (lv_at hl 0 rfl) ?_
        refine gC_l Z hP d_C_shift_49 ?_
        refine lv_bipush (v := 8) hx hb d_C_shift_52 (by decide) ?_
        refine lv_ishr hx hb d_C_shift_54 ?_
        refine lv_ior hx hb d_C_shift_55 ?_
        refine lv_goto (tgt := 63) hx hb d_C_shift_56 (by decide) ?_
        refine pC_sh Z hP hO hS d_C_shift_63 (fun H locs hP hS => ?_)
        exact wrV X hr hlk hS d_C_shift_66 (by simp only [shF, if_neg c3t, if_neg c20t, if_pos c35f]; exact hP)
    · skip
      refine lv_aload_n hx hb d_C_shift_23 rfl (lv_at hl 0 rfl) ?_
      refine gC_l Z hP d_C_shift_24 ?_
      refine lv_iconst (v := 1) hx hb d_C_shift_27 (by decide) ?_
      refine lv_ishr hx hb d_C_shift_28 ?_
      refine lv_goto (tgt := 63) hx hb d_C_shift_29 (by decide) ?_
      refine pC_sh Z hP hO hS d_C_shift_63 (fun H locs hP hS => ?_)
      exact wrV X hr hlk hS d_C_shift_66 (by simp only [shF, if_neg c3t, if_pos c20f]; exact hP)
  · skip
    refine lv_aload_n hx hb d_C_shift_6 rfl (lv_at hl 0 rfl) ?_
    refine gC_l Z hP d_C_shift_7 ?_
    refine lv_iconst (v := 1) hx hb d_C_shift_10 (by decide) ?_
    refine lv_ishl hx hb d_C_shift_11 ?_
    refine lv_ldc hx hb hown (hts _ q_159) d_C_shift_12 ?_
    refine lv_iand hx hb d_C_shift_14 ?_
    refine lv_goto (tgt := 63) hx hb d_C_shift_15 (by decide) ?_
    refine pC_sh Z hP hO hS d_C_shift_63 (fun H locs hP hS => ?_)
    exact wrV X hr hlk hS d_C_shift_66 (by simp only [shF, if_pos c3f]; exact hP)
set_option maxRecDepth 100000 in
theorem c_C_drive (l : Launch) (D : va_G) {A : Nat → Prop} {ad am sm : Nat → Nat} {kc : Nat → ClassId} (hO : okC A ad am sm) {xt xl xc xm xi xn xa xy xb xw xo xs bu sh al ac : Int32} {con mem reg out wd pl ch dn wk : Nat → Int32} {i : Nat} (hi : i < 1024) : Met l y_C_drive (Cond.code y_C_drive b_C_drive 2 none :: gW) (rmD 1) (va_Pc [.ref (ad 0), .ref (am i)] (bS D (wC ad kc am sm xt xl xc xm xi xn xa xy xb xw xo xs bu sh al ac con mem reg out wd pl ch dn wk) (tysC kc))) (qV (fun H => va_P D classes (wC ad kc am sm xt xl xc xm xi xn xa xy xb xw xo xs (buF (cnF (mF1 (wd i)) (mF2 (wd i))) (mRs (wd i)) (mBs (wd i)) xi xn xm xl con mem reg) sh al ac con mem reg out wd pl ch dn wk) H) A) 0 0 A := by
  refine startM (by decide) (Nat.le_of_ble_eq_true rfl) ?_
  intro p e s m below meth c ls X hr hlk hnm hB hl
  replace X : CallFix p m c b_C_drive 2 s _ gW R_C := X
  obtain ⟨hx, hb, hml, hown, hts⟩ := id X
  obtain ⟨hP, hK, hN⟩ := hB
  have Z : cxC p m c _ _ s _ R_C D kc := ⟨X, hK, hN⟩
  have hS : va_S A s.heap s.heap [] := va_S.rf
  refine lv_aload_n hx hb d_C_drive_0 rfl (lv_at hl 1 rfl) ?_
  refine callR k_C_83 X (c_K_isConstant l D hi) hP hK hN (va_recv hK hP (ci := 1) (q0 := 7 + i) rfl (wC_k hi)) rfl rfl ⟨Nat.le_of_ble_eq_true rfl, Nat.le_of_ble_eq_true rfl⟩ ⟨Nat.zero_le _, Nat.zero_le _⟩ hl.1 rfl rfl (Nat.le_of_ble_eq_true rfl) d_C_drive_1 ?_
  refine lv_if_eq (tgt := 29) hx hb d_C_drive_4 (by decide) (fun c4t => ?_) (fun c4f => ?_)
  · skip
    refine lv_aload_n hx hb d_C_drive_29 rfl (lv_at hl 1 rfl) ?_
    refine gK_bs Z hP hi d_C_drive_30 ?_
    by_cases c33_0 : mBs (wd i) = 0
    · refine lv_tableIn (off := 43) (tgt := 76) hx hb d_C_drive_33 (by rw [c33_0]; decide) (by rw [c33_0]; decide) (by rw [c33_0]; rfl) (by decide) ?_
      refine lv_aload_n hx hb d_C_drive_76 rfl (lv_at hl 0 rfl) ?_
      refine lv_aload_n hx hb d_C_drive_77 rfl (lv_at hl 0 rfl) ?_
      refine gC_registers Z hP d_C_drive_78 ?_
      refine lv_aload_n hx hb d_C_drive_81 rfl (lv_at hl 1 rfl) ?_
      refine gK_rsel Z hP hi d_C_drive_82 ?_
      refine lC_registers Z hP (in_rs _) d_C_drive_85 ?_
      refine pC_bus Z hP hO hS d_C_drive_86 (fun H locs hP hS => ?_)
      refine lv_goto (tgt := 170) hx hb d_C_drive_89 (by decide) ?_
      exact wrV X hr hlk hS d_C_drive_170 (by simp only [buF, if_pos c4t, if_pos c33_0]; exact hP)
    by_cases c33_1 : mBs (wd i) = 1
    · refine lv_tableIn (off := 59) (tgt := 92) hx hb d_C_drive_33 (by rw [c33_1]; decide) (by rw [c33_1]; decide) (by rw [c33_1]; rfl) (by decide) ?_
      refine lv_aload_n hx hb d_C_drive_92 rfl (lv_at hl 0 rfl) ?_
      refine lv_iconst (v := 0) hx hb d_C_drive_93 (by decide) ?_
      refine pC_bus Z hP hO hS d_C_drive_94 (fun H locs hP hS => ?_)
      refine lv_goto (tgt := 170) hx hb d_C_drive_97 (by decide) ?_
      exact wrV X hr hlk hS d_C_drive_170 (by simp only [buF, if_pos c4t, if_neg c33_0, if_pos c33_1]; exact hP)
    by_cases c33_2 : mBs (wd i) = 2
    · refine lv_tableIn (off := 67) (tgt := 100) hx hb d_C_drive_33 (by rw [c33_2]; decide) (by rw [c33_2]; decide) (by rw [c33_2]; rfl) (by decide) ?_
      refine lv_aload_n hx hb d_C_drive_100 rfl (lv_at hl 0 rfl) ?_
      refine lv_ldc hx hb hown (hts _ q_159) d_C_drive_101 ?_
      refine pC_bus Z hP hO hS d_C_drive_103 (fun H locs hP hS => ?_)
      refine lv_goto (tgt := 170) hx hb d_C_drive_106 (by decide) ?_
      exact wrV X hr hlk hS d_C_drive_170 (by simp only [buF, if_pos c4t, if_neg c33_0, if_neg c33_1, if_pos c33_2]; exact hP)
    by_cases c33_3 : mBs (wd i) = 3
    · refine lv_tableIn (off := 76) (tgt := 109) hx hb d_C_drive_33 (by rw [c33_3]; decide) (by rw [c33_3]; decide) (by rw [c33_3]; rfl) (by decide) ?_
      refine lv_aload_n hx hb d_C_drive_109 rfl (lv_at hl 0 rfl) ?_
      refine lv_aload_n hx hb d_C_drive_110 rfl (lv_at hl 0 rfl) ?_
      refine gC_input Z hP d_C_drive_111 ?_
      refine pC_bus Z hP hO hS d_C_drive_114 (fun H locs hP hS => ?_)
      refine lv_goto (tgt := 170) hx hb d_C_drive_117 (by decide) ?_
      exact wrV X hr hlk hS d_C_drive_170 (by simp only [buF, if_pos c4t, if_neg c33_0, if_neg c33_1, if_neg c33_2, if_pos c33_3]; exact hP)
    by_cases c33_4 : mBs (wd i) = 4
    · refine lv_tableIn (off := 87) (tgt := 120) hx hb d_C_drive_33 (by rw [c33_4]; decide) (by rw [c33_4]; decide) (by rw [c33_4]; rfl) (by decide) ?_
      refine lv_aload_n hx hb d_C_drive_120 rfl (lv_at hl 0 rfl) ?_
      refine lv_aload_n hx hb d_C_drive_121 rfl (lv_at hl 0 rfl) ?_
      refine gC_now Z hP d_C_drive_122 ?_
      refine pC_bus Z hP hO hS d_C_drive_125 (fun H locs hP hS => ?_)
      refine lv_goto (tgt := 170) hx hb d_C_drive_128 (by decide) ?_
      exact wrV X hr hlk hS d_C_drive_170 (by simp only [buF, if_pos c4t, if_neg c33_0, if_neg c33_1, if_neg c33_2, if_neg c33_3, if_pos c33_4]; exact hP)
    by_cases c33_5 : mBs (wd i) = 5
    · refine lv_tableIn (off := 98) (tgt := 131) hx hb d_C_drive_33 (by rw [c33_5]; decide) (by rw [c33_5]; decide) (by rw [c33_5]; rfl) (by decide) ?_
      refine lv_aload_n hx hb d_C_drive_131 rfl (lv_at hl 0 rfl) ?_
      refine lv_aload_n hx hb d_C_drive_132 rfl (lv_at hl 0 rfl) ?_
      refine gC_memory Z hP d_C_drive_133 ?_
      refine lv_aload_n hx hb d_C_drive_136 rfl (lv_at hl 0 rfl) ?_
      refine gC_mar Z hP d_C_drive_137 ?_
      refine lv_sipush (v := 1023) hx hb d_C_drive_140 (by decide) ?_
      refine lv_iand hx hb d_C_drive_143 ?_
      refine lC_memory Z hP (in_ma _) d_C_drive_144 ?_
      refine pC_bus Z hP hO hS d_C_drive_145 (fun H locs hP hS => ?_)
      refine lv_goto (tgt := 170) hx hb d_C_drive_148 (by decide) ?_
      exact wrV X hr hlk hS d_C_drive_170 (by simp only [buF, if_pos c4t, if_neg c33_0, if_neg c33_1, if_neg c33_2, if_neg c33_3, if_neg c33_4, if_pos c33_5]; exact hP)
    by_cases c33_6 : mBs (wd i) = 6
    · refine lv_tableIn (off := 118) (tgt := 151) hx hb d_C_drive_33 (by rw [c33_6]; decide) (by rw [c33_6]; decide) (by rw [c33_6]; rfl) (by decide) ?_
      refine lv_aload_n hx hb d_C_drive_151 rfl (lv_at hl 0 rfl) ?_
      refine lv_aload_n hx hb d_C_drive_152 rfl (lv_at hl 0 rfl) ?_
      refine gC_l Z hP d_C_drive_153 ?_
      refine pC_bus Z hP hO hS d_C_drive_156 (fun H locs hP hS => ?_)
      refine lv_goto (tgt := 170) hx hb d_C_drive_159 (by decide) ?_
      exact wrV X hr hlk hS d_C_drive_170 (by simp only [buF, if_pos c4t, if_neg c33_0, if_neg c33_1, if_neg c33_2, if_neg c33_3, if_neg c33_4, if_neg c33_5, if_pos c33_6]; exact hP)
    refine lv_tableOut (tgt := 162) hx hb d_C_drive_33 (sw_out 0 7 (fun k hk => by match k, hk with | 0, _ => exact c33_0 | 1, _ => exact c33_1 | 2, _ => exact c33_2 | 3, _ => exact c33_3 | 4, _ => exact c33_4 | 5, _ => exact c33_5 | 6, _ => exact c33_6)) (by decide) ?_
    refine lv_aload_n hx hb d_C_drive_162 rfl (lv_at hl 0 rfl) ?_
    refine lv_aload_n hx hb d_C_drive_163 rfl (lv_at hl 0 rfl) ?_
    refine gC_mar Z hP d_C_drive_164 ?_
    refine pC_bus Z hP hO hS d_C_drive_167 (fun H locs hP hS => ?_)
    exact wrV X hr hlk hS d_C_drive_170 (by simp only [buF, if_pos c4t, if_neg c33_0, if_neg c33_1, if_neg c33_2, if_neg c33_3, if_neg c33_4, if_neg c33_5, if_neg c33_6]; exact hP)
  · skip
    refine lv_aload_n hx hb d_C_drive_7 rfl (lv_at hl 0 rfl) ?_
    refine lv_aload_n hx hb d_C_drive_8 rfl (lv_at hl 0 rfl) ?_
    refine gC_constants Z hP d_C_drive_9 ?_
    refine lv_bipush (v := 8) hx hb d_C_drive_12 (by decide) ?_
    refine lv_aload_n hx hb d_C_drive_14 rfl (lv_at hl 1 rfl) ?_
    refine gK_rsel Z hP hi d_C_drive_15 ?_
    refine lv_imul hx hb d_C_drive_18 ?_
    refine lv_aload_n hx hb d_C_drive_19 rfl (lv_at hl 1 rfl) ?_
    refine gK_bs Z hP hi d_C_drive_20 ?_
    refine lv_iadd hx hb d_C_drive_23 ?_
    refine lC_constants Z hP (in_8 _) d_C_drive_24 ?_
    refine pC_bus Z hP hO hS d_C_drive_25 (fun H locs hP hS => ?_)
    exact wrV X hr hlk hS d_C_drive_28 (by simp only [buF, if_neg c4f]; exact hP)
set_option maxRecDepth 100000 in
theorem c_C_sum (l : Launch) (D : va_G) {A : Nat → Prop} {ad am sm : Nat → Nat} {kc : Nat → ClassId} (hO : okC A ad am sm) {xt xl xc xm xi xn xa xy xb xw xo xs bu sh al ac : Int32} {con mem reg out wd pl ch dn wk : Nat → Int32} (v : Int32) : Met l y_C_sum (Cond.code y_C_sum b_C_sum 2 none :: gW) (rmD 0) (va_Pc [.ref (ad 0), .int v] (bS D (wC ad kc am sm xt xl xc xm xi xn xa xy xb xw xo xs bu sh al ac con mem reg out wd pl ch dn wk) (tysC kc))) (qV (fun H => va_P D classes (wC ad kc am sm xt xl xc xm xi xn xa xy xb xw xo xs bu sh (smA v) (smC v) con mem reg out wd pl ch dn wk) H) A) 0 0 A := by
  refine startM (by decide) (Nat.le_of_ble_eq_true rfl) ?_
  intro p e s m below meth c ls X hr hlk hnm hB hl
  replace X : CallFix p m c b_C_sum 2 s _ gW R_C := X
  obtain ⟨hx, hb, hml, hown, hts⟩ := id X
  obtain ⟨hP, hK, hN⟩ := hB
  have Z : cxC p m c _ _ s _ R_C D kc := ⟨X, hK, hN⟩
  have hS : va_S A s.heap s.heap [] := va_S.rf
  refine lv_aload_n hx hb d_C_sum_0 rfl (lv_at hl 0 rfl) ?_
  refine lv_iload_n hx hb d_C_sum_1 rfl (lv_at hl 1 rfl) ?_
  refine lv_ldc hx hb hown (hts _ q_159) d_C_sum_2 ?_
  refine lv_iand hx hb d_C_sum_4 ?_
  refine pC_alu Z hP hO hS d_C_sum_5 (fun H locs hP hS => ?_)
  refine lv_aload_n hx hb d_C_sum_8 rfl (lv_at hl 0 rfl) ?_
  refine lv_iload_n hx hb d_C_sum_9 rfl (lv_at hl 1 rfl) ?_
  refine lv_bipush (v := 16) hx hb d_C_sum_10 (by decide) ?_
  refine lv_ishr hx hb d_C_sum_12 ?_
  refine lv_iconst (v := 1) hx hb d_C_sum_13 (by decide) ?_
  refine lv_iand hx hb d_C_sum_14 ?_
  refine pC_aluCarry Z hP hO hS d_C_sum_15 (fun H locs hP hS => ?_)
  exact wrV X hr hlk hS d_C_sum_18 hP
set_option maxRecDepth 100000 in
theorem c_C_difference (l : Launch) (D : va_G) {A : Nat → Prop} {ad am sm : Nat → Nat} {kc : Nat → ClassId} (hO : okC A ad am sm) {xt xl xc xm xi xn xa xy xb xw xo xs bu sh al ac : Int32} {con mem reg out wd pl ch dn wk : Nat → Int32} (v : Int32) : Met l y_C_difference (Cond.code y_C_difference b_C_difference 2 none :: gW) (rmD 0) (va_Pc [.ref (ad 0), .int v] (bS D (wC ad kc am sm xt xl xc xm xi xn xa xy xb xw xo xs bu sh al ac con mem reg out wd pl ch dn wk) (tysC kc))) (qV (fun H => va_P D classes (wC ad kc am sm xt xl xc xm xi xn xa xy xb xw xo xs bu sh (dfA bu v) (dfC bu v) con mem reg out wd pl ch dn wk) H) A) 0 0 A := by
  refine startM (by decide) (Nat.le_of_ble_eq_true rfl) ?_
  intro p e s m below meth c ls X hr hlk hnm hB hl
  replace X : CallFix p m c b_C_difference 2 s _ gW R_C := X
  obtain ⟨hx, hb, hml, hown, hts⟩ := id X
  obtain ⟨hP, hK, hN⟩ := hB
  have Z : cxC p m c _ _ s _ R_C D kc := ⟨X, hK, hN⟩
  have hS : va_S A s.heap s.heap [] := va_S.rf
  refine lv_aload_n hx hb d_C_difference_0 rfl (lv_at hl 0 rfl) ?_
  refine lv_aload_n hx hb d_C_difference_1 rfl (lv_at hl 0 rfl) ?_
  refine gC_bus Z hP d_C_difference_2 ?_
  refine lv_iload_n hx hb d_C_difference_5 rfl (lv_at hl 1 rfl) ?_
  refine lv_isub hx hb d_C_difference_6 ?_
  refine lv_ldc hx hb hown (hts _ q_159) d_C_difference_7 ?_
  refine lv_iand hx hb d_C_difference_9 ?_
  refine pC_alu Z hP hO hS d_C_difference_10 (fun H locs hP hS => ?_)
  refine lv_aload_n hx hb d_C_difference_13 rfl (lv_at hl 0 rfl) ?_
  refine lv_aload_n hx hb d_C_difference_14 rfl (lv_at hl 0 rfl) ?_
  refine gC_bus Z hP d_C_difference_15 ?_
  refine lv_iload_n hx hb d_C_difference_18 rfl (lv_at hl 1 rfl) ?_
  refine lv_icmp_lt (tgt := 26) hx hb d_C_difference_19 (by decide) (fun c19t => ?_) (fun c19f => ?_)
  · skip
    refine lv_iconst (v := 0) hx hb d_C_difference_26 (by decide) ?_
    refine pC_aluCarry Z hP hO hS d_C_difference_27 (fun H locs hP hS => ?_)
    exact wrV X hr hlk hS d_C_difference_30 (by simp only [dfC, if_pos c19t]; exact hP)
  · skip
    refine lv_iconst (v := 1) hx hb d_C_difference_22 (by decide) ?_
    refine lv_goto (tgt := 27) hx hb d_C_difference_23 (by decide) ?_
    refine pC_aluCarry Z hP hO hS d_C_difference_27 (fun H locs hP hS => ?_)
    exact wrV X hr hlk hS d_C_difference_30 (by simp only [dfC, if_neg c19f]; exact hP)
set_option maxRecDepth 100000 in
theorem c_C_reckon (l : Launch) (D : va_G) {A : Nat → Prop} {ad am sm : Nat → Nat} {kc : Nat → ClassId} (hO : okC A ad am sm) {xt xl xc xm xi xn xa xy xb xw xo xs bu sh al ac : Int32} {con mem reg out wd pl ch dn wk : Nat → Int32} (v : Int32) : Met l y_C_reckon (Cond.code y_C_reckon b_C_reckon 2 none :: gW) (rmD 1) (va_Pc [.ref (ad 0), .int v] (bS D (wC ad kc am sm xt xl xc xm xi xn xa xy xb xw xo xs bu sh al ac con mem reg out wd pl ch dn wk) (tysC kc))) (qV (fun H => va_P D classes (wC ad kc am sm xt xl xc xm xi xn xa xy xb xw xo xs bu sh (alF v bu xt xc) (acF v bu xt xc) con mem reg out wd pl ch dn wk) H) A) 0 0 A := by
  refine startM (by decide) (Nat.le_of_ble_eq_true rfl) ?_
  intro p e s m below meth c ls X hr hlk hnm hB hl
  replace X : CallFix p m c b_C_reckon 2 s _ gW R_C := X
  obtain ⟨hx, hb, hml, hown, hts⟩ := id X
  obtain ⟨hP, hK, hN⟩ := hB
  have Z : cxC p m c _ _ s _ R_C D kc := ⟨X, hK, hN⟩
  have hS : va_S A s.heap s.heap [] := va_S.rf
  refine lv_aload_n hx hb d_C_reckon_0 rfl (lv_at hl 0 rfl) ?_
  refine lv_iconst (v := 0) hx hb d_C_reckon_1 (by decide) ?_
  refine pC_aluCarry Z hP hO hS d_C_reckon_2 (fun H locs hP hS => ?_)
  refine lv_iload_n hx hb d_C_reckon_5 rfl (lv_at hl 1 rfl) ?_
  by_cases c6_0 : v = 0
  · refine lv_tableIn (off := 70) (tgt := 76) hx hb d_C_reckon_6 (by rw [c6_0]; decide) (by rw [c6_0]; decide) (by rw [c6_0]; rfl) (by decide) ?_
    refine lv_aload_n hx hb d_C_reckon_76 rfl (lv_at hl 0 rfl) ?_
    refine lv_aload_n hx hb d_C_reckon_77 rfl (lv_at hl 0 rfl) ?_
    refine gC_bus Z hP d_C_reckon_78 ?_
    refine pC_alu Z hP hO hS d_C_reckon_81 (fun H locs hP hS => ?_)
    refine lv_goto (tgt := 264) hx hb d_C_reckon_84 (by decide) ?_
    subst c6_0
    exact wrV X hr hlk hS d_C_reckon_264 hP
  by_cases c6_1 : v = 1
  · refine lv_tableIn (off := 81) (tgt := 87) hx hb d_C_reckon_6 (by rw [c6_1]; decide) (by rw [c6_1]; decide) (by rw [c6_1]; rfl) (by decide) ?_
    refine lv_aload_n hx hb d_C_reckon_87 rfl (lv_at hl 0 rfl) ?_
    refine lv_aload_n hx hb d_C_reckon_88 rfl (lv_at hl 0 rfl) ?_
    refine gC_t Z hP d_C_reckon_89 ?_
    refine pC_alu Z hP hO hS d_C_reckon_92 (fun H locs hP hS => ?_)
    refine lv_goto (tgt := 264) hx hb d_C_reckon_95 (by decide) ?_
    subst c6_1
    exact wrV X hr hlk hS d_C_reckon_264 hP
  by_cases c6_2 : v = 2
  · refine lv_tableIn (off := 92) (tgt := 98) hx hb d_C_reckon_6 (by rw [c6_2]; decide) (by rw [c6_2]; decide) (by rw [c6_2]; rfl) (by decide) ?_
    refine lv_aload_n hx hb d_C_reckon_98 rfl (lv_at hl 0 rfl) ?_
    refine lv_aload_n hx hb d_C_reckon_99 rfl (lv_at hl 0 rfl) ?_
    refine gC_bus Z hP d_C_reckon_100 ?_
    refine lv_aload_n hx hb d_C_reckon_103 rfl (lv_at hl 0 rfl) ?_
    refine gC_t Z hP d_C_reckon_104 ?_
    refine lv_ior hx hb d_C_reckon_107 ?_
    refine pC_alu Z hP hO hS d_C_reckon_108 (fun H locs hP hS => ?_)
    refine lv_goto (tgt := 264) hx hb d_C_reckon_111 (by decide) ?_
    subst c6_2
    exact wrV X hr hlk hS d_C_reckon_264 hP
  by_cases c6_3 : v = 3
  · refine lv_tableIn (off := 108) (tgt := 114) hx hb d_C_reckon_6 (by rw [c6_3]; decide) (by rw [c6_3]; decide) (by rw [c6_3]; rfl) (by decide) ?_
    refine lv_aload_n hx hb d_C_reckon_114 rfl (lv_at hl 0 rfl) ?_
    refine lv_aload_n hx hb d_C_reckon_115 rfl (lv_at hl 0 rfl) ?_
    refine gC_bus Z hP d_C_reckon_116 ?_
    refine lv_aload_n hx hb d_C_reckon_119 rfl (lv_at hl 0 rfl) ?_
    refine gC_t Z hP d_C_reckon_120 ?_
    refine lv_iand hx hb d_C_reckon_123 ?_
    refine pC_alu Z hP hO hS d_C_reckon_124 (fun H locs hP hS => ?_)
    refine lv_goto (tgt := 264) hx hb d_C_reckon_127 (by decide) ?_
    subst c6_3
    exact wrV X hr hlk hS d_C_reckon_264 hP
  by_cases c6_4 : v = 4
  · refine lv_tableIn (off := 124) (tgt := 130) hx hb d_C_reckon_6 (by rw [c6_4]; decide) (by rw [c6_4]; decide) (by rw [c6_4]; rfl) (by decide) ?_
    refine lv_aload_n hx hb d_C_reckon_130 rfl (lv_at hl 0 rfl) ?_
    refine lv_aload_n hx hb d_C_reckon_131 rfl (lv_at hl 0 rfl) ?_
    refine gC_bus Z hP d_C_reckon_132 ?_
    refine lv_aload_n hx hb d_C_reckon_135 rfl (lv_at hl 0 rfl) ?_
    refine gC_t Z hP d_C_reckon_136 ?_
    refine lv_ixor hx hb d_C_reckon_139 ?_
    refine pC_alu Z hP hO hS d_C_reckon_140 (fun H locs hP hS => ?_)
    refine lv_goto (tgt := 264) hx hb d_C_reckon_143 (by decide) ?_
    subst c6_4
    exact wrV X hr hlk hS d_C_reckon_264 hP
  by_cases c6_5 : v = 5
  · refine lv_tableIn (off := 140) (tgt := 146) hx hb d_C_reckon_6 (by rw [c6_5]; decide) (by rw [c6_5]; decide) (by rw [c6_5]; rfl) (by decide) ?_
    refine lv_aload_n hx hb d_C_reckon_146 rfl (lv_at hl 0 rfl) ?_
    refine lv_aload_n hx hb d_C_reckon_147 rfl (lv_at hl 0 rfl) ?_
    refine gC_bus Z hP d_C_reckon_148 ?_
    refine lv_iconst (v := 1) hx hb d_C_reckon_151 (by decide) ?_
    refine lv_iadd hx hb d_C_reckon_152 ?_
    refine callWv k_C_117 X (c_C_sum l D hO _) hP hK hN hS (va_recv hK hP (ci := 0) (q0 := 0) rfl rfl) rfl rfl ⟨Nat.le_of_ble_eq_true rfl, Nat.le_of_ble_eq_true rfl⟩ ⟨Nat.zero_le _, Nat.zero_le _⟩ hl.1 rfl rfl (Nat.le_of_ble_eq_true rfl) d_C_reckon_153 (fun H locs hP hS => ?_)
    refine lv_goto (tgt := 264) hx hb d_C_reckon_156 (by decide) ?_
    subst c6_5
    exact wrV X hr hlk hS d_C_reckon_264 hP
  by_cases c6_6 : v = 6
  · refine lv_tableIn (off := 153) (tgt := 159) hx hb d_C_reckon_6 (by rw [c6_6]; decide) (by rw [c6_6]; decide) (by rw [c6_6]; rfl) (by decide) ?_
    refine lv_aload_n hx hb d_C_reckon_159 rfl (lv_at hl 0 rfl) ?_
    refine lv_iconst (v := 1) hx hb d_C_reckon_160 (by decide) ?_
    refine callWv k_C_120 X (c_C_difference l D hO _) hP hK hN hS (va_recv hK hP (ci := 0) (q0 := 0) rfl rfl) rfl rfl ⟨Nat.le_of_ble_eq_true rfl, Nat.le_of_ble_eq_true rfl⟩ ⟨Nat.zero_le _, Nat.zero_le _⟩ hl.1 rfl rfl (Nat.le_of_ble_eq_true rfl) d_C_reckon_161 (fun H locs hP hS => ?_)
    refine lv_goto (tgt := 264) hx hb d_C_reckon_164 (by decide) ?_
    subst c6_6
    exact wrV X hr hlk hS d_C_reckon_264 hP
  by_cases c6_7 : v = 7
  · refine lv_tableIn (off := 161) (tgt := 167) hx hb d_C_reckon_6 (by rw [c6_7]; decide) (by rw [c6_7]; decide) (by rw [c6_7]; rfl) (by decide) ?_
    refine lv_aload_n hx hb d_C_reckon_167 rfl (lv_at hl 0 rfl) ?_
    refine lv_aload_n hx hb d_C_reckon_168 rfl (lv_at hl 0 rfl) ?_
    refine gC_bus Z hP d_C_reckon_169 ?_
    refine lv_aload_n hx hb d_C_reckon_172 rfl (lv_at hl 0 rfl) ?_
    refine gC_t Z hP d_C_reckon_173 ?_
    refine lv_iadd hx hb d_C_reckon_176 ?_
    refine callWv k_C_117 X (c_C_sum l D hO _) hP hK hN hS (va_recv hK hP (ci := 0) (q0 := 0) rfl rfl) rfl rfl ⟨Nat.le_of_ble_eq_true rfl, Nat.le_of_ble_eq_true rfl⟩ ⟨Nat.zero_le _, Nat.zero_le _⟩ hl.1 rfl rfl (Nat.le_of_ble_eq_true rfl) d_C_reckon_177 (fun H locs hP hS => ?_)
    refine lv_goto (tgt := 264) hx hb d_C_reckon_180 (by decide) ?_
    subst c6_7
    exact wrV X hr hlk hS d_C_reckon_264 hP
  by_cases c6_8 : v = 8
  · refine lv_tableIn (off := 177) (tgt := 183) hx hb d_C_reckon_6 (by rw [c6_8]; decide) (by rw [c6_8]; decide) (by rw [c6_8]; rfl) (by decide) ?_
    refine lv_aload_n hx hb d_C_reckon_183 rfl (lv_at hl 0 rfl) ?_
    refine lv_aload_n hx hb d_C_reckon_184 rfl (lv_at hl 0 rfl) ?_
    refine gC_t Z hP d_C_reckon_185 ?_
    refine callWv k_C_120 X (c_C_difference l D hO _) hP hK hN hS (va_recv hK hP (ci := 0) (q0 := 0) rfl rfl) rfl rfl ⟨Nat.le_of_ble_eq_true rfl, Nat.le_of_ble_eq_true rfl⟩ ⟨Nat.zero_le _, Nat.zero_le _⟩ hl.1 rfl rfl (Nat.le_of_ble_eq_true rfl) d_C_reckon_188 (fun H locs hP hS => ?_)
    refine lv_goto (tgt := 264) hx hb d_C_reckon_191 (by decide) ?_
    subst c6_8
    exact wrV X hr hlk hS d_C_reckon_264 hP
  by_cases c6_9 : v = 9
  · refine lv_tableIn (off := 188) (tgt := 194) hx hb d_C_reckon_6 (by rw [c6_9]; decide) (by rw [c6_9]; decide) (by rw [c6_9]; rfl) (by decide) ?_
    refine lv_aload_n hx hb d_C_reckon_194 rfl (lv_at hl 0 rfl) ?_
    refine lv_aload_n hx hb d_C_reckon_195 rfl (lv_at hl 0 rfl) ?_
    refine gC_t Z hP d_C_reckon_196 ?_
    refine lv_iconst (v := 1) hx hb d_C_reckon_199 (by decide) ?_
    refine lv_iadd hx hb d_C_reckon_200 ?_
    refine callWv k_C_120 X (c_C_difference l D hO _) hP hK hN hS (va_recv hK hP (ci := 0) (q0 := 0) rfl rfl) rfl rfl ⟨Nat.le_of_ble_eq_true rfl, Nat.le_of_ble_eq_true rfl⟩ ⟨Nat.zero_le _, Nat.zero_le _⟩ hl.1 rfl rfl (Nat.le_of_ble_eq_true rfl) d_C_reckon_201 (fun H locs hP hS => ?_)
    refine lv_goto (tgt := 264) hx hb d_C_reckon_204 (by decide) ?_
    subst c6_9
    exact wrV X hr hlk hS d_C_reckon_264 hP
  by_cases c6_10 : v = 10
  · refine lv_tableIn (off := 201) (tgt := 207) hx hb d_C_reckon_6 (by rw [c6_10]; decide) (by rw [c6_10]; decide) (by rw [c6_10]; rfl) (by decide) ?_
    refine lv_aload_n hx hb d_C_reckon_207 rfl (lv_at hl 0 rfl) ?_
    refine lv_aload_n hx hb d_C_reckon_208 rfl (lv_at hl 0 rfl) ?_
    refine gC_bus Z hP d_C_reckon_209 ?_
    refine lv_aload_n hx hb d_C_reckon_212 rfl (lv_at hl 0 rfl) ?_
    refine gC_t Z hP d_C_reckon_213 ?_
    refine lv_iadd hx hb d_C_reckon_216 ?_
    refine lv_iconst (v := 1) hx hb d_C_reckon_217 (by decide) ?_
    refine lv_iadd hx hb d_C_reckon_218 ?_
    refine callWv k_C_117 X (c_C_sum l D hO _) hP hK hN hS (va_recv hK hP (ci := 0) (q0 := 0) rfl rfl) rfl rfl ⟨Nat.le_of_ble_eq_true rfl, Nat.le_of_ble_eq_true rfl⟩ ⟨Nat.zero_le _, Nat.zero_le _⟩ hl.1 rfl rfl (Nat.le_of_ble_eq_true rfl) d_C_reckon_219 (fun H locs hP hS => ?_)
    refine lv_goto (tgt := 264) hx hb d_C_reckon_222 (by decide) ?_
    subst c6_10
    exact wrV X hr hlk hS d_C_reckon_264 hP
  by_cases c6_11 : v = 11
  · refine lv_tableIn (off := 219) (tgt := 225) hx hb d_C_reckon_6 (by rw [c6_11]; decide) (by rw [c6_11]; decide) (by rw [c6_11]; rfl) (by decide) ?_
    refine lv_aload_n hx hb d_C_reckon_225 rfl (lv_at hl 0 rfl) ?_
    refine lv_aload_n hx hb d_C_reckon_226 rfl (lv_at hl 0 rfl) ?_
    refine gC_bus Z hP d_C_reckon_227 ?_
    refine lv_aload_n hx hb d_C_reckon_230 rfl (lv_at hl 0 rfl) ?_
    refine gC_carry Z hP d_C_reckon_231 ?_
    refine lv_iadd hx hb d_C_reckon_234 ?_
    refine callWv k_C_117 X (c_C_sum l D hO _) hP hK hN hS (va_recv hK hP (ci := 0) (q0 := 0) rfl rfl) rfl rfl ⟨Nat.le_of_ble_eq_true rfl, Nat.le_of_ble_eq_true rfl⟩ ⟨Nat.zero_le _, Nat.zero_le _⟩ hl.1 rfl rfl (Nat.le_of_ble_eq_true rfl) d_C_reckon_235 (fun H locs hP hS => ?_)
    refine lv_goto (tgt := 264) hx hb d_C_reckon_238 (by decide) ?_
    subst c6_11
    exact wrV X hr hlk hS d_C_reckon_264 hP
  by_cases c6_12 : v = 12
  · refine lv_tableIn (off := 108) (tgt := 114) hx hb d_C_reckon_6 (by rw [c6_12]; decide) (by rw [c6_12]; decide) (by rw [c6_12]; rfl) (by decide) ?_
    refine lv_aload_n hx hb d_C_reckon_114 rfl (lv_at hl 0 rfl) ?_
    refine lv_aload_n hx hb d_C_reckon_115 rfl (lv_at hl 0 rfl) ?_
    refine gC_bus Z hP d_C_reckon_116 ?_
    refine lv_aload_n hx hb d_C_reckon_119 rfl (lv_at hl 0 rfl) ?_
    refine gC_t Z hP d_C_reckon_120 ?_
    refine lv_iand hx hb d_C_reckon_123 ?_
    refine pC_alu Z hP hO hS d_C_reckon_124 (fun H locs hP hS => ?_)
    refine lv_goto (tgt := 264) hx hb d_C_reckon_127 (by decide) ?_
    subst c6_12
    exact wrV X hr hlk hS d_C_reckon_264 hP
  by_cases c6_13 : v = 13
  · refine lv_tableIn (off := 235) (tgt := 241) hx hb d_C_reckon_6 (by rw [c6_13]; decide) (by rw [c6_13]; decide) (by rw [c6_13]; rfl) (by decide) ?_
    refine lv_aload_n hx hb d_C_reckon_241 rfl (lv_at hl 0 rfl) ?_
    refine lv_aload_n hx hb d_C_reckon_242 rfl (lv_at hl 0 rfl) ?_
    refine gC_bus Z hP d_C_reckon_243 ?_
    refine lv_aload_n hx hb d_C_reckon_246 rfl (lv_at hl 0 rfl) ?_
    refine gC_t Z hP d_C_reckon_247 ?_
    refine lv_iconst (v := (-1)) hx hb d_C_reckon_250 (by decide) ?_
    refine lv_ixor hx hb d_C_reckon_251 ?_
    refine lv_iand hx hb d_C_reckon_252 ?_
    refine pC_alu Z hP hO hS d_C_reckon_253 (fun H locs hP hS => ?_)
    refine lv_goto (tgt := 264) hx hb d_C_reckon_256 (by decide) ?_
    subst c6_13
    exact wrV X hr hlk hS d_C_reckon_264 hP
  refine lv_tableOut (tgt := 259) hx hb d_C_reckon_6 (sw_out 0 14 (fun k hk => by match k, hk with | 0, _ => exact c6_0 | 1, _ => exact c6_1 | 2, _ => exact c6_2 | 3, _ => exact c6_3 | 4, _ => exact c6_4 | 5, _ => exact c6_5 | 6, _ => exact c6_6 | 7, _ => exact c6_7 | 8, _ => exact c6_8 | 9, _ => exact c6_9 | 10, _ => exact c6_10 | 11, _ => exact c6_11 | 12, _ => exact c6_12 | 13, _ => exact c6_13)) (by decide) ?_
  refine lv_aload_n hx hb d_C_reckon_259 rfl (lv_at hl 0 rfl) ?_
  refine lv_iconst (v := 0) hx hb d_C_reckon_260 (by decide) ?_
  refine pC_alu Z hP hO hS d_C_reckon_261 (fun H locs hP hS => ?_)
  exact wrV X hr hlk hS d_C_reckon_264 (by simp only [alF, acF, if_neg c6_0, if_neg c6_1, if_neg c6_2, if_neg c6_3, if_neg c6_4, if_neg c6_5, if_neg c6_6, if_neg c6_7, if_neg c6_8, if_neg c6_9, if_neg c6_10, if_neg c6_11, if_neg c6_12, if_neg c6_13]; exact hP)
set_option maxRecDepth 100000 in
theorem c_C_change (l : Launch) (D : va_G) {ad am sm : Nat → Nat} {kc : Nat → ClassId} {xt xl xc xm xi xn xa xy xb xw xo xs bu sh al ac : Int32} {con mem reg out wd pl ch dn wk : Nat → Int32} (v : Int32) : Met l y_C_change (Cond.code y_C_change b_C_change 2 (some .int) :: gW) (rmD 0) (va_Pc [.ref (ad 0), .int v] (bS D (wC ad kc am sm xt xl xc xm xi xn xa xy xb xw xo xs bu sh al ac con mem reg out wd pl ch dn wk) (tysC kc))) (QcRead (chF v bu sh xc xi)) 0 0 (fun _ => False) := by
  refine startM (by decide) (Nat.le_of_ble_eq_true rfl) ?_
  intro p e s m below meth c ls X hr hlk hnm hB hl
  replace X : CallFix p m c b_C_change 2 s _ gW R_C := X
  obtain ⟨hx, hb, hml, hown, hts⟩ := id X
  obtain ⟨hP, hK, hN⟩ := hB
  have Z : cxC p m c _ _ s _ R_C D kc := ⟨X, hK, hN⟩
  refine lv_iload_n hx hb d_C_change_0 rfl (lv_at hl 1 rfl) ?_
  by_cases c1_1 : v = 1
  · refine lv_tableIn (off := 47) (tgt := 48) hx hb d_C_change_1 (by rw [c1_1]; decide) (by rw [c1_1]; decide) (by rw [c1_1]; rfl) (by decide) ?_
    refine lv_aload_n hx hb d_C_change_48 rfl (lv_at hl 0 rfl) ?_
    refine gC_bus Z hP d_C_change_49 ?_
    refine lv_if_ne (tgt := 59) hx hb d_C_change_52 (by decide) (fun c52t => ?_) (fun c52f => ?_)
    · skip
      refine lv_iconst (v := 0) hx hb d_C_change_59 (by decide) ?_
      exact rdI X hr hlk d_C_change_60 (by simp only [chF, if_pos c1_1, if_neg c52t])
    · skip
      refine lv_iconst (v := 1) hx hb d_C_change_55 (by decide) ?_
      refine lv_goto (tgt := 60) hx hb d_C_change_56 (by decide) ?_
      exact rdI X hr hlk d_C_change_60 (by simp only [chF, if_pos c1_1, if_pos c52f])
  by_cases c1_2 : v = 2
  · refine lv_tableIn (off := 60) (tgt := 61) hx hb d_C_change_1 (by rw [c1_2]; decide) (by rw [c1_2]; decide) (by rw [c1_2]; rfl) (by decide) ?_
    refine lv_aload_n hx hb d_C_change_61 rfl (lv_at hl 0 rfl) ?_
    refine gC_sh Z hP d_C_change_62 ?_
    refine lv_ldc hx hb hown (hts _ q_226) d_C_change_65 ?_
    refine lv_iand hx hb d_C_change_67 ?_
    refine lv_if_eq (tgt := 75) hx hb d_C_change_68 (by decide) (fun c68t => ?_) (fun c68f => ?_)
    · skip
      refine lv_iconst (v := 0) hx hb d_C_change_75 (by decide) ?_
      exact rdI X hr hlk d_C_change_76 (by simp only [chF, if_neg c1_1, if_pos c1_2, if_pos c68t])
    · skip
      refine lv_iconst (v := 1) hx hb d_C_change_71 (by decide) ?_
      refine lv_goto (tgt := 76) hx hb d_C_change_72 (by decide) ?_
      exact rdI X hr hlk d_C_change_76 (by simp only [chF, if_neg c1_1, if_pos c1_2, if_neg c68f])
  by_cases c1_3 : v = 3
  · refine lv_tableIn (off := 76) (tgt := 77) hx hb d_C_change_1 (by rw [c1_3]; decide) (by rw [c1_3]; decide) (by rw [c1_3]; rfl) (by decide) ?_
    refine lv_aload_n hx hb d_C_change_77 rfl (lv_at hl 0 rfl) ?_
    refine gC_sh Z hP d_C_change_78 ?_
    refine lv_if_ne (tgt := 88) hx hb d_C_change_81 (by decide) (fun c81t => ?_) (fun c81f => ?_)
    · skip
      refine lv_iconst (v := 0) hx hb d_C_change_88 (by decide) ?_
      exact rdI X hr hlk d_C_change_89 (by simp only [chF, if_neg c1_1, if_neg c1_2, if_pos c1_3, if_neg c81t])
    · skip
      refine lv_iconst (v := 1) hx hb d_C_change_84 (by decide) ?_
      refine lv_goto (tgt := 89) hx hb d_C_change_85 (by decide) ?_
      exact rdI X hr hlk d_C_change_89 (by simp only [chF, if_neg c1_1, if_neg c1_2, if_pos c1_3, if_pos c81f])
  by_cases c1_4 : v = 4
  · refine lv_tableIn (off := 89) (tgt := 90) hx hb d_C_change_1 (by rw [c1_4]; decide) (by rw [c1_4]; decide) (by rw [c1_4]; rfl) (by decide) ?_
    refine lv_aload_n hx hb d_C_change_90 rfl (lv_at hl 0 rfl) ?_
    refine gC_bus Z hP d_C_change_91 ?_
    refine lv_sipush (v := 1023) hx hb d_C_change_94 (by decide) ?_
    refine lv_iand hx hb d_C_change_97 ?_
    exact rdI X hr hlk d_C_change_98 (by simp only [chF, if_neg c1_1, if_neg c1_2, if_neg c1_3, if_pos c1_4])
  by_cases c1_5 : v = 5
  · refine lv_tableIn (off := 98) (tgt := 99) hx hb d_C_change_1 (by rw [c1_5]; decide) (by rw [c1_5]; decide) (by rw [c1_5]; rfl) (by decide) ?_
    refine lv_aload_n hx hb d_C_change_99 rfl (lv_at hl 0 rfl) ?_
    refine gC_carry Z hP d_C_change_100 ?_
    exact rdI X hr hlk d_C_change_103 (by simp only [chF, if_neg c1_1, if_neg c1_2, if_neg c1_3, if_neg c1_4, if_pos c1_5])
  by_cases c1_6 : v = 6
  · refine lv_tableIn (off := 110) (tgt := 111) hx hb d_C_change_1 (by rw [c1_6]; decide) (by rw [c1_6]; decide) (by rw [c1_6]; rfl) (by decide) ?_
    refine lv_iconst (v := 0) hx hb d_C_change_111 (by decide) ?_
    subst c1_6
    exact rdI X hr hlk d_C_change_112 rfl
  by_cases c1_7 : v = 7
  · refine lv_tableIn (off := 110) (tgt := 111) hx hb d_C_change_1 (by rw [c1_7]; decide) (by rw [c1_7]; decide) (by rw [c1_7]; rfl) (by decide) ?_
    refine lv_iconst (v := 0) hx hb d_C_change_111 (by decide) ?_
    subst c1_7
    exact rdI X hr hlk d_C_change_112 rfl
  by_cases c1_8 : v = 8
  · refine lv_tableIn (off := 103) (tgt := 104) hx hb d_C_change_1 (by rw [c1_8]; decide) (by rw [c1_8]; decide) (by rw [c1_8]; rfl) (by decide) ?_
    refine lv_aload_n hx hb d_C_change_104 rfl (lv_at hl 0 rfl) ?_
    refine gC_input Z hP d_C_change_105 ?_
    refine lv_iconst (v := 1) hx hb d_C_change_108 (by decide) ?_
    refine lv_iand hx hb d_C_change_109 ?_
    exact rdI X hr hlk d_C_change_110 (by simp only [chF, if_neg c1_1, if_neg c1_2, if_neg c1_3, if_neg c1_4, if_neg c1_5, if_neg c1_6, if_neg c1_7, if_pos c1_8])
  refine lv_tableOut (tgt := 111) hx hb d_C_change_1 (sw_out 1 8 (fun k hk => by match k, hk with | 0, _ => exact c1_1 | 1, _ => exact c1_2 | 2, _ => exact c1_3 | 3, _ => exact c1_4 | 4, _ => exact c1_5 | 5, _ => exact c1_6 | 6, _ => exact c1_7 | 7, _ => exact c1_8)) (by decide) ?_
  refine lv_iconst (v := 0) hx hb d_C_change_111 (by decide) ?_
  exact rdI X hr hlk d_C_change_112 (by simp only [chF, if_neg c1_1, if_neg c1_2, if_neg c1_3, if_neg c1_4, if_neg c1_5, if_neg c1_6, if_neg c1_7, if_neg c1_8])
set_option maxRecDepth 100000 in
theorem c_C_send (l : Launch) (D : va_G) {A : Nat → Prop} {ad am sm : Nat → Nat} {kc : Nat → ClassId} (hO : okC A ad am sm) {xt xl xc xm xi xn xa xy xb xw xo xs bu sh al ac : Int32} {con mem reg out wd pl ch dn wk : Nat → Int32} (ho : 0 ≤ xo) : Met l y_C_send (Cond.code y_C_send b_C_send 1 none :: gW) (rmD 0) (va_Pc [.ref (ad 0)] (bS D (wC ad kc am sm xt xl xc xm xi xn xa xy xb xw xo xs bu sh al ac con mem reg out wd pl ch dn wk) (tysC kc))) (qV (fun H => va_P D classes (wC ad kc am sm xt xl xc xm xi xn xa xy xb xw (xo + 1) xs bu sh al ac con mem reg (if 500 ≤ xo then out else upd out xo.toNatClampNeg bu) wd pl ch dn wk) H) A) 0 0 A := by
  refine startM (by decide) (Nat.le_of_ble_eq_true rfl) ?_
  intro p e s m below meth c ls X hr hlk hnm hB hl
  replace X : CallFix p m c b_C_send 1 s _ gW R_C := X
  obtain ⟨hx, hb, hml, hown, hts⟩ := id X
  obtain ⟨hP, hK, hN⟩ := hB
  have Z : cxC p m c _ _ s _ R_C D kc := ⟨X, hK, hN⟩
  have hS : va_S A s.heap s.heap [] := va_S.rf
  refine lv_aload_n hx hb d_C_send_0 rfl (lv_at hl 0 rfl) ?_
  refine gC_out Z hP d_C_send_1 ?_
  refine lv_sipush (v := 500) hx hb d_C_send_4 (by decide) ?_
  refine lv_icmp_ge (tgt := 23) hx hb d_C_send_7 (by decide) (fun c7t => ?_) (fun c7f => ?_)
  · skip
    refine lv_aload_n hx hb d_C_send_23 rfl (lv_at hl 0 rfl) ?_
    refine lv_dup hx hb d_C_send_24 rfl ?_
    refine gC_out Z hP d_C_send_25 ?_
    refine lv_iconst (v := 1) hx hb d_C_send_28 (by decide) ?_
    refine lv_iadd hx hb d_C_send_29 ?_
    refine pC_out Z hP hO hS d_C_send_30 (fun H locs hP hS => ?_)
    exact wrV X hr hlk hS d_C_send_33 (by simp only [if_pos c7t]; exact hP)
  · skip
    refine lv_aload_n hx hb d_C_send_10 rfl (lv_at hl 0 rfl) ?_
    refine gC_outs Z hP d_C_send_11 ?_
    refine lv_aload_n hx hb d_C_send_14 rfl (lv_at hl 0 rfl) ?_
    refine gC_out Z hP d_C_send_15 ?_
    refine lv_aload_n hx hb d_C_send_18 rfl (lv_at hl 0 rfl) ?_
    refine gC_bus Z hP d_C_send_19 ?_
    refine sC_outs Z hP hO hS (in_lt rfl ho c7f) d_C_send_22 (fun H locs hP hS => ?_)
    refine lv_aload_n hx hb d_C_send_23 rfl (lv_at hl 0 rfl) ?_
    refine lv_dup hx hb d_C_send_24 rfl ?_
    refine gC_out Z hP d_C_send_25 ?_
    refine lv_iconst (v := 1) hx hb d_C_send_28 (by decide) ?_
    refine lv_iadd hx hb d_C_send_29 ?_
    refine pC_out Z hP hO hS d_C_send_30 (fun H locs hP hS => ?_)
    exact wrV X hr hlk hS d_C_send_33 (by simp only [if_neg c7f]; exact hP)
set_option maxRecDepth 100000 in
theorem c_C_isWaiting (l : Launch) (D : va_G) {ad am sm : Nat → Nat} {kc : Nat → ClassId} {xt xl xc xm xi xn xa xy xb xw xo xs bu sh al ac : Int32} {con mem reg out wd pl ch dn wk : Nat → Int32} {i : Nat} (hi : i < 1024) : Met l y_C_isWaiting (Cond.code y_C_isWaiting b_C_isWaiting 3 (some .boolean) :: gW) (rmD 1) (va_Pc [.ref (ad 0), .ref (am i)] (bS D (wC ad kc am sm xt xl xc xm xi xn xa xy xb xw xo xs bu sh al ac con mem reg out wd pl ch dn wk) (tysC kc))) (QcRead (wtF (mF1 (wd i)) (mBs (wd i)) (mF2 (wd i)) (xy - xb))) 0 0 (fun _ => False) := by
  refine startM (by decide) (Nat.le_of_ble_eq_true rfl) ?_
  intro p e s m below meth c ls X hr hlk hnm hB hl
  replace X : CallFix p m c b_C_isWaiting 3 s _ gW R_C := X
  obtain ⟨hx, hb, hml, hown, hts⟩ := id X
  obtain ⟨hP, hK, hN⟩ := hB
  have Z : cxC p m c _ _ s _ R_C D kc := ⟨X, hK, hN⟩
  refine lv_aload_n hx hb d_C_isWaiting_0 rfl (lv_at hl 0 rfl) ?_
  refine gC_cycle Z hP d_C_isWaiting_1 ?_
  refine lv_aload_n hx hb d_C_isWaiting_4 rfl (lv_at hl 0 rfl) ?_
  refine gC_began Z hP d_C_isWaiting_5 ?_
  refine lv_isub hx hb d_C_isWaiting_8 ?_
  refine lv_istore_n (lv' := [(2, _), (0, _), (1, _)]) hx hb d_C_isWaiting_9 rfl hl (by decide) rfl (fun ls hl => ?_)
  have K43 : ¬ (mF1 (wd i) = 1 ∧ xy - xb < 5) → ¬ (mBs (wd i) = 5 ∧ (cnF (mF1 (wd i)) (mF2 (wd i))) = 0 ∧ xy - xb < 4) → W p l e (rmD 1) s m [.ref (ad 0), .ref (am i)].toArray below meth c s.heap [] 0 0 (MQ below (QcRead (wtF (mF1 (wd i)) (mBs (wd i)) (mF2 (wd i)) (xy - xb))) [.ref (ad 0), .ref (am i)].toArray s 0 0 (fun _ => False)) (F0 m 43 ls []) := by
    intro n1 n2
    refine lv_aload_n hx hb d_C_isWaiting_43 rfl (lv_at hl 2 rfl) ?_
    refine gK_f2 Z hP hi d_C_isWaiting_44 ?_
    refine lv_bipush (v := 6) hx hb d_C_isWaiting_47 (by decide) ?_
    refine lv_icmp_ne (tgt := 61) hx hb d_C_isWaiting_49 (by decide) (fun c49t => ?_) (fun c49f => ?_)
    · skip
      refine lv_iconst (v := 0) hx hb d_C_isWaiting_61 (by decide) ?_
      exact rdZ X hr hlk d_C_isWaiting_62 (by decide) (if_neg (fun z => by rcases z with z | z | z; exact n1 z; exact n2 z; exact c49t z.1)).symm
    · skip
      refine lv_iload_n hx hb d_C_isWaiting_52 rfl (lv_at hl 0 rfl) ?_
      refine lv_iconst (v := 2) hx hb d_C_isWaiting_53 (by decide) ?_
      refine lv_icmp_ge (tgt := 61) hx hb d_C_isWaiting_54 (by decide) (fun c54t => ?_) (fun c54f => ?_)
      · skip
        refine lv_iconst (v := 0) hx hb d_C_isWaiting_61 (by decide) ?_
        exact rdZ X hr hlk d_C_isWaiting_62 (by decide) (if_neg (fun z => by rcases z with z | z | z; exact n1 z; exact n2 z; exact absurd z.2 ((l32 _ _).mpr c54t))).symm
      · skip
        refine lv_iconst (v := 1) hx hb d_C_isWaiting_57 (by decide) ?_
        refine lv_goto (tgt := 62) hx hb d_C_isWaiting_58 (by decide) ?_
        exact rdZ X hr hlk d_C_isWaiting_62 (by decide) (if_pos (Or.inr (Or.inr ⟨c49f, (l32' _ _).mp c54f⟩))).symm
  have K23 : ¬ (mF1 (wd i) = 1 ∧ xy - xb < 5) → W p l e (rmD 1) s m [.ref (ad 0), .ref (am i)].toArray below meth c s.heap [] 0 0 (MQ below (QcRead (wtF (mF1 (wd i)) (mBs (wd i)) (mF2 (wd i)) (xy - xb))) [.ref (ad 0), .ref (am i)].toArray s 0 0 (fun _ => False)) (F0 m 23 ls []) := by
    intro n1
    refine lv_aload_n hx hb d_C_isWaiting_23 rfl (lv_at hl 2 rfl) ?_
    refine gK_bs Z hP hi d_C_isWaiting_24 ?_
    refine lv_iconst (v := 5) hx hb d_C_isWaiting_27 (by decide) ?_
    refine lv_icmp_ne (tgt := 43) hx hb d_C_isWaiting_28 (by decide) (fun c28t => ?_) (fun c28f => ?_)
    · skip
      exact K43 n1 (fun z => c28t z.1)
    · skip
      refine lv_aload_n hx hb d_C_isWaiting_31 rfl (lv_at hl 2 rfl) ?_
      refine callR k_C_83 X (c_K_isConstant l D hi) hP hK hN (va_recv hK hP (ci := 1) (q0 := 7 + i) rfl (wC_k hi)) rfl rfl ⟨Nat.le_of_ble_eq_true rfl, Nat.le_of_ble_eq_true rfl⟩ ⟨Nat.zero_le _, Nat.zero_le _⟩ hl.1 rfl rfl (Nat.le_of_ble_eq_true rfl) d_C_isWaiting_32 ?_
      refine lv_if_ne (tgt := 43) hx hb d_C_isWaiting_35 (by decide) (fun c35t => ?_) (fun c35f => ?_)
      · skip
        exact K43 n1 (fun z => c35t z.2.1)
      · skip
        refine lv_iload_n hx hb d_C_isWaiting_38 rfl (lv_at hl 0 rfl) ?_
        refine lv_iconst (v := 4) hx hb d_C_isWaiting_39 (by decide) ?_
        refine lv_icmp_lt (tgt := 57) hx hb d_C_isWaiting_40 (by decide) (fun c40t => ?_) (fun c40f => ?_)
        · skip
          refine lv_iconst (v := 1) hx hb d_C_isWaiting_57 (by decide) ?_
          refine lv_goto (tgt := 62) hx hb d_C_isWaiting_58 (by decide) ?_
          exact rdZ X hr hlk d_C_isWaiting_62 (by decide) (if_pos (Or.inr (Or.inl ⟨c28f, c35f, c40t⟩))).symm
        · skip
          exact K43 n1 (fun z => c40f z.2.2)
  refine lv_aload_n hx hb d_C_isWaiting_10 rfl (lv_at hl 2 rfl) ?_
  refine gK_f1 Z hP hi d_C_isWaiting_11 ?_
  refine lv_iconst (v := 1) hx hb d_C_isWaiting_14 (by decide) ?_
  refine lv_icmp_ne (tgt := 23) hx hb d_C_isWaiting_15 (by decide) (fun c15t => ?_) (fun c15f => ?_)
  · skip
    exact K23 (fun z => c15t z.1)
  · skip
    refine lv_iload_n hx hb d_C_isWaiting_18 rfl (lv_at hl 0 rfl) ?_
    refine lv_iconst (v := 5) hx hb d_C_isWaiting_19 (by decide) ?_
    refine lv_icmp_lt (tgt := 57) hx hb d_C_isWaiting_20 (by decide) (fun c20t => ?_) (fun c20f => ?_)
    · skip
      refine lv_iconst (v := 1) hx hb d_C_isWaiting_57 (by decide) ?_
      refine lv_goto (tgt := 62) hx hb d_C_isWaiting_58 (by decide) ?_
      exact rdZ X hr hlk d_C_isWaiting_62 (by decide) (if_pos (Or.inl ⟨c15f, c20t⟩)).symm
    · skip
      exact K23 (fun z => c20f z.2)
end
section
theorem sm_inj {A : Nat → Prop} {ad am sm : Nat → Nat} (hO : okC A ad am sm) {i j : Nat} (hi : i < 16) (hj : j < 16) (h : sm i = sm j) : i = j := by
  have z : Nat → Int32 := fun _ => 0
  have hD := hO (fun _ => 0) 0 0 0 0 0 0 0 0 0 0 0 0 0 0 0 0 z z z z z z z z z
  have h1 := hD.1 (1031 + i) (1031 + j) _ _ (wC_s hi) (wC_s hj) h
  omega
set_option maxRecDepth 100000 in
theorem c_C_greatest (l : Launch) (D : va_G) {ad am sm : Nat → Nat} {kc : Nat → ClassId} {xt xl xc xm xi xn xa xy xb xw xo xs bu sh al ac : Int32} {con mem reg out wd pl ch dn wk : Nat → Int32} (hw : ¬ wk 0 = 0) : Met l y_C_greatest (Cond.code y_C_greatest b_C_greatest 2 (some .int) :: gW) (rmD 0) (va_Pc [.ref (ad 0)] (bS D (wC ad kc am sm xt xl xc xm xi xn xa xy xb xw xo xs bu sh al ac con mem reg out wd pl ch dn wk) (tysC kc))) (QcRead (nI (grN wk 15))) 0 0 (fun _ => False) := by
  refine startM (by decide) (Nat.le_of_ble_eq_true rfl) ?_
  intro p e s m below meth c ls X hr hlk hnm hB hl
  replace X : CallFix p m c b_C_greatest 2 s _ gW R_C := X
  obtain ⟨hx, hb, hml, hown, hts⟩ := id X
  obtain ⟨hP, hK, hN⟩ := hB
  have Z : cxC p m c _ _ s _ R_C D kc := ⟨X, hK, hN⟩
  have K : ∀ k : Nat, k ≤ 15 → grN wk 15 = grN wk k → ∀ ls : Array Slot, lv_has ls 2 [(1, .int (nI k)), (0, .ref (ad 0))] → W p l e (rmD 0) s m [.ref (ad 0)].toArray below meth c s.heap [] 0 0 (MQ below (QcRead (nI (grN wk 15))) [.ref (ad 0)].toArray s 0 0 (fun _ => False)) (F0 m 3 ls []) := by
    intro k
    induction k with
    | zero =>
      intro hk hg ls hl
      refine lv_aload_n hx hb d_C_greatest_3 rfl (lv_at hl 1 rfl) ?_
      refine gC_strands Z hP d_C_greatest_4 ?_
      refine lv_iload_n hx hb d_C_greatest_7 rfl (lv_at hl 0 rfl) ?_
      refine lC_strands Z hP (vp_in_nI (n := 0) (N := 16) (by omega) (by decide)) d_C_greatest_8 ?_
      refine gS_woken Z hP (vp_lt (vp_in_nI (n := 0) (N := 16) (by omega) (by decide))) d_C_greatest_9 ?_
      refine lv_if_ne (tgt := 21) hx hb d_C_greatest_12 (by decide) (fun c12t => ?_) (fun c12f => ?_)
      · skip
        rw [nI_clamp (n := 0) (by omega)] at c12t
        refine lv_iload_n hx hb d_C_greatest_21 rfl (lv_at hl 0 rfl) ?_
        exact rdI X hr hlk d_C_greatest_22 (by rw [hg]; rfl)
      · skip
        rw [nI_clamp (n := 0) (by omega)] at c12f
        exact absurd c12f hw
    | succ k ih =>
      intro hk hg ls hl
      refine lv_aload_n hx hb d_C_greatest_3 rfl (lv_at hl 1 rfl) ?_
      refine gC_strands Z hP d_C_greatest_4 ?_
      refine lv_iload_n hx hb d_C_greatest_7 rfl (lv_at hl 0 rfl) ?_
      refine lC_strands Z hP (vp_in_nI (n := (k + 1)) (N := 16) (by omega) (by decide)) d_C_greatest_8 ?_
      refine gS_woken Z hP (vp_lt (vp_in_nI (n := (k + 1)) (N := 16) (by omega) (by decide))) d_C_greatest_9 ?_
      refine lv_if_ne (tgt := 21) hx hb d_C_greatest_12 (by decide) (fun c12t => ?_) (fun c12f => ?_)
      · skip
        rw [nI_clamp (n := (k + 1)) (by omega)] at c12t
        refine lv_iload_n hx hb d_C_greatest_21 rfl (lv_at hl 0 rfl) ?_
        exact rdI X hr hlk d_C_greatest_22 (by rw [hg]; simp only [grN, if_neg c12t])
      · skip
        rw [nI_clamp (n := (k + 1)) (by omega)] at c12f
        refine lv_iinc (lv' := [(1, _), (0, _)]) hx hb d_C_greatest_15 hl (k := 0) rfl rfl (by decide) rfl (fun ls hl => ?_)
        refine lv_goto (tgt := 3) hx hb d_C_greatest_18 (by decide) ?_
        exact ih (by omega) (by rw [hg]; simp only [grN, if_pos c12f]) ls (by rw [show nI (k + 1) + Int32.ofInt (-1) = nI k from pk_m1 k] at hl; exact hl)
  refine lv_bipush (v := 15) hx hb d_C_greatest_0 (by decide) ?_
  refine lv_istore_n (lv' := [(1, _), (0, _)]) hx hb d_C_greatest_2 rfl hl (by decide) rfl (fun ls hl => ?_)
  exact K 15 (by omega) rfl ls hl
set_option maxRecDepth 100000 in
theorem c_C_step (l : Launch) (D : va_G) {A : Nat → Prop} {ad am sm : Nat → Nat} {kc : Nat → ClassId} (hO : okC A ad am sm) {xt xl xc xm xi xn xa xy xb xw xo xs bu sh al ac : Int32} {con mem reg out wd pl ch dn wk : Nat → Int32} {i j : Nat} (hi : i < 1024) (hj : j < 16) (ho : 0 ≤ xo) {b h a r g : Int32} (eh : h = shF (mF1 (wd i)) xl) (eb : b = buF (cnF (mF1 (wd i)) (mF2 (wd i))) (mRs (wd i)) (mBs (wd i)) xi xn xm xl con mem reg) (ea : a = alF (mAf (wd i)) b xt xc) (er : r = acF (mAf (wd i)) b xt xc) (eg : g = chF (mF2 (wd i)) b h xc xi) : Met l y_C_step (Cond.code y_C_step b_C_step 4 none :: gW) (rmD 2) (va_Pc [.ref (ad 0), .ref (am i), .ref (sm j)] (bS D (wC ad kc am sm xt xl xc xm xi xn xa xy xb xw xo xs bu sh al ac con mem reg out wd pl ch dn wk) (tysC kc))) (qV (fun H => va_P D classes (wC ad kc am sm (if mLT (wd i) = 0 then xt else if isA (mAf (wd i)) = 0 then b else a) (if mLL (wd i) = 0 then xl else a) (if mLL (wd i) = 0 then xc else r) (if mF1 (wd i) = 1 then a else xm) xi xn xa xy (if mF1 (wd i) = 1 then xy else xb) xw (if mF1 (wd i) = 8 then xo + 1 else xo) xs (b) (h) (a) (r) con (if mF2 (wd i) = 6 then upd mem (xm &&& 1023).toNatClampNeg b else mem) (if mBs (wd i) = 1 ∧ (cnF (mF1 (wd i)) (mF2 (wd i))) = 0 then upd reg (mRs (wd i)).toNatClampNeg h else reg) (if mF1 (wd i) = 8 then (if 500 ≤ xo then out else upd out xo.toNatClampNeg b) else out) wd (upd pl j (mNx (wd i) ||| ch j)) (upd ch j g) (upd dn j (dn j + 1)) (if mF1 (wd i) = 3 then upd wk j (if j = 0 then 1 else 0) else wk)) H) A) 0 0 A := by
  refine startM (by decide) (Nat.le_of_ble_eq_true rfl) ?_
  intro p e s m below meth c ls X hr hlk hnm hB hl
  replace X : CallFix p m c b_C_step 4 s _ gW R_C := X
  obtain ⟨hx, hb, hml, hown, hts⟩ := id X
  obtain ⟨hP, hK, hN⟩ := hB
  have Z : cxC p m c _ _ s _ R_C D kc := ⟨X, hK, hN⟩
  have hS : va_S A s.heap s.heap [] := va_S.rf
  refine lv_aload_n hx hb d_C_step_0 rfl (lv_at hl 0 rfl) ?_
  refine lv_aload_n hx hb d_C_step_1 rfl (lv_at hl 1 rfl) ?_
  refine gK_f1 Z hP hi d_C_step_2 ?_
  refine callWv k_C_134 X (c_C_shift l D hO _) hP hK hN hS (va_recv hK hP (ci := 0) (q0 := 0) rfl rfl) rfl rfl ⟨Nat.le_of_ble_eq_true rfl, Nat.le_of_ble_eq_true rfl⟩ ⟨Nat.zero_le _, Nat.zero_le _⟩ hl.1 rfl rfl (Nat.le_of_ble_eq_true rfl) d_C_step_5 (fun H locs hP hS => ?_)
  rw [← eh] at hP
  refine lv_aload_n hx hb d_C_step_8 rfl (lv_at hl 0 rfl) ?_
  refine lv_aload_n hx hb d_C_step_9 rfl (lv_at hl 1 rfl) ?_
  refine callWv k_C_137 X (c_C_drive l D hO hi) hP hK hN hS (va_recv hK hP (ci := 0) (q0 := 0) rfl rfl) rfl rfl ⟨Nat.le_of_ble_eq_true rfl, Nat.le_of_ble_eq_true rfl⟩ ⟨Nat.zero_le _, Nat.zero_le _⟩ hl.1 rfl rfl (Nat.le_of_ble_eq_true rfl) d_C_step_10 (fun H locs hP hS => ?_)
  rw [← eb] at hP
  refine lv_aload_n hx hb d_C_step_13 rfl (lv_at hl 0 rfl) ?_
  refine lv_aload_n hx hb d_C_step_14 rfl (lv_at hl 1 rfl) ?_
  refine gK_aluf Z hP hi d_C_step_15 ?_
  refine callWv k_C_144 X (c_C_reckon l D hO _) hP hK hN hS (va_recv hK hP (ci := 0) (q0 := 0) rfl rfl) rfl rfl ⟨Nat.le_of_ble_eq_true rfl, Nat.le_of_ble_eq_true rfl⟩ ⟨Nat.zero_le _, Nat.zero_le _⟩ hl.1 rfl rfl (Nat.le_of_ble_eq_true rfl) d_C_step_18 (fun H locs hP hS => ?_)
  rw [← ea, ← er] at hP
  refine lv_aload_n hx hb d_C_step_21 rfl (lv_at hl 0 rfl) ?_
  refine lv_aload_n hx hb d_C_step_22 rfl (lv_at hl 1 rfl) ?_
  refine gK_f2 Z hP hi d_C_step_23 ?_
  refine callR k_C_147 X (c_C_change l D _) hP hK hN (va_recv hK hP (ci := 0) (q0 := 0) rfl rfl) rfl rfl ⟨Nat.le_of_ble_eq_true rfl, Nat.le_of_ble_eq_true rfl⟩ ⟨Nat.zero_le _, Nat.zero_le _⟩ hl.1 rfl rfl (Nat.le_of_ble_eq_true rfl) d_C_step_26 ?_
  rw [← eg]
  refine lv_istore_n (lv' := [(3, _), (0, _), (1, _), (2, _)]) hx hb d_C_step_29 rfl hl (by decide) rfl (fun ls hl => ?_)
  suffices KK : ∀ (H : Heap) (locs : List Loc), va_P D classes (wC ad kc am sm xt xl xc xm xi xn xa xy xb xw xo xs (b) (h) (a) (r) con (if mF2 (wd i) = 6 then upd mem (xm &&& 1023).toNatClampNeg b else mem) reg out wd pl ch dn wk) H → va_S A s.heap H locs → W p l e (rmD 2) s m [.ref (ad 0), .ref (am i), .ref (sm j)].toArray below meth c H locs 0 0 (MQ below (qV (fun H => va_P D classes (wC ad kc am sm (if mLT (wd i) = 0 then xt else if isA (mAf (wd i)) = 0 then b else a) (if mLL (wd i) = 0 then xl else a) (if mLL (wd i) = 0 then xc else r) (if mF1 (wd i) = 1 then a else xm) xi xn xa xy (if mF1 (wd i) = 1 then xy else xb) xw (if mF1 (wd i) = 8 then xo + 1 else xo) xs (b) (h) (a) (r) con (if mF2 (wd i) = 6 then upd mem (xm &&& 1023).toNatClampNeg b else mem) (if mBs (wd i) = 1 ∧ (cnF (mF1 (wd i)) (mF2 (wd i))) = 0 then upd reg (mRs (wd i)).toNatClampNeg h else reg) (if mF1 (wd i) = 8 then (if 500 ≤ xo then out else upd out xo.toNatClampNeg b) else out) wd (upd pl j (mNx (wd i) ||| ch j)) (upd ch j g) (upd dn j (dn j + 1)) (if mF1 (wd i) = 3 then upd wk j (if j = 0 then 1 else 0) else wk)) H) A) [.ref (ad 0), .ref (am i), .ref (sm j)].toArray s 0 0 A) (F0 m 56 ls []) by
    refine lv_aload_n hx hb d_C_step_30 rfl (lv_at hl 2 rfl) ?_
    refine gK_f2 Z hP hi d_C_step_31 ?_
    refine lv_bipush (v := 6) hx hb d_C_step_34 (by decide) ?_
    refine lv_icmp_ne (tgt := 56) hx hb d_C_step_36 (by decide) (fun c36t => ?_) (fun c36f => ?_)
    · skip
      exact KK H locs (by simp only [if_neg c36t]; exact hP) hS
    · skip
      refine lv_aload_n hx hb d_C_step_39 rfl (lv_at hl 1 rfl) ?_
      refine gC_memory Z hP d_C_step_40 ?_
      refine lv_aload_n hx hb d_C_step_43 rfl (lv_at hl 1 rfl) ?_
      refine gC_mar Z hP d_C_step_44 ?_
      refine lv_sipush (v := 1023) hx hb d_C_step_47 (by decide) ?_
      refine lv_iand hx hb d_C_step_50 ?_
      refine lv_aload_n hx hb d_C_step_51 rfl (lv_at hl 1 rfl) ?_
      refine gC_bus Z hP d_C_step_52 ?_
      refine sC_memory Z hP hO hS (in_ma _) d_C_step_55 (fun H locs hP hS => ?_)
      exact KK H locs (by simp only [if_pos c36f]; exact hP) hS
  clear hP hS
  intro H locs hP hS
  suffices KK : ∀ (H : Heap) (locs : List Loc), va_P D classes (wC ad kc am sm xt xl xc xm xi xn xa xy xb xw xo xs (b) (h) (a) (r) con (if mF2 (wd i) = 6 then upd mem (xm &&& 1023).toNatClampNeg b else mem) (if mBs (wd i) = 1 ∧ (cnF (mF1 (wd i)) (mF2 (wd i))) = 0 then upd reg (mRs (wd i)).toNatClampNeg h else reg) out wd pl ch dn wk) H → va_S A s.heap H locs → W p l e (rmD 2) s m [.ref (ad 0), .ref (am i), .ref (sm j)].toArray below meth c H locs 0 0 (MQ below (qV (fun H => va_P D classes (wC ad kc am sm (if mLT (wd i) = 0 then xt else if isA (mAf (wd i)) = 0 then b else a) (if mLL (wd i) = 0 then xl else a) (if mLL (wd i) = 0 then xc else r) (if mF1 (wd i) = 1 then a else xm) xi xn xa xy (if mF1 (wd i) = 1 then xy else xb) xw (if mF1 (wd i) = 8 then xo + 1 else xo) xs (b) (h) (a) (r) con (if mF2 (wd i) = 6 then upd mem (xm &&& 1023).toNatClampNeg b else mem) (if mBs (wd i) = 1 ∧ (cnF (mF1 (wd i)) (mF2 (wd i))) = 0 then upd reg (mRs (wd i)).toNatClampNeg h else reg) (if mF1 (wd i) = 8 then (if 500 ≤ xo then out else upd out xo.toNatClampNeg b) else out) wd (upd pl j (mNx (wd i) ||| ch j)) (upd ch j g) (upd dn j (dn j + 1)) (if mF1 (wd i) = 3 then upd wk j (if j = 0 then 1 else 0) else wk)) H) A) [.ref (ad 0), .ref (am i), .ref (sm j)].toArray s 0 0 A) (F0 m 84 ls []) by
    refine lv_aload_n hx hb d_C_step_56 rfl (lv_at hl 2 rfl) ?_
    refine gK_bs Z hP hi d_C_step_57 ?_
    refine lv_iconst (v := 1) hx hb d_C_step_60 (by decide) ?_
    refine lv_icmp_ne (tgt := 84) hx hb d_C_step_61 (by decide) (fun c61t => ?_) (fun c61f => ?_)
    · skip
      exact KK H locs (by simp only [if_neg (fun z : _ ∧ _ => c61t z.1)]; exact hP) hS
    · skip
      refine lv_aload_n hx hb d_C_step_64 rfl (lv_at hl 2 rfl) ?_
      refine callR k_C_83 X (c_K_isConstant l D hi) hP hK hN (va_recv hK hP (ci := 1) (q0 := 7 + i) rfl (wC_k hi)) rfl rfl ⟨Nat.le_of_ble_eq_true rfl, Nat.le_of_ble_eq_true rfl⟩ ⟨Nat.zero_le _, Nat.zero_le _⟩ hl.1 rfl rfl (Nat.le_of_ble_eq_true rfl) d_C_step_65 ?_
      refine lv_if_ne (tgt := 84) hx hb d_C_step_68 (by decide) (fun c68t => ?_) (fun c68f => ?_)
      · skip
        exact KK H locs (by simp only [if_neg (fun z : _ ∧ _ => c68t z.2)]; exact hP) hS
      · skip
        refine lv_aload_n hx hb d_C_step_71 rfl (lv_at hl 1 rfl) ?_
        refine gC_registers Z hP d_C_step_72 ?_
        refine lv_aload_n hx hb d_C_step_75 rfl (lv_at hl 2 rfl) ?_
        refine gK_rsel Z hP hi d_C_step_76 ?_
        refine lv_aload_n hx hb d_C_step_79 rfl (lv_at hl 1 rfl) ?_
        refine gC_sh Z hP d_C_step_80 ?_
        refine sC_registers Z hP hO hS (in_rs _) d_C_step_83 (fun H locs hP hS => ?_)
        exact KK H locs (by simp only [if_pos (And.intro c61f c68f)]; exact hP) hS
  clear hP hS
  intro H locs hP hS
  suffices KK : ∀ (H : Heap) (locs : List Loc), va_P D classes (wC ad kc am sm xt xl xc (if mF1 (wd i) = 1 then a else xm) xi xn xa xy (if mF1 (wd i) = 1 then xy else xb) xw xo xs (b) (h) (a) (r) con (if mF2 (wd i) = 6 then upd mem (xm &&& 1023).toNatClampNeg b else mem) (if mBs (wd i) = 1 ∧ (cnF (mF1 (wd i)) (mF2 (wd i))) = 0 then upd reg (mRs (wd i)).toNatClampNeg h else reg) out wd pl ch dn wk) H → va_S A s.heap H locs → W p l e (rmD 2) s m [.ref (ad 0), .ref (am i), .ref (sm j)].toArray below meth c H locs 0 0 (MQ below (qV (fun H => va_P D classes (wC ad kc am sm (if mLT (wd i) = 0 then xt else if isA (mAf (wd i)) = 0 then b else a) (if mLL (wd i) = 0 then xl else a) (if mLL (wd i) = 0 then xc else r) (if mF1 (wd i) = 1 then a else xm) xi xn xa xy (if mF1 (wd i) = 1 then xy else xb) xw (if mF1 (wd i) = 8 then xo + 1 else xo) xs (b) (h) (a) (r) con (if mF2 (wd i) = 6 then upd mem (xm &&& 1023).toNatClampNeg b else mem) (if mBs (wd i) = 1 ∧ (cnF (mF1 (wd i)) (mF2 (wd i))) = 0 then upd reg (mRs (wd i)).toNatClampNeg h else reg) (if mF1 (wd i) = 8 then (if 500 ≤ xo then out else upd out xo.toNatClampNeg b) else out) wd (upd pl j (mNx (wd i) ||| ch j)) (upd ch j g) (upd dn j (dn j + 1)) (if mF1 (wd i) = 3 then upd wk j (if j = 0 then 1 else 0) else wk)) H) A) [.ref (ad 0), .ref (am i), .ref (sm j)].toArray s 0 0 A) (F0 m 108 ls []) by
    refine lv_aload_n hx hb d_C_step_84 rfl (lv_at hl 2 rfl) ?_
    refine gK_f1 Z hP hi d_C_step_85 ?_
    refine lv_iconst (v := 1) hx hb d_C_step_88 (by decide) ?_
    refine lv_icmp_ne (tgt := 108) hx hb d_C_step_89 (by decide) (fun c89t => ?_) (fun c89f => ?_)
    · skip
      exact KK H locs (by simp only [if_neg c89t]; exact hP) hS
    · skip
      refine lv_aload_n hx hb d_C_step_92 rfl (lv_at hl 1 rfl) ?_
      refine lv_aload_n hx hb d_C_step_93 rfl (lv_at hl 1 rfl) ?_
      refine gC_alu Z hP d_C_step_94 ?_
      refine pC_mar Z hP hO hS d_C_step_97 (fun H locs hP hS => ?_)
      refine lv_aload_n hx hb d_C_step_100 rfl (lv_at hl 1 rfl) ?_
      refine lv_aload_n hx hb d_C_step_101 rfl (lv_at hl 1 rfl) ?_
      refine gC_cycle Z hP d_C_step_102 ?_
      refine pC_began Z hP hO hS d_C_step_105 (fun H locs hP hS => ?_)
      exact KK H locs (by simp only [if_pos c89f]; exact hP) hS
  clear hP hS
  intro H locs hP hS
  suffices KK : ∀ (H : Heap) (locs : List Loc), va_P D classes (wC ad kc am sm xt xl xc (if mF1 (wd i) = 1 then a else xm) xi xn xa xy (if mF1 (wd i) = 1 then xy else xb) xw (if mF1 (wd i) = 8 then xo + 1 else xo) xs (b) (h) (a) (r) con (if mF2 (wd i) = 6 then upd mem (xm &&& 1023).toNatClampNeg b else mem) (if mBs (wd i) = 1 ∧ (cnF (mF1 (wd i)) (mF2 (wd i))) = 0 then upd reg (mRs (wd i)).toNatClampNeg h else reg) (if mF1 (wd i) = 8 then (if 500 ≤ xo then out else upd out xo.toNatClampNeg b) else out) wd pl ch dn wk) H → va_S A s.heap H locs → W p l e (rmD 2) s m [.ref (ad 0), .ref (am i), .ref (sm j)].toArray below meth c H locs 0 0 (MQ below (qV (fun H => va_P D classes (wC ad kc am sm (if mLT (wd i) = 0 then xt else if isA (mAf (wd i)) = 0 then b else a) (if mLL (wd i) = 0 then xl else a) (if mLL (wd i) = 0 then xc else r) (if mF1 (wd i) = 1 then a else xm) xi xn xa xy (if mF1 (wd i) = 1 then xy else xb) xw (if mF1 (wd i) = 8 then xo + 1 else xo) xs (b) (h) (a) (r) con (if mF2 (wd i) = 6 then upd mem (xm &&& 1023).toNatClampNeg b else mem) (if mBs (wd i) = 1 ∧ (cnF (mF1 (wd i)) (mF2 (wd i))) = 0 then upd reg (mRs (wd i)).toNatClampNeg h else reg) (if mF1 (wd i) = 8 then (if 500 ≤ xo then out else upd out xo.toNatClampNeg b) else out) wd (upd pl j (mNx (wd i) ||| ch j)) (upd ch j g) (upd dn j (dn j + 1)) (if mF1 (wd i) = 3 then upd wk j (if j = 0 then 1 else 0) else wk)) H) A) [.ref (ad 0), .ref (am i), .ref (sm j)].toArray s 0 0 A) (F0 m 121 ls []) by
    refine lv_aload_n hx hb d_C_step_108 rfl (lv_at hl 2 rfl) ?_
    refine gK_f1 Z hP hi d_C_step_109 ?_
    refine lv_bipush (v := 8) hx hb d_C_step_112 (by decide) ?_
    refine lv_icmp_ne (tgt := 121) hx hb d_C_step_114 (by decide) (fun c114t => ?_) (fun c114f => ?_)
    · skip
      exact KK H locs (by simp only [if_neg c114t]; exact hP) hS
    · skip
      refine lv_aload_n hx hb d_C_step_117 rfl (lv_at hl 1 rfl) ?_
      refine callWv k_C_150 X (c_C_send l D hO ho) hP hK hN hS (va_recv hK hP (ci := 0) (q0 := 0) rfl rfl) rfl rfl ⟨Nat.le_of_ble_eq_true rfl, Nat.le_of_ble_eq_true rfl⟩ ⟨Nat.zero_le _, Nat.zero_le _⟩ hl.1 rfl rfl (Nat.le_of_ble_eq_true rfl) d_C_step_118 (fun H locs hP hS => ?_)
      exact KK H locs (by simp only [if_pos c114f]; exact hP) hS
  clear hP hS
  intro H locs hP hS
  suffices KK : ∀ (H : Heap) (locs : List Loc), va_P D classes (wC ad kc am sm (if mLT (wd i) = 0 then xt else if isA (mAf (wd i)) = 0 then b else a) xl xc (if mF1 (wd i) = 1 then a else xm) xi xn xa xy (if mF1 (wd i) = 1 then xy else xb) xw (if mF1 (wd i) = 8 then xo + 1 else xo) xs (b) (h) (a) (r) con (if mF2 (wd i) = 6 then upd mem (xm &&& 1023).toNatClampNeg b else mem) (if mBs (wd i) = 1 ∧ (cnF (mF1 (wd i)) (mF2 (wd i))) = 0 then upd reg (mRs (wd i)).toNatClampNeg h else reg) (if mF1 (wd i) = 8 then (if 500 ≤ xo then out else upd out xo.toNatClampNeg b) else out) wd pl ch dn wk) H → va_S A s.heap H locs → W p l e (rmD 2) s m [.ref (ad 0), .ref (am i), .ref (sm j)].toArray below meth c H locs 0 0 (MQ below (qV (fun H => va_P D classes (wC ad kc am sm (if mLT (wd i) = 0 then xt else if isA (mAf (wd i)) = 0 then b else a) (if mLL (wd i) = 0 then xl else a) (if mLL (wd i) = 0 then xc else r) (if mF1 (wd i) = 1 then a else xm) xi xn xa xy (if mF1 (wd i) = 1 then xy else xb) xw (if mF1 (wd i) = 8 then xo + 1 else xo) xs (b) (h) (a) (r) con (if mF2 (wd i) = 6 then upd mem (xm &&& 1023).toNatClampNeg b else mem) (if mBs (wd i) = 1 ∧ (cnF (mF1 (wd i)) (mF2 (wd i))) = 0 then upd reg (mRs (wd i)).toNatClampNeg h else reg) (if mF1 (wd i) = 8 then (if 500 ≤ xo then out else upd out xo.toNatClampNeg b) else out) wd (upd pl j (mNx (wd i) ||| ch j)) (upd ch j g) (upd dn j (dn j + 1)) (if mF1 (wd i) = 3 then upd wk j (if j = 0 then 1 else 0) else wk)) H) A) [.ref (ad 0), .ref (am i), .ref (sm j)].toArray s 0 0 A) (F0 m 153 ls []) by
    refine lv_aload_n hx hb d_C_step_121 rfl (lv_at hl 2 rfl) ?_
    refine gK_loadsT Z hP hi d_C_step_122 ?_
    refine lv_if_eq (tgt := 153) hx hb d_C_step_125 (by decide) (fun c125t => ?_) (fun c125f => ?_)
    · skip
      exact KK H locs (by simp only [if_pos c125t]; exact hP) hS
    · skip
      refine lv_aload_n hx hb d_C_step_128 rfl (lv_at hl 1 rfl) ?_
      refine lv_aload_n hx hb d_C_step_129 rfl (lv_at hl 2 rfl) ?_
      refine gK_aluf Z hP hi d_C_step_130 ?_
      refine callSt k_C_156 X (c_C_isFromAlu l _) rfl rfl ⟨Nat.le_of_ble_eq_true rfl, Nat.le_of_ble_eq_true rfl⟩ ⟨Nat.zero_le _, Nat.zero_le _⟩ hl.1 rfl rfl (Nat.le_of_ble_eq_true rfl) d_C_step_133 ?_
      refine lv_if_eq (tgt := 146) hx hb d_C_step_136 (by decide) (fun c136t => ?_) (fun c136f => ?_)
      · skip
        refine lv_aload_n hx hb d_C_step_146 rfl (lv_at hl 1 rfl) ?_
        refine gC_bus Z hP d_C_step_147 ?_
        refine pC_t Z hP hO hS d_C_step_150 (fun H locs hP hS => ?_)
        exact KK H locs (by simp only [if_neg c125f, if_pos c136t]; exact hP) hS
      · skip
        refine lv_aload_n hx hb d_C_step_139 rfl (lv_at hl 1 rfl) ?_
        refine gC_alu Z hP d_C_step_140 ?_
        refine lv_goto (tgt := 150) hx hb d_C_step_143 (by decide) ?_
        refine pC_t Z hP hO hS d_C_step_150 (fun H locs hP hS => ?_)
        exact KK H locs (by simp only [if_neg c125f, if_neg c136f]; exact hP) hS
  clear hP hS
  intro H locs hP hS
  suffices KK : ∀ (H : Heap) (locs : List Loc), va_P D classes (wC ad kc am sm (if mLT (wd i) = 0 then xt else if isA (mAf (wd i)) = 0 then b else a) (if mLL (wd i) = 0 then xl else a) (if mLL (wd i) = 0 then xc else r) (if mF1 (wd i) = 1 then a else xm) xi xn xa xy (if mF1 (wd i) = 1 then xy else xb) xw (if mF1 (wd i) = 8 then xo + 1 else xo) xs (b) (h) (a) (r) con (if mF2 (wd i) = 6 then upd mem (xm &&& 1023).toNatClampNeg b else mem) (if mBs (wd i) = 1 ∧ (cnF (mF1 (wd i)) (mF2 (wd i))) = 0 then upd reg (mRs (wd i)).toNatClampNeg h else reg) (if mF1 (wd i) = 8 then (if 500 ≤ xo then out else upd out xo.toNatClampNeg b) else out) wd pl ch dn wk) H → va_S A s.heap H locs → W p l e (rmD 2) s m [.ref (ad 0), .ref (am i), .ref (sm j)].toArray below meth c H locs 0 0 (MQ below (qV (fun H => va_P D classes (wC ad kc am sm (if mLT (wd i) = 0 then xt else if isA (mAf (wd i)) = 0 then b else a) (if mLL (wd i) = 0 then xl else a) (if mLL (wd i) = 0 then xc else r) (if mF1 (wd i) = 1 then a else xm) xi xn xa xy (if mF1 (wd i) = 1 then xy else xb) xw (if mF1 (wd i) = 8 then xo + 1 else xo) xs (b) (h) (a) (r) con (if mF2 (wd i) = 6 then upd mem (xm &&& 1023).toNatClampNeg b else mem) (if mBs (wd i) = 1 ∧ (cnF (mF1 (wd i)) (mF2 (wd i))) = 0 then upd reg (mRs (wd i)).toNatClampNeg h else reg) (if mF1 (wd i) = 8 then (if 500 ≤ xo then out else upd out xo.toNatClampNeg b) else out) wd (upd pl j (mNx (wd i) ||| ch j)) (upd ch j g) (upd dn j (dn j + 1)) (if mF1 (wd i) = 3 then upd wk j (if j = 0 then 1 else 0) else wk)) H) A) [.ref (ad 0), .ref (am i), .ref (sm j)].toArray s 0 0 A) (F0 m 176 ls []) by
    refine lv_aload_n hx hb d_C_step_153 rfl (lv_at hl 2 rfl) ?_
    refine gK_loadsL Z hP hi d_C_step_154 ?_
    refine lv_if_eq (tgt := 176) hx hb d_C_step_157 (by decide) (fun c157t => ?_) (fun c157f => ?_)
    · skip
      exact KK H locs (by simp only [if_pos c157t]; exact hP) hS
    · skip
      refine lv_aload_n hx hb d_C_step_160 rfl (lv_at hl 1 rfl) ?_
      refine lv_aload_n hx hb d_C_step_161 rfl (lv_at hl 1 rfl) ?_
      refine gC_alu Z hP d_C_step_162 ?_
      refine pC_l Z hP hO hS d_C_step_165 (fun H locs hP hS => ?_)
      refine lv_aload_n hx hb d_C_step_168 rfl (lv_at hl 1 rfl) ?_
      refine lv_aload_n hx hb d_C_step_169 rfl (lv_at hl 1 rfl) ?_
      refine gC_aluCarry Z hP d_C_step_170 ?_
      refine pC_carry Z hP hO hS d_C_step_173 (fun H locs hP hS => ?_)
      exact KK H locs (by simp only [if_neg c157f]; exact hP) hS
  clear hP hS
  intro H locs hP hS
  suffices KK : ∀ (H : Heap) (locs : List Loc), va_P D classes (wC ad kc am sm (if mLT (wd i) = 0 then xt else if isA (mAf (wd i)) = 0 then b else a) (if mLL (wd i) = 0 then xl else a) (if mLL (wd i) = 0 then xc else r) (if mF1 (wd i) = 1 then a else xm) xi xn xa xy (if mF1 (wd i) = 1 then xy else xb) xw (if mF1 (wd i) = 8 then xo + 1 else xo) xs (b) (h) (a) (r) con (if mF2 (wd i) = 6 then upd mem (xm &&& 1023).toNatClampNeg b else mem) (if mBs (wd i) = 1 ∧ (cnF (mF1 (wd i)) (mF2 (wd i))) = 0 then upd reg (mRs (wd i)).toNatClampNeg h else reg) (if mF1 (wd i) = 8 then (if 500 ≤ xo then out else upd out xo.toNatClampNeg b) else out) wd pl ch dn (if mF1 (wd i) = 3 then upd wk j (if j = 0 then 1 else 0) else wk)) H → va_S A s.heap H locs → W p l e (rmD 2) s m [.ref (ad 0), .ref (am i), .ref (sm j)].toArray below meth c H locs 0 0 (MQ below (qV (fun H => va_P D classes (wC ad kc am sm (if mLT (wd i) = 0 then xt else if isA (mAf (wd i)) = 0 then b else a) (if mLL (wd i) = 0 then xl else a) (if mLL (wd i) = 0 then xc else r) (if mF1 (wd i) = 1 then a else xm) xi xn xa xy (if mF1 (wd i) = 1 then xy else xb) xw (if mF1 (wd i) = 8 then xo + 1 else xo) xs (b) (h) (a) (r) con (if mF2 (wd i) = 6 then upd mem (xm &&& 1023).toNatClampNeg b else mem) (if mBs (wd i) = 1 ∧ (cnF (mF1 (wd i)) (mF2 (wd i))) = 0 then upd reg (mRs (wd i)).toNatClampNeg h else reg) (if mF1 (wd i) = 8 then (if 500 ≤ xo then out else upd out xo.toNatClampNeg b) else out) wd (upd pl j (mNx (wd i) ||| ch j)) (upd ch j g) (upd dn j (dn j + 1)) (if mF1 (wd i) = 3 then upd wk j (if j = 0 then 1 else 0) else wk)) H) A) [.ref (ad 0), .ref (am i), .ref (sm j)].toArray s 0 0 A) (F0 m 203 ls []) by
    refine lv_aload_n hx hb d_C_step_176 rfl (lv_at hl 2 rfl) ?_
    refine gK_f1 Z hP hi d_C_step_177 ?_
    refine lv_iconst (v := 3) hx hb d_C_step_180 (by decide) ?_
    refine lv_icmp_ne (tgt := 203) hx hb d_C_step_181 (by decide) (fun c181t => ?_) (fun c181f => ?_)
    · skip
      exact KK H locs (by simp only [if_neg c181t]; exact hP) hS
    · skip
      refine lv_aload_n hx hb d_C_step_184 rfl (lv_at hl 3 rfl) ?_
      refine lv_aload_n hx hb d_C_step_185 rfl (lv_at hl 3 rfl) ?_
      refine lv_aload_n hx hb d_C_step_186 rfl (lv_at hl 1 rfl) ?_
      refine gC_strands Z hP d_C_step_187 ?_
      refine lv_iconst (v := 0) hx hb d_C_step_190 (by decide) ?_
      refine lC_strands Z hP (vp_in_nI (n := 0) (N := 16) (by decide) (by decide)) d_C_step_191 ?_
      refine lv_acmp_ne (tgt := 199) (rx := some _) (ry := some _) hx hb d_C_step_192 (by decide) (fun c192t => ?_) (fun c192f => ?_)
      · skip
        refine lv_iconst (v := 0) hx hb d_C_step_199 (by decide) ?_
        refine pS_woken Z hP hO hS (by decide) hj d_C_step_200 (fun H locs hP hS => ?_)
        exact KK H locs (by simp only [if_pos c181f, if_neg (show ¬ j = 0 from fun z => c192t (by rw [z]; rfl))]; exact hP) hS
      · skip
        refine lv_iconst (v := 1) hx hb d_C_step_195 (by decide) ?_
        refine lv_goto (tgt := 200) hx hb d_C_step_196 (by decide) ?_
        refine pS_woken Z hP hO hS (by decide) hj d_C_step_200 (fun H locs hP hS => ?_)
        exact KK H locs (by simp only [if_pos c181f, if_pos (show j = 0 from sm_inj hO hj (by decide) (Option.some.inj c192f))]; exact hP) hS
  clear hP hS
  intro H locs hP hS
  refine lv_aload_n hx hb d_C_step_203 rfl (lv_at hl 3 rfl) ?_
  refine lv_aload_n hx hb d_C_step_204 rfl (lv_at hl 2 rfl) ?_
  refine gK_next Z hP hi d_C_step_205 ?_
  refine lv_aload_n hx hb d_C_step_208 rfl (lv_at hl 3 rfl) ?_
  refine gS_change Z hP hj d_C_step_209 ?_
  refine lv_ior hx hb d_C_step_212 ?_
  refine pS_place Z hP hO hS hj d_C_step_213 (fun H locs hP hS => ?_)
  refine lv_aload_n hx hb d_C_step_216 rfl (lv_at hl 3 rfl) ?_
  refine lv_iload_n hx hb d_C_step_217 rfl (lv_at hl 0 rfl) ?_
  refine pS_change Z hP hO hS hj d_C_step_218 (fun H locs hP hS => ?_)
  refine lv_aload_n hx hb d_C_step_221 rfl (lv_at hl 3 rfl) ?_
  refine lv_dup hx hb d_C_step_222 rfl ?_
  refine gS_done Z hP hj d_C_step_223 ?_
  refine lv_iconst (v := 1) hx hb d_C_step_226 (by decide) ?_
  refine lv_iadd hx hb d_C_step_227 ?_
  refine pS_done Z hP hO hS hj d_C_step_228 (fun H locs hP hS => ?_)
  exact wrV X hr hlk hS d_C_step_231 hP
end
section
/-! numbers of sixteen bits -/
theorem nx_and (a b : Nat) : nI a &&& nI b = nI (a &&& b) := by
  apply Int32.toBitVec_inj.1
  show BitVec.ofNat 32 a &&& BitVec.ofNat 32 b = BitVec.ofNat 32 (a &&& b)
  apply BitVec.eq_of_getLsbD_eq
  intro i hi
  simp [hi]
theorem nx_xor (a b : Nat) : nI a ^^^ nI b = nI (a ^^^ b) := by
  apply Int32.toBitVec_inj.1
  show BitVec.ofNat 32 a ^^^ BitVec.ofNat 32 b = BitVec.ofNat 32 (a ^^^ b)
  apply BitVec.eq_of_getLsbD_eq
  intro i hi
  simp [hi]
theorem nx_or (a b : Nat) : nI a ||| nI b = nI (a ||| b) := by
  apply Int32.toBitVec_inj.1
  show BitVec.ofNat 32 a ||| BitVec.ofNat 32 b = BitVec.ofNat 32 (a ||| b)
  apply BitVec.eq_of_getLsbD_eq
  intro i hi
  simp [hi]
def u16 (x : Int32) : Prop := ∃ n : Nat, n < 65536 ∧ x = nI n
def u10 (x : Int32) : Prop := ∃ n : Nat, n < 1024 ∧ x = nI n
def b01 (x : Int32) : Prop := x = 0 ∨ x = 1
theorem u16_and (x : Int32) : u16 (x &&& 65535) := pk_andE x 16 (by decide)
theorem u10_and (x : Int32) : u10 (x &&& 1023) := pk_andE x 10 (by decide)
theorem b01_and (x : Int32) : b01 (x &&& 1) := by
  obtain ⟨j, hj, e⟩ := pk_andE x (m := 1) 1 (by decide)
  rw [e]
  have : j = 0 ∨ j = 1 := by omega
  rcases this with rfl | rfl
  · exact Or.inl rfl
  · exact Or.inr rfl
theorem u16_0 : u16 0 := ⟨0, by decide, rfl⟩
theorem u16_m : u16 65535 := ⟨65535, by decide, rfl⟩
theorem u10_0 : u10 0 := ⟨0, by decide, rfl⟩
theorem u10_1 : u10 1 := ⟨1, by decide, rfl⟩
theorem ite_p {P : Int32 → Prop} {c : Prop} [Decidable c] {x y : Int32} (hx : P x) (hy : P y) : P (if c then x else y) := by
  by_cases h : c
  · rw [if_pos h]; exact hx
  · rw [if_neg h]; exact hy
theorem u10.u16 {x : Int32} (h : u10 x) : u16 x := by obtain ⟨n, h, e⟩ := h; exact ⟨n, by omega, e⟩
theorem b01.u10 {x : Int32} (h : b01 x) : u10 x := by rcases h with rfl | rfl; exact ⟨0, by decide, rfl⟩; exact ⟨1, by decide, rfl⟩
theorem u10.vp {x : Int32} (h : u10 x) : vp_in x 1024 := by obtain ⟨n, h, rfl⟩ := h; exact vp_in_nI h (by decide)
theorem u16.or {x y : Int32} (h : u16 x) (g : u16 y) : u16 (x ||| y) := by
  obtain ⟨n, h, rfl⟩ := h; obtain ⟨k, g, rfl⟩ := g
  exact ⟨n ||| k, Nat.or_lt_two_pow (n := 16) h g, nx_or n k⟩
theorem u10.or {x y : Int32} (h : u10 x) (g : u10 y) : u10 (x ||| y) := by
  obtain ⟨n, h, rfl⟩ := h; obtain ⟨k, g, rfl⟩ := g
  exact ⟨n ||| k, Nat.or_lt_two_pow (n := 10) h g, nx_or n k⟩
theorem u16.xor {x y : Int32} (h : u16 x) (g : u16 y) : u16 (x ^^^ y) := by
  obtain ⟨n, h, rfl⟩ := h; obtain ⟨k, g, rfl⟩ := g
  exact ⟨n ^^^ k, Nat.xor_lt_two_pow (n := 16) h g, nx_xor n k⟩
theorem u16.andl {x : Int32} (h : u16 x) (y : Int32) : u16 (x &&& y) := by
  obtain ⟨n, h, rfl⟩ := h
  rw [nI_bv y, nx_and, Nat.and_comm]
  exact ⟨_, Nat.and_lt_two_pow (n := 16) _ h, rfl⟩
/-- the shifts of both texts -/
theorem sh4 {x : Int32} (h : u16 x) : (2 * x) &&& 65535 = (x <<< ((1 : Int32) &&& 31)) &&& 65535 := by
  obtain ⟨n, h, rfl⟩ := h
  rw [show (2 : Int32) = nI 2 from rfl, pk_mul, pk_shlN _ 1 (by decide) (by omega), Nat.mul_comm]
theorem sh5 {x : Int32} (h : u16 x) : x / 2 = x >>> ((1 : Int32) &&& 31) := by
  obtain ⟨n, h, rfl⟩ := h
  rw [show (2 : Int32) = nI 2 from rfl, pk_div (by omega) (by decide) (by decide), pk_shrN (by omega) _ 1 (by decide)]
theorem sh6 {x : Int32} (h : u16 x) : (x - x / 256 * 256) * 256 + x / 256 = ((x <<< ((8 : Int32) &&& 31)) &&& 65535) ||| (x >>> ((8 : Int32) &&& 31)) := by
  obtain ⟨n, h, rfl⟩ := h
  rw [show (256 : Int32) = nI 256 from rfl, pk_rem (by omega) (by decide) (by decide), pk_div (by omega) (by decide) (by decide), pk_mul, nI_add, pk_shlN _ 8 (by decide) (by omega), pk_shrN (by omega) _ 8 (by decide), pk_andN (by omega) 16 (by decide), nx_or]
  congr 1
  have e : n * 2 ^ 8 % 2 ^ 16 = 2 ^ 8 * (n % 256) := by omega
  rw [e, ← Nat.two_pow_add_eq_or_of_lt (by omega)]
  omega
theorem u16_sh5 {x : Int32} (h : u16 x) : u16 (x >>> ((1 : Int32) &&& 31)) := by
  obtain ⟨n, h, rfl⟩ := h
  exact ⟨n / 2, by omega, pk_shrN (by omega) _ 1 (by decide)⟩
theorem u16_sh8 {x : Int32} (h : u16 x) : u16 (x >>> ((8 : Int32) &&& 31)) := by
  obtain ⟨n, h, rfl⟩ := h
  exact ⟨n / 2 ^ 8, by omega, pk_shrN (by omega) _ 8 (by decide)⟩
theorem rem10 {x : Int32} (h : u16 x) : x - x / 1024 * 1024 = x &&& 1023 := by
  obtain ⟨n, h, rfl⟩ := h
  rw [show (1024 : Int32) = nI 1024 from rfl, pk_rem (by omega) (by decide) (by decide), pk_andN (by omega) 10 (by decide)]
theorem rem1 {x : Int32} (h : u16 x) : x - x / 2 * 2 = x &&& 1 := by
  obtain ⟨n, h, rfl⟩ := h
  rw [show (2 : Int32) = nI 2 from rfl, pk_rem (by omega) (by decide) (by decide), pk_andN (by omega) 1 (by decide)]
theorem top1 {x : Int32} (h : u16 x) : x >>> ((15 : Int32) &&& 31) = if x &&& 32768 = 0 then 0 else 1 := by
  obtain ⟨n, h, rfl⟩ := h
  have e : n &&& 32768 = if n < 32768 then 0 else 32768 := by
    apply Nat.eq_of_testBit_eq
    intro i
    rw [Nat.testBit_and, show (32768 : Nat) = 2 ^ 15 from rfl, Nat.testBit_two_pow]
    by_cases hi : 15 = i
    · subst hi
      by_cases hn : n < 2 ^ 15
      · rw [if_pos hn, Nat.testBit_lt_two_pow hn]; simp
      · rw [if_neg hn, Nat.testBit_two_pow_self]
        have : n.testBit 15 = true := by
          rw [Nat.testBit_eq_decide_div_mod_eq, decide_eq_true_eq]; omega
        simp [this]
    · by_cases hn : n < 2 ^ 15
      · rw [if_pos hn]; simp [hi]
      · rw [if_neg hn, Nat.testBit_two_pow]; simp [hi]
  rw [pk_shrN (by omega) _ 15 (by decide), show (32768 : Int32) = nI 32768 from rfl, nx_and, e]
  by_cases hn : n < 32768
  · rw [if_pos hn, if_pos (show nI 0 = 0 from rfl), show n / 2 ^ 15 = 0 by omega]; rfl
  · rw [if_neg hn, if_neg (by decide), show n / 2 ^ 15 = 1 by omega]; rfl
theorem andn {b t : Int32} (hb : u16 b) (ht : u16 t) : b &&& (65535 - t) = b &&& (t ^^^ (-1)) := by
  obtain ⟨k, hk, rfl⟩ := hb
  obtain ⟨n, hn, rfl⟩ := ht
  rw [show (65535 : Int32) = nI 65535 from rfl, pk_sub (by omega), show (-1 : Int32) = nI (2 ^ 32 - 1) from rfl, nx_xor, nx_and, nx_and]
  congr 1
  apply Nat.eq_of_testBit_eq
  intro i
  rw [Nat.testBit_and, Nat.testBit_and]
  by_cases hi : i < 16
  · congr 1
    rw [show 65535 - n = 2 ^ 16 - (n + 1) by omega, Nat.testBit_two_pow_sub_succ hn, Nat.testBit_xor, Nat.testBit_two_pow_sub_one]
    simp [hi, show i < 32 by omega]
  · have : k.testBit i = false := Nat.testBit_lt_two_pow (Nat.lt_of_lt_of_le hk (Nat.pow_le_pow_right (n := 2) (by decide) (show 16 ≤ i by omega)))
    rw [this]; simp
/-! what the pure machine works out stays small -/
theorem u16_sh {f x : Int32} (h : u16 x) : u16 (shF f x) := by
  unfold shF
  split
  · exact u16_and _
  · split
    · exact u16_sh5 h
    · split
      · exact (u16_and _).or (u16_sh8 h)
      · exact h
theorem b01_smC (v : Int32) : b01 (smC v) := b01_and _
theorem b01_dfC (b v : Int32) : b01 (dfC b v) := by
  unfold dfC
  split
  · exact Or.inl rfl
  · exact Or.inr rfl
theorem u16_al {af b t c : Int32} (hb : u16 b) (ht : u16 t) : u16 (alF af b t c) := by
  exact ite_p hb (ite_p ht (ite_p (hb.or ht) (ite_p (hb.andl _) (ite_p (hb.xor ht) (ite_p (u16_and _) (ite_p (u16_and _) (ite_p (u16_and _) (ite_p (u16_and _) (ite_p (u16_and _) (ite_p (u16_and _) (ite_p (u16_and _) (ite_p (hb.andl _) (ite_p (hb.andl _) u16_0)))))))))))))
theorem b01_ac {af b t c : Int32} : b01 (acF af b t c) := by
  unfold acF
  repeat' split
  all_goals first | exact b01_smC _ | exact b01_dfC _ _ | exact Or.inl rfl
theorem u10_ch {f2 b sh c i : Int32} (hc : b01 c) : u10 (chF f2 b sh c i) := by
  unfold chF
  repeat' split
  all_goals first | exact u10_0 | exact u10_1 | exact u10_and _ | exact hc.u10 | exact (b01_and _).u10
theorem u16_bu {cn rs bs xi xn xm xl : Int32} {con mem reg : Nat → Int32} (h1 : u16 xi) (h2 : u16 xn) (h3 : u16 xm) (h4 : u16 xl) (h5 : ∀ k, u16 (con k)) (h6 : ∀ k, u16 (mem k)) (h7 : ∀ k, u16 (reg k)) : u16 (buF cn rs bs xi xn xm xl con mem reg) := by
  unfold buF
  repeat' split
  all_goals first | exact h1 | exact h2 | exact h3 | exact h4 | exact h5 _ | exact h6 _ | exact h7 _ | exact u16_0 | exact u16_m
theorem grN_le (wk : Nat → Int32) : ∀ n, grN wk n ≤ n
  | 0 => Nat.le_refl 0
  | n + 1 => by
    unfold grN
    split
    · exact Nat.le_succ_of_le (grN_le wk n)
    · exact Nat.le_refl _
end
section
set_option maxRecDepth 100000 in
theorem c_M_within (l : Launch) (x b : Int32) : Met l y_M_within (Cond.code y_M_within b_M_within 2 (some .boolean) :: gW) (rmD 0) (va_Pc [.int x, .int b] (fun _ => True)) (QcRead (if 0 ≤ x ∧ x ≤ b then 1 else 0)) 0 0 (fun _ => False) := by
  refine startM (by decide) (Nat.le_of_ble_eq_true rfl) ?_
  intro p e s m below meth c ls X hr hlk hnm hB hl
  replace X : CallFix p m c b_M_within 2 s _ gW R_M := X
  obtain ⟨hx, hb, hml, hown, hts⟩ := id X
  refine lv_iload_n hx hb d_M_within_0 rfl (lv_at hl 0 rfl) ?_
  refine lv_if_lt (tgt := 13) hx hb d_M_within_1 (by decide) (fun c1t => ?_) (fun c1f => ?_)
  · skip
    refine lv_iconst (v := 0) hx hb d_M_within_13 (by decide) ?_
    exact rdZ X hr hlk d_M_within_14 (by decide) (if_neg (fun z => (l32 _ _).mpr z.1 c1t)).symm
  · skip
    refine lv_iload_n hx hb d_M_within_4 rfl (lv_at hl 0 rfl) ?_
    refine lv_iload_n hx hb d_M_within_5 rfl (lv_at hl 1 rfl) ?_
    refine lv_icmp_gt (tgt := 13) hx hb d_M_within_6 (by decide) (fun c6t => ?_) (fun c6f => ?_)
    · skip
      refine lv_iconst (v := 0) hx hb d_M_within_13 (by decide) ?_
      exact rdZ X hr hlk d_M_within_14 (by decide) (if_neg (fun z => (l32 _ _).mpr z.2 c6t)).symm
    · skip
      refine lv_iconst (v := 1) hx hb d_M_within_9 (by decide) ?_
      refine lv_goto (tgt := 14) hx hb d_M_within_10 (by decide) ?_
      exact rdZ X hr hlk d_M_within_14 (by decide) (if_pos ⟨(l32 _ _).mp c1f, (l32 _ _).mp c6f⟩).symm
set_option maxRecDepth 100000 in
theorem c_M_hasConstant (l : Launch) (D : va_G) {md : Nat → Nat} {kd : Nat → ClassId} {xt xl xc xm xi xn xa xy xb xw xo xs rs af bs f1 f2 su sc : Int32} {con mem reg out wd pl ch dn wk : Nat → Int32} : Met l y_M_hasConstant (Cond.code y_M_hasConstant b_M_hasConstant 1 (some .boolean) :: gW) (rmD 0) (va_Pc [.ref (md 0)] (bS D (wM md kd xt xl xc xm xi xn xa xy xb xw xo xs rs af bs f1 f2 su sc con mem reg out wd pl ch dn wk) (tysM kd))) (QcRead (cnF f1 f2)) 0 0 (fun _ => False) := by
  refine startM (by decide) (Nat.le_of_ble_eq_true rfl) ?_
  intro p e s m below meth c ls X hr hlk hnm hB hl
  replace X : CallFix p m c b_M_hasConstant 1 s _ gW R_M := X
  obtain ⟨hx, hb, hml, hown, hts⟩ := id X
  obtain ⟨hP, hK, hN⟩ := hB
  have Z : cxM p m c _ _ s _ R_M D kd := ⟨X, hK, hN⟩
  refine lv_aload_n hx hb d_M_hasConstant_0 rfl (lv_at hl 0 rfl) ?_
  refine gM_f1 Z hP d_M_hasConstant_1 ?_
  refine lv_bipush (v := 7) hx hb d_M_hasConstant_4 (by decide) ?_
  refine lv_icmp_eq (tgt := 18) hx hb d_M_hasConstant_6 (by decide) (fun c6t => ?_) (fun c6f => ?_)
  · skip
    refine lv_iconst (v := 1) hx hb d_M_hasConstant_18 (by decide) ?_
    refine lv_goto (tgt := 23) hx hb d_M_hasConstant_19 (by decide) ?_
    exact rdZ X hr hlk d_M_hasConstant_23 (by decide) (if_pos (Or.inl c6t)).symm
  · skip
    refine lv_aload_n hx hb d_M_hasConstant_9 rfl (lv_at hl 0 rfl) ?_
    refine gM_f2 Z hP d_M_hasConstant_10 ?_
    refine lv_bipush (v := 7) hx hb d_M_hasConstant_13 (by decide) ?_
    refine lv_icmp_ne (tgt := 22) hx hb d_M_hasConstant_15 (by decide) (fun c15t => ?_) (fun c15f => ?_)
    · skip
      refine lv_iconst (v := 0) hx hb d_M_hasConstant_22 (by decide) ?_
      exact rdZ X hr hlk d_M_hasConstant_23 (by decide) (if_neg (fun z => by rcases z with z | z <;> first | exact c6f z | exact c15t z)).symm
    · skip
      refine lv_iconst (v := 1) hx hb d_M_hasConstant_18 (by decide) ?_
      refine lv_goto (tgt := 23) hx hb d_M_hasConstant_19 (by decide) ?_
      exact rdZ X hr hlk d_M_hasConstant_23 (by decide) (if_pos (Or.inr c15f)).symm
set_option maxRecDepth 100000 in
theorem c_M_waits (l : Launch) (D : va_G) {md : Nat → Nat} {kd : Nat → ClassId} {xt xl xc xm xi xn xa xy xb xw xo xs rs af bs f1 f2 su sc : Int32} {con mem reg out wd pl ch dn wk : Nat → Int32} : Met l y_M_waits (Cond.code y_M_waits b_M_waits 2 (some .boolean) :: gW) (rmD 1) (va_Pc [.ref (md 0)] (bS D (wM md kd xt xl xc xm xi xn xa xy xb xw xo xs rs af bs f1 f2 su sc con mem reg out wd pl ch dn wk) (tysM kd))) (QcRead (wtF f1 bs f2 (xy - xb))) 0 0 (fun _ => False) := by
  refine startM (by decide) (Nat.le_of_ble_eq_true rfl) ?_
  intro p e s m below meth c ls X hr hlk hnm hB hl
  replace X : CallFix p m c b_M_waits 2 s _ gW R_M := X
  obtain ⟨hx, hb, hml, hown, hts⟩ := id X
  obtain ⟨hP, hK, hN⟩ := hB
  have Z : cxM p m c _ _ s _ R_M D kd := ⟨X, hK, hN⟩
  refine lv_aload_n hx hb d_M_waits_0 rfl (lv_at hl 0 rfl) ?_
  refine gM_cycles Z hP d_M_waits_1 ?_
  refine lv_aload_n hx hb d_M_waits_4 rfl (lv_at hl 0 rfl) ?_
  refine gM_began Z hP d_M_waits_5 ?_
  refine lv_isub hx hb d_M_waits_8 ?_
  refine lv_istore_n (lv' := [(1, _), (0, _)]) hx hb d_M_waits_9 rfl hl (by decide) rfl (fun ls hl => ?_)
  have K43 : ¬ (f1 = 1 ∧ xy - xb < 5) → ¬ (bs = 5 ∧ cnF f1 f2 = 0 ∧ xy - xb < 4) → W p l e (rmD 1) s m [.ref (md 0)].toArray below meth c s.heap [] 0 0 (MQ below (QcRead (wtF f1 bs f2 (xy - xb))) [.ref (md 0)].toArray s 0 0 (fun _ => False)) (F0 m 43 ls []) := by
    intro n1 n2
    refine lv_aload_n hx hb d_M_waits_43 rfl (lv_at hl 1 rfl) ?_
    refine gM_f2 Z hP d_M_waits_44 ?_
    refine lv_bipush (v := 6) hx hb d_M_waits_47 (by decide) ?_
    refine lv_icmp_ne (tgt := 61) hx hb d_M_waits_49 (by decide) (fun c49t => ?_) (fun c49f => ?_)
    · skip
      refine lv_iconst (v := 0) hx hb d_M_waits_61 (by decide) ?_
      exact rdZ X hr hlk d_M_waits_62 (by decide) (if_neg (fun z => by rcases z with z | z | z; exact n1 z; exact n2 z; exact c49t z.1)).symm
    · skip
      refine lv_iload_n hx hb d_M_waits_52 rfl (lv_at hl 0 rfl) ?_
      refine lv_iconst (v := 2) hx hb d_M_waits_53 (by decide) ?_
      refine lv_icmp_ge (tgt := 61) hx hb d_M_waits_54 (by decide) (fun c54t => ?_) (fun c54f => ?_)
      · skip
        refine lv_iconst (v := 0) hx hb d_M_waits_61 (by decide) ?_
        exact rdZ X hr hlk d_M_waits_62 (by decide) (if_neg (fun z => by rcases z with z | z | z; exact n1 z; exact n2 z; exact absurd z.2 ((l32 _ _).mpr c54t))).symm
      · skip
        refine lv_iconst (v := 1) hx hb d_M_waits_57 (by decide) ?_
        refine lv_goto (tgt := 62) hx hb d_M_waits_58 (by decide) ?_
        exact rdZ X hr hlk d_M_waits_62 (by decide) (if_pos (Or.inr (Or.inr ⟨c49f, (l32' _ _).mp c54f⟩))).symm
  have K23 : ¬ (f1 = 1 ∧ xy - xb < 5) → W p l e (rmD 1) s m [.ref (md 0)].toArray below meth c s.heap [] 0 0 (MQ below (QcRead (wtF f1 bs f2 (xy - xb))) [.ref (md 0)].toArray s 0 0 (fun _ => False)) (F0 m 23 ls []) := by
    intro n1
    refine lv_aload_n hx hb d_M_waits_23 rfl (lv_at hl 1 rfl) ?_
    refine gM_bs Z hP d_M_waits_24 ?_
    refine lv_iconst (v := 5) hx hb d_M_waits_27 (by decide) ?_
    refine lv_icmp_ne (tgt := 43) hx hb d_M_waits_28 (by decide) (fun c28t => ?_) (fun c28f => ?_)
    · skip
      exact K43 n1 (fun z => c28t z.1)
    · skip
      refine lv_aload_n hx hb d_M_waits_31 rfl (lv_at hl 1 rfl) ?_
      refine callR k_M_62 X (c_M_hasConstant l D) hP hK hN (va_recv hK hP (ci := 3) (q0 := 0) rfl rfl) rfl rfl ⟨Nat.le_of_ble_eq_true rfl, Nat.le_of_ble_eq_true rfl⟩ ⟨Nat.zero_le _, Nat.zero_le _⟩ hl.1 rfl rfl (Nat.le_of_ble_eq_true rfl) d_M_waits_32 ?_
      refine lv_if_ne (tgt := 43) hx hb d_M_waits_35 (by decide) (fun c35t => ?_) (fun c35f => ?_)
      · skip
        exact K43 n1 (fun z => c35t z.2.1)
      · skip
        refine lv_iload_n hx hb d_M_waits_38 rfl (lv_at hl 0 rfl) ?_
        refine lv_iconst (v := 4) hx hb d_M_waits_39 (by decide) ?_
        refine lv_icmp_lt (tgt := 57) hx hb d_M_waits_40 (by decide) (fun c40t => ?_) (fun c40f => ?_)
        · skip
          refine lv_iconst (v := 1) hx hb d_M_waits_57 (by decide) ?_
          refine lv_goto (tgt := 62) hx hb d_M_waits_58 (by decide) ?_
          exact rdZ X hr hlk d_M_waits_62 (by decide) (if_pos (Or.inr (Or.inl ⟨c28f, c35f, c40t⟩))).symm
        · skip
          exact K43 n1 (fun z => c40f z.2.2)
  refine lv_aload_n hx hb d_M_waits_10 rfl (lv_at hl 1 rfl) ?_
  refine gM_f1 Z hP d_M_waits_11 ?_
  refine lv_iconst (v := 1) hx hb d_M_waits_14 (by decide) ?_
  refine lv_icmp_ne (tgt := 23) hx hb d_M_waits_15 (by decide) (fun c15t => ?_) (fun c15f => ?_)
  · skip
    exact K23 (fun z => c15t z.1)
  · skip
    refine lv_iload_n hx hb d_M_waits_18 rfl (lv_at hl 0 rfl) ?_
    refine lv_iconst (v := 5) hx hb d_M_waits_19 (by decide) ?_
    refine lv_icmp_lt (tgt := 57) hx hb d_M_waits_20 (by decide) (fun c20t => ?_) (fun c20f => ?_)
    · skip
      refine lv_iconst (v := 1) hx hb d_M_waits_57 (by decide) ?_
      refine lv_goto (tgt := 62) hx hb d_M_waits_58 (by decide) ?_
      exact rdZ X hr hlk d_M_waits_62 (by decide) (if_pos (Or.inl ⟨c15f, c20t⟩)).symm
    · skip
      exact K23 (fun z => c20f z.2)
set_option maxRecDepth 100000 in
theorem c_M_shifted (l : Launch) (D : va_G) {md : Nat → Nat} {kd : Nat → ClassId} {xt xl xc xm xi xn xa xy xb xw xo xs rs af bs f1 f2 su sc : Int32} {con mem reg out wd pl ch dn wk : Nat → Int32} (ul : u16 xl) : Met l y_M_shifted (Cond.code y_M_shifted b_M_shifted 1 (some .int) :: gW) (rmD 0) (va_Pc [.ref (md 0)] (bS D (wM md kd xt xl xc xm xi xn xa xy xb xw xo xs rs af bs f1 f2 su sc con mem reg out wd pl ch dn wk) (tysM kd))) (QcRead (shF f1 xl)) 0 0 (fun _ => False) := by
  refine startM (by decide) (Nat.le_of_ble_eq_true rfl) ?_
  intro p e s m below meth c ls X hr hlk hnm hB hl
  replace X : CallFix p m c b_M_shifted 1 s _ gW R_M := X
  obtain ⟨hx, hb, hml, hown, hts⟩ := id X
  obtain ⟨hP, hK, hN⟩ := hB
  have Z : cxM p m c _ _ s _ R_M D kd := ⟨X, hK, hN⟩
  refine lv_aload_n hx hb d_M_shifted_0 rfl (lv_at hl 0 rfl) ?_
  refine gM_f1 Z hP d_M_shifted_1 ?_
  by_cases c4_4 : f1 = 4
  · refine lv_tableIn (off := 28) (tgt := 32) hx hb d_M_shifted_4 (by rw [c4_4]; decide) (by rw [c4_4]; decide) (by rw [c4_4]; rfl) (by decide) ?_
    refine lv_iconst (v := 2) hx hb d_M_shifted_32 (by decide) ?_
    refine lv_aload_n hx hb d_M_shifted_33 rfl (lv_at hl 0 rfl) ?_
    refine gM_l Z hP d_M_shifted_34 ?_
    refine lv_imul hx hb d_M_shifted_37 ?_
    refine lv_ldc hx hb hown (hts _ q_370) d_M_shifted_38 ?_
    refine lv_iand hx hb d_M_shifted_40 ?_
    subst c4_4
    exact rdI X hr hlk d_M_shifted_41 (by rw [sh4 ul]; rfl)
  by_cases c4_5 : f1 = 5
  · refine lv_tableIn (off := 38) (tgt := 42) hx hb d_M_shifted_4 (by rw [c4_5]; decide) (by rw [c4_5]; decide) (by rw [c4_5]; rfl) (by decide) ?_
    refine lv_aload_n hx hb d_M_shifted_42 rfl (lv_at hl 0 rfl) ?_
    refine gM_l Z hP d_M_shifted_43 ?_
    refine lv_iconst (v := 2) hx hb d_M_shifted_46 (by decide) ?_
    refine lv_idiv hx hb d_M_shifted_47 (by decide) ?_
    subst c4_5
    exact rdI X hr hlk d_M_shifted_48 (by rw [sh5 ul]; rfl)
  by_cases c4_6 : f1 = 6
  · refine lv_tableIn (off := 45) (tgt := 49) hx hb d_M_shifted_4 (by rw [c4_6]; decide) (by rw [c4_6]; decide) (by rw [c4_6]; rfl) (by decide) ?_
    refine lv_aload_n hx hb d_M_shifted_49 rfl (lv_at hl 0 rfl) ?_
    refine gM_l Z hP d_M_shifted_50 ?_
    refine lv_sipush (v := 256) hx hb d_M_shifted_53 (by decide) ?_
    refine lv_irem hx hb d_M_shifted_56 (by decide) ?_
    refine lv_sipush (v := 256) hx hb d_M_shifted_57 (by decide) ?_
    refine lv_imul hx hb d_M_shifted_60 ?_
    refine lv_aload_n hx hb d_M_shifted_61 rfl (lv_at hl 0 rfl) ?_
    refine gM_l Z hP d_M_shifted_62 ?_
    refine lv_sipush (v := 256) hx hb d_M_shifted_65 (by decide) ?_
    refine lv_idiv hx hb d_M_shifted_68 (by decide) ?_
    refine lv_iadd hx hb d_M_shifted_69 ?_
    subst c4_6
    exact rdI X hr hlk d_M_shifted_70 (by rw [sh6 ul]; rfl)
  refine lv_tableOut (tgt := 71) hx hb d_M_shifted_4 (sw_out 4 3 (fun k hk => by match k, hk with | 0, _ => exact c4_4 | 1, _ => exact c4_5 | 2, _ => exact c4_6)) (by decide) ?_
  refine lv_aload_n hx hb d_M_shifted_71 rfl (lv_at hl 0 rfl) ?_
  refine gM_l Z hP d_M_shifted_72 ?_
  exact rdI X hr hlk d_M_shifted_75 (by simp only [shF, if_neg c4_4, if_neg c4_5, if_neg c4_6])
set_option maxRecDepth 100000 in
theorem c_M_bus (l : Launch) (D : va_G) {md : Nat → Nat} {kd : Nat → ClassId} {xt xl xc xm xi xn xa xy xb xw xo xs af f1 f2 su sc : Int32} {con mem reg out wd pl ch dn wk : Nat → Int32} (w : Int32) (um : u16 xm) : Met l y_M_bus (Cond.code y_M_bus b_M_bus 1 (some .int) :: gW) (rmD 1) (va_Pc [.ref (md 0)] (bS D (wM md kd xt xl xc xm xi xn xa xy xb xw xo xs (mRs w) af (mBs w) f1 f2 su sc con mem reg out wd pl ch dn wk) (tysM kd))) (QcRead (buF (cnF f1 f2) (mRs w) (mBs w) xi xn xm xl con mem reg)) 0 0 (fun _ => False) := by
  refine startM (by decide) (Nat.le_of_ble_eq_true rfl) ?_
  intro p e s m below meth c ls X hr hlk hnm hB hl
  replace X : CallFix p m c b_M_bus 1 s _ gW R_M := X
  obtain ⟨hx, hb, hml, hown, hts⟩ := id X
  obtain ⟨hP, hK, hN⟩ := hB
  have Z : cxM p m c _ _ s _ R_M D kd := ⟨X, hK, hN⟩
  refine lv_aload_n hx hb d_M_bus_0 rfl (lv_at hl 0 rfl) ?_
  refine callR k_M_62 X (c_M_hasConstant l D) hP hK hN (va_recv hK hP (ci := 3) (q0 := 0) rfl rfl) rfl rfl ⟨Nat.le_of_ble_eq_true rfl, Nat.le_of_ble_eq_true rfl⟩ ⟨Nat.zero_le _, Nat.zero_le _⟩ hl.1 rfl rfl (Nat.le_of_ble_eq_true rfl) d_M_bus_1 ?_
  refine lv_if_eq (tgt := 25) hx hb d_M_bus_4 (by decide) (fun c4t => ?_) (fun c4f => ?_)
  · skip
    refine lv_aload_n hx hb d_M_bus_25 rfl (lv_at hl 0 rfl) ?_
    refine gM_bs Z hP d_M_bus_26 ?_
    by_cases c29_0 : mBs w = 0
    · refine lv_tableIn (off := 43) (tgt := 72) hx hb d_M_bus_29 (by rw [c29_0]; decide) (by rw [c29_0]; decide) (by rw [c29_0]; rfl) (by decide) ?_
      refine lv_aload_n hx hb d_M_bus_72 rfl (lv_at hl 0 rfl) ?_
      refine gM_registers Z hP d_M_bus_73 ?_
      refine lv_aload_n hx hb d_M_bus_76 rfl (lv_at hl 0 rfl) ?_
      refine gM_rsel Z hP d_M_bus_77 ?_
      refine lM_registers Z hP (in_rs _) d_M_bus_80 ?_
      exact rdI X hr hlk d_M_bus_81 (by simp only [buF, if_pos c4t, if_pos c29_0])
    by_cases c29_1 : mBs w = 1
    · refine lv_tableIn (off := 53) (tgt := 82) hx hb d_M_bus_29 (by rw [c29_1]; decide) (by rw [c29_1]; decide) (by rw [c29_1]; rfl) (by decide) ?_
      refine lv_iconst (v := 0) hx hb d_M_bus_82 (by decide) ?_
      exact rdI X hr hlk d_M_bus_83 (by simp only [buF, if_pos c4t, if_neg c29_0, if_pos c29_1])
    by_cases c29_2 : mBs w = 2
    · refine lv_tableIn (off := 55) (tgt := 84) hx hb d_M_bus_29 (by rw [c29_2]; decide) (by rw [c29_2]; decide) (by rw [c29_2]; rfl) (by decide) ?_
      refine lv_ldc hx hb hown (hts _ q_370) d_M_bus_84 ?_
      exact rdI X hr hlk d_M_bus_86 (by simp only [buF, if_pos c4t, if_neg c29_0, if_neg c29_1, if_pos c29_2])
    by_cases c29_3 : mBs w = 3
    · refine lv_tableIn (off := 58) (tgt := 87) hx hb d_M_bus_29 (by rw [c29_3]; decide) (by rw [c29_3]; decide) (by rw [c29_3]; rfl) (by decide) ?_
      refine lv_aload_n hx hb d_M_bus_87 rfl (lv_at hl 0 rfl) ?_
      refine gM_input Z hP d_M_bus_88 ?_
      exact rdI X hr hlk d_M_bus_91 (by simp only [buF, if_pos c4t, if_neg c29_0, if_neg c29_1, if_neg c29_2, if_pos c29_3])
    by_cases c29_4 : mBs w = 4
    · refine lv_tableIn (off := 63) (tgt := 92) hx hb d_M_bus_29 (by rw [c29_4]; decide) (by rw [c29_4]; decide) (by rw [c29_4]; rfl) (by decide) ?_
      refine lv_aload_n hx hb d_M_bus_92 rfl (lv_at hl 0 rfl) ?_
      refine gM_hand Z hP d_M_bus_93 ?_
      exact rdI X hr hlk d_M_bus_96 (by simp only [buF, if_pos c4t, if_neg c29_0, if_neg c29_1, if_neg c29_2, if_neg c29_3, if_pos c29_4])
    by_cases c29_5 : mBs w = 5
    · refine lv_tableIn (off := 68) (tgt := 97) hx hb d_M_bus_29 (by rw [c29_5]; decide) (by rw [c29_5]; decide) (by rw [c29_5]; rfl) (by decide) ?_
      refine lv_aload_n hx hb d_M_bus_97 rfl (lv_at hl 0 rfl) ?_
      refine gM_memory Z hP d_M_bus_98 ?_
      refine lv_aload_n hx hb d_M_bus_101 rfl (lv_at hl 0 rfl) ?_
      refine gM_mar Z hP d_M_bus_102 ?_
      refine lv_sipush (v := 1024) hx hb d_M_bus_105 (by decide) ?_
      refine lv_irem hx hb d_M_bus_108 (by decide) ?_
      refine lM_memory Z hP (by rw [rem10 um]; exact in_ma _) d_M_bus_109 ?_
      exact rdI X hr hlk d_M_bus_110 (by rw [rem10 um]; simp only [buF, if_pos c4t, if_neg c29_0, if_neg c29_1, if_neg c29_2, if_neg c29_3, if_neg c29_4, if_pos c29_5])
    by_cases c29_6 : mBs w = 6
    · refine lv_tableIn (off := 82) (tgt := 111) hx hb d_M_bus_29 (by rw [c29_6]; decide) (by rw [c29_6]; decide) (by rw [c29_6]; rfl) (by decide) ?_
      refine lv_aload_n hx hb d_M_bus_111 rfl (lv_at hl 0 rfl) ?_
      refine gM_l Z hP d_M_bus_112 ?_
      exact rdI X hr hlk d_M_bus_115 (by simp only [buF, if_pos c4t, if_neg c29_0, if_neg c29_1, if_neg c29_2, if_neg c29_3, if_neg c29_4, if_neg c29_5, if_pos c29_6])
    refine lv_tableOut (tgt := 116) hx hb d_M_bus_29 (sw_out 0 7 (fun k hk => by match k, hk with | 0, _ => exact c29_0 | 1, _ => exact c29_1 | 2, _ => exact c29_2 | 3, _ => exact c29_3 | 4, _ => exact c29_4 | 5, _ => exact c29_5 | 6, _ => exact c29_6)) (by decide) ?_
    refine lv_aload_n hx hb d_M_bus_116 rfl (lv_at hl 0 rfl) ?_
    refine gM_mar Z hP d_M_bus_117 ?_
    exact rdI X hr hlk d_M_bus_120 (by simp only [buF, if_pos c4t, if_neg c29_0, if_neg c29_1, if_neg c29_2, if_neg c29_3, if_neg c29_4, if_neg c29_5, if_neg c29_6])
  · skip
    refine lv_aload_n hx hb d_M_bus_7 rfl (lv_at hl 0 rfl) ?_
    refine gM_constants Z hP d_M_bus_8 ?_
    refine lv_bipush (v := 8) hx hb d_M_bus_11 (by decide) ?_
    refine lv_aload_n hx hb d_M_bus_13 rfl (lv_at hl 0 rfl) ?_
    refine gM_rsel Z hP d_M_bus_14 ?_
    refine lv_imul hx hb d_M_bus_17 ?_
    refine lv_aload_n hx hb d_M_bus_18 rfl (lv_at hl 0 rfl) ?_
    refine gM_bs Z hP d_M_bus_19 ?_
    refine lv_iadd hx hb d_M_bus_22 ?_
    refine lM_constants Z hP (in_8 _) d_M_bus_23 ?_
    exact rdI X hr hlk d_M_bus_24 (by simp only [buF, if_neg c4f])
set_option maxRecDepth 100000 in
theorem c_M_add (l : Launch) (D : va_G) {A : Nat → Prop} {md : Nat → Nat} {kd : Nat → ClassId} (hO : okM A md) {xt xl xc xm xi xn xa xy xb xw xo xs rs af bs f1 f2 su sc : Int32} {con mem reg out wd pl ch dn wk : Nat → Int32} (v : Int32) : Met l y_M_add (Cond.code y_M_add b_M_add 2 none :: gW) (rmD 0) (va_Pc [.ref (md 0), .int v] (bS D (wM md kd xt xl xc xm xi xn xa xy xb xw xo xs rs af bs f1 f2 su sc con mem reg out wd pl ch dn wk) (tysM kd))) (qV (fun H => va_P D classes (wM md kd xt xl xc xm xi xn xa xy xb xw xo xs rs af bs f1 f2 (smA v) (smC v) con mem reg out wd pl ch dn wk) H) A) 0 0 A := by
  refine startM (by decide) (Nat.le_of_ble_eq_true rfl) ?_
  intro p e s m below meth c ls X hr hlk hnm hB hl
  replace X : CallFix p m c b_M_add 2 s _ gW R_M := X
  obtain ⟨hx, hb, hml, hown, hts⟩ := id X
  obtain ⟨hP, hK, hN⟩ := hB
  have Z : cxM p m c _ _ s _ R_M D kd := ⟨X, hK, hN⟩
  have hS : va_S A s.heap s.heap [] := va_S.rf
  refine lv_aload_n hx hb d_M_add_0 rfl (lv_at hl 0 rfl) ?_
  refine lv_iload_n hx hb d_M_add_1 rfl (lv_at hl 1 rfl) ?_
  refine lv_ldc hx hb hown (hts _ q_370) d_M_add_2 ?_
  refine lv_iand hx hb d_M_add_4 ?_
  refine pM_sum Z hP hO hS d_M_add_5 (fun H locs hP hS => ?_)
  refine lv_aload_n hx hb d_M_add_8 rfl (lv_at hl 0 rfl) ?_
  refine lv_iload_n hx hb d_M_add_9 rfl (lv_at hl 1 rfl) ?_
  refine lv_bipush (v := 16) hx hb d_M_add_10 (by decide) ?_
  refine lv_ishr hx hb d_M_add_12 ?_
  refine lv_iconst (v := 1) hx hb d_M_add_13 (by decide) ?_
  refine lv_iand hx hb d_M_add_14 ?_
  refine pM_sumCarry Z hP hO hS d_M_add_15 (fun H locs hP hS => ?_)
  exact wrV X hr hlk hS d_M_add_18 hP
set_option maxRecDepth 100000 in
theorem c_M_take (l : Launch) (D : va_G) {A : Nat → Prop} {md : Nat → Nat} {kd : Nat → ClassId} (hO : okM A md) {xt xl xc xm xi xn xa xy xb xw xo xs rs af bs f1 f2 su sc : Int32} {con mem reg out wd pl ch dn wk : Nat → Int32} (b v : Int32) : Met l y_M_take (Cond.code y_M_take b_M_take 3 none :: gW) (rmD 0) (va_Pc [.ref (md 0), .int b, .int v] (bS D (wM md kd xt xl xc xm xi xn xa xy xb xw xo xs rs af bs f1 f2 su sc con mem reg out wd pl ch dn wk) (tysM kd))) (qV (fun H => va_P D classes (wM md kd xt xl xc xm xi xn xa xy xb xw xo xs rs af bs f1 f2 (dfA b v) (dfC b v) con mem reg out wd pl ch dn wk) H) A) 0 0 A := by
  refine startM (by decide) (Nat.le_of_ble_eq_true rfl) ?_
  intro p e s m below meth c ls X hr hlk hnm hB hl
  replace X : CallFix p m c b_M_take 3 s _ gW R_M := X
  obtain ⟨hx, hb, hml, hown, hts⟩ := id X
  obtain ⟨hP, hK, hN⟩ := hB
  have Z : cxM p m c _ _ s _ R_M D kd := ⟨X, hK, hN⟩
  have hS : va_S A s.heap s.heap [] := va_S.rf
  refine lv_aload_n hx hb d_M_take_0 rfl (lv_at hl 0 rfl) ?_
  refine lv_iload_n hx hb d_M_take_1 rfl (lv_at hl 1 rfl) ?_
  refine lv_iload_n hx hb d_M_take_2 rfl (lv_at hl 2 rfl) ?_
  refine lv_isub hx hb d_M_take_3 ?_
  refine lv_ldc hx hb hown (hts _ q_370) d_M_take_4 ?_
  refine lv_iand hx hb d_M_take_6 ?_
  refine pM_sum Z hP hO hS d_M_take_7 (fun H locs hP hS => ?_)
  refine lv_aload_n hx hb d_M_take_10 rfl (lv_at hl 0 rfl) ?_
  refine lv_iload_n hx hb d_M_take_11 rfl (lv_at hl 1 rfl) ?_
  refine lv_iload_n hx hb d_M_take_12 rfl (lv_at hl 2 rfl) ?_
  refine lv_icmp_lt (tgt := 20) hx hb d_M_take_13 (by decide) (fun c13t => ?_) (fun c13f => ?_)
  · skip
    refine lv_iconst (v := 0) hx hb d_M_take_20 (by decide) ?_
    refine pM_sumCarry Z hP hO hS d_M_take_21 (fun H locs hP hS => ?_)
    exact wrV X hr hlk hS d_M_take_24 (by simp only [dfC, if_pos c13t]; exact hP)
  · skip
    refine lv_iconst (v := 1) hx hb d_M_take_16 (by decide) ?_
    refine lv_goto (tgt := 21) hx hb d_M_take_17 (by decide) ?_
    refine pM_sumCarry Z hP hO hS d_M_take_21 (fun H locs hP hS => ?_)
    exact wrV X hr hlk hS d_M_take_24 (by simp only [dfC, if_neg c13f]; exact hP)
set_option maxRecDepth 100000 in
theorem c_M_reckon (l : Launch) (D : va_G) {A : Nat → Prop} {md : Nat → Nat} {kd : Nat → ClassId} (hO : okM A md) {xt xl xc xm xi xn xa xy xb xw xo xs rs af bs f1 f2 su sc : Int32} {con mem reg out wd pl ch dn wk : Nat → Int32} (b : Int32) (ub : u16 b) (ut : u16 xt) : Met l y_M_reckon (Cond.code y_M_reckon b_M_reckon 2 none :: gW) (rmD 1) (va_Pc [.ref (md 0), .int b] (bS D (wM md kd xt xl xc xm xi xn xa xy xb xw xo xs rs af bs f1 f2 su sc con mem reg out wd pl ch dn wk) (tysM kd))) (qV (fun H => va_P D classes (wM md kd xt xl xc xm xi xn xa xy xb xw xo xs rs af bs f1 f2 (alF af b xt xc) (acF af b xt xc) con mem reg out wd pl ch dn wk) H) A) 0 0 A := by
  refine startM (by decide) (Nat.le_of_ble_eq_true rfl) ?_
  intro p e s m below meth c ls X hr hlk hnm hB hl
  replace X : CallFix p m c b_M_reckon 2 s _ gW R_M := X
  obtain ⟨hx, hb, hml, hown, hts⟩ := id X
  obtain ⟨hP, hK, hN⟩ := hB
  have Z : cxM p m c _ _ s _ R_M D kd := ⟨X, hK, hN⟩
  have hS : va_S A s.heap s.heap [] := va_S.rf
  refine lv_aload_n hx hb d_M_reckon_0 rfl (lv_at hl 0 rfl) ?_
  refine lv_iconst (v := 0) hx hb d_M_reckon_1 (by decide) ?_
  refine pM_sumCarry Z hP hO hS d_M_reckon_2 (fun H locs hP hS => ?_)
  refine lv_aload_n hx hb d_M_reckon_5 rfl (lv_at hl 0 rfl) ?_
  refine gM_aluf Z hP d_M_reckon_6 ?_
  by_cases c9_0 : af = 0
  · refine lv_tableIn (off := 71) (tgt := 80) hx hb d_M_reckon_9 (by rw [c9_0]; decide) (by rw [c9_0]; decide) (by rw [c9_0]; rfl) (by decide) ?_
    refine lv_aload_n hx hb d_M_reckon_80 rfl (lv_at hl 0 rfl) ?_
    refine lv_iload_n hx hb d_M_reckon_81 rfl (lv_at hl 1 rfl) ?_
    refine pM_sum Z hP hO hS d_M_reckon_82 (fun H locs hP hS => ?_)
    refine lv_goto (tgt := 245) hx hb d_M_reckon_85 (by decide) ?_
    subst c9_0
    exact wrV X hr hlk hS d_M_reckon_245 hP
  by_cases c9_1 : af = 1
  · refine lv_tableIn (off := 79) (tgt := 88) hx hb d_M_reckon_9 (by rw [c9_1]; decide) (by rw [c9_1]; decide) (by rw [c9_1]; rfl) (by decide) ?_
    refine lv_aload_n hx hb d_M_reckon_88 rfl (lv_at hl 0 rfl) ?_
    refine lv_aload_n hx hb d_M_reckon_89 rfl (lv_at hl 0 rfl) ?_
    refine gM_t Z hP d_M_reckon_90 ?_
    refine pM_sum Z hP hO hS d_M_reckon_93 (fun H locs hP hS => ?_)
    refine lv_goto (tgt := 245) hx hb d_M_reckon_96 (by decide) ?_
    subst c9_1
    exact wrV X hr hlk hS d_M_reckon_245 hP
  by_cases c9_2 : af = 2
  · refine lv_tableIn (off := 90) (tgt := 99) hx hb d_M_reckon_9 (by rw [c9_2]; decide) (by rw [c9_2]; decide) (by rw [c9_2]; rfl) (by decide) ?_
    refine lv_aload_n hx hb d_M_reckon_99 rfl (lv_at hl 0 rfl) ?_
    refine lv_iload_n hx hb d_M_reckon_100 rfl (lv_at hl 1 rfl) ?_
    refine lv_aload_n hx hb d_M_reckon_101 rfl (lv_at hl 0 rfl) ?_
    refine gM_t Z hP d_M_reckon_102 ?_
    refine lv_ior hx hb d_M_reckon_105 ?_
    refine pM_sum Z hP hO hS d_M_reckon_106 (fun H locs hP hS => ?_)
    refine lv_goto (tgt := 245) hx hb d_M_reckon_109 (by decide) ?_
    subst c9_2
    exact wrV X hr hlk hS d_M_reckon_245 hP
  by_cases c9_3 : af = 3
  · refine lv_tableIn (off := 103) (tgt := 112) hx hb d_M_reckon_9 (by rw [c9_3]; decide) (by rw [c9_3]; decide) (by rw [c9_3]; rfl) (by decide) ?_
    refine lv_aload_n hx hb d_M_reckon_112 rfl (lv_at hl 0 rfl) ?_
    refine lv_iload_n hx hb d_M_reckon_113 rfl (lv_at hl 1 rfl) ?_
    refine lv_aload_n hx hb d_M_reckon_114 rfl (lv_at hl 0 rfl) ?_
    refine gM_t Z hP d_M_reckon_115 ?_
    refine lv_iand hx hb d_M_reckon_118 ?_
    refine pM_sum Z hP hO hS d_M_reckon_119 (fun H locs hP hS => ?_)
    refine lv_goto (tgt := 245) hx hb d_M_reckon_122 (by decide) ?_
    subst c9_3
    exact wrV X hr hlk hS d_M_reckon_245 hP
  by_cases c9_4 : af = 4
  · refine lv_tableIn (off := 116) (tgt := 125) hx hb d_M_reckon_9 (by rw [c9_4]; decide) (by rw [c9_4]; decide) (by rw [c9_4]; rfl) (by decide) ?_
    refine lv_aload_n hx hb d_M_reckon_125 rfl (lv_at hl 0 rfl) ?_
    refine lv_iload_n hx hb d_M_reckon_126 rfl (lv_at hl 1 rfl) ?_
    refine lv_aload_n hx hb d_M_reckon_127 rfl (lv_at hl 0 rfl) ?_
    refine gM_t Z hP d_M_reckon_128 ?_
    refine lv_ixor hx hb d_M_reckon_131 ?_
    refine pM_sum Z hP hO hS d_M_reckon_132 (fun H locs hP hS => ?_)
    refine lv_goto (tgt := 245) hx hb d_M_reckon_135 (by decide) ?_
    subst c9_4
    exact wrV X hr hlk hS d_M_reckon_245 hP
  by_cases c9_5 : af = 5
  · refine lv_tableIn (off := 129) (tgt := 138) hx hb d_M_reckon_9 (by rw [c9_5]; decide) (by rw [c9_5]; decide) (by rw [c9_5]; rfl) (by decide) ?_
    refine lv_aload_n hx hb d_M_reckon_138 rfl (lv_at hl 0 rfl) ?_
    refine lv_iload_n hx hb d_M_reckon_139 rfl (lv_at hl 1 rfl) ?_
    refine lv_iconst (v := 1) hx hb d_M_reckon_140 (by decide) ?_
    refine lv_iadd hx hb d_M_reckon_141 ?_
    refine callWv k_M_90 X (c_M_add l D hO _) hP hK hN hS (va_recv hK hP (ci := 3) (q0 := 0) rfl rfl) rfl rfl ⟨Nat.le_of_ble_eq_true rfl, Nat.le_of_ble_eq_true rfl⟩ ⟨Nat.zero_le _, Nat.zero_le _⟩ hl.1 rfl rfl (Nat.le_of_ble_eq_true rfl) d_M_reckon_142 (fun H locs hP hS => ?_)
    refine lv_goto (tgt := 245) hx hb d_M_reckon_145 (by decide) ?_
    subst c9_5
    exact wrV X hr hlk hS d_M_reckon_245 hP
  by_cases c9_6 : af = 6
  · refine lv_tableIn (off := 139) (tgt := 148) hx hb d_M_reckon_9 (by rw [c9_6]; decide) (by rw [c9_6]; decide) (by rw [c9_6]; rfl) (by decide) ?_
    refine lv_aload_n hx hb d_M_reckon_148 rfl (lv_at hl 0 rfl) ?_
    refine lv_iload_n hx hb d_M_reckon_149 rfl (lv_at hl 1 rfl) ?_
    refine lv_iconst (v := 1) hx hb d_M_reckon_150 (by decide) ?_
    refine callWv k_M_94 X (c_M_take l D hO _ _) hP hK hN hS (va_recv hK hP (ci := 3) (q0 := 0) rfl rfl) rfl rfl ⟨Nat.le_of_ble_eq_true rfl, Nat.le_of_ble_eq_true rfl⟩ ⟨Nat.zero_le _, Nat.zero_le _⟩ hl.1 rfl rfl (Nat.le_of_ble_eq_true rfl) d_M_reckon_151 (fun H locs hP hS => ?_)
    refine lv_goto (tgt := 245) hx hb d_M_reckon_154 (by decide) ?_
    subst c9_6
    exact wrV X hr hlk hS d_M_reckon_245 hP
  by_cases c9_7 : af = 7
  · refine lv_tableIn (off := 148) (tgt := 157) hx hb d_M_reckon_9 (by rw [c9_7]; decide) (by rw [c9_7]; decide) (by rw [c9_7]; rfl) (by decide) ?_
    refine lv_aload_n hx hb d_M_reckon_157 rfl (lv_at hl 0 rfl) ?_
    refine lv_iload_n hx hb d_M_reckon_158 rfl (lv_at hl 1 rfl) ?_
    refine lv_aload_n hx hb d_M_reckon_159 rfl (lv_at hl 0 rfl) ?_
    refine gM_t Z hP d_M_reckon_160 ?_
    refine lv_iadd hx hb d_M_reckon_163 ?_
    refine callWv k_M_90 X (c_M_add l D hO _) hP hK hN hS (va_recv hK hP (ci := 3) (q0 := 0) rfl rfl) rfl rfl ⟨Nat.le_of_ble_eq_true rfl, Nat.le_of_ble_eq_true rfl⟩ ⟨Nat.zero_le _, Nat.zero_le _⟩ hl.1 rfl rfl (Nat.le_of_ble_eq_true rfl) d_M_reckon_164 (fun H locs hP hS => ?_)
    refine lv_goto (tgt := 245) hx hb d_M_reckon_167 (by decide) ?_
    subst c9_7
    exact wrV X hr hlk hS d_M_reckon_245 hP
  by_cases c9_8 : af = 8
  · refine lv_tableIn (off := 161) (tgt := 170) hx hb d_M_reckon_9 (by rw [c9_8]; decide) (by rw [c9_8]; decide) (by rw [c9_8]; rfl) (by decide) ?_
    refine lv_aload_n hx hb d_M_reckon_170 rfl (lv_at hl 0 rfl) ?_
    refine lv_iload_n hx hb d_M_reckon_171 rfl (lv_at hl 1 rfl) ?_
    refine lv_aload_n hx hb d_M_reckon_172 rfl (lv_at hl 0 rfl) ?_
    refine gM_t Z hP d_M_reckon_173 ?_
    refine callWv k_M_94 X (c_M_take l D hO _ _) hP hK hN hS (va_recv hK hP (ci := 3) (q0 := 0) rfl rfl) rfl rfl ⟨Nat.le_of_ble_eq_true rfl, Nat.le_of_ble_eq_true rfl⟩ ⟨Nat.zero_le _, Nat.zero_le _⟩ hl.1 rfl rfl (Nat.le_of_ble_eq_true rfl) d_M_reckon_176 (fun H locs hP hS => ?_)
    refine lv_goto (tgt := 245) hx hb d_M_reckon_179 (by decide) ?_
    subst c9_8
    exact wrV X hr hlk hS d_M_reckon_245 hP
  by_cases c9_9 : af = 9
  · refine lv_tableIn (off := 173) (tgt := 182) hx hb d_M_reckon_9 (by rw [c9_9]; decide) (by rw [c9_9]; decide) (by rw [c9_9]; rfl) (by decide) ?_
    refine lv_aload_n hx hb d_M_reckon_182 rfl (lv_at hl 0 rfl) ?_
    refine lv_iload_n hx hb d_M_reckon_183 rfl (lv_at hl 1 rfl) ?_
    refine lv_aload_n hx hb d_M_reckon_184 rfl (lv_at hl 0 rfl) ?_
    refine gM_t Z hP d_M_reckon_185 ?_
    refine lv_iconst (v := 1) hx hb d_M_reckon_188 (by decide) ?_
    refine lv_iadd hx hb d_M_reckon_189 ?_
    refine callWv k_M_94 X (c_M_take l D hO _ _) hP hK hN hS (va_recv hK hP (ci := 3) (q0 := 0) rfl rfl) rfl rfl ⟨Nat.le_of_ble_eq_true rfl, Nat.le_of_ble_eq_true rfl⟩ ⟨Nat.zero_le _, Nat.zero_le _⟩ hl.1 rfl rfl (Nat.le_of_ble_eq_true rfl) d_M_reckon_190 (fun H locs hP hS => ?_)
    refine lv_goto (tgt := 245) hx hb d_M_reckon_193 (by decide) ?_
    subst c9_9
    exact wrV X hr hlk hS d_M_reckon_245 hP
  by_cases c9_10 : af = 10
  · refine lv_tableIn (off := 187) (tgt := 196) hx hb d_M_reckon_9 (by rw [c9_10]; decide) (by rw [c9_10]; decide) (by rw [c9_10]; rfl) (by decide) ?_
    refine lv_aload_n hx hb d_M_reckon_196 rfl (lv_at hl 0 rfl) ?_
    refine lv_iload_n hx hb d_M_reckon_197 rfl (lv_at hl 1 rfl) ?_
    refine lv_aload_n hx hb d_M_reckon_198 rfl (lv_at hl 0 rfl) ?_
    refine gM_t Z hP d_M_reckon_199 ?_
    refine lv_iadd hx hb d_M_reckon_202 ?_
    refine lv_iconst (v := 1) hx hb d_M_reckon_203 (by decide) ?_
    refine lv_iadd hx hb d_M_reckon_204 ?_
    refine callWv k_M_90 X (c_M_add l D hO _) hP hK hN hS (va_recv hK hP (ci := 3) (q0 := 0) rfl rfl) rfl rfl ⟨Nat.le_of_ble_eq_true rfl, Nat.le_of_ble_eq_true rfl⟩ ⟨Nat.zero_le _, Nat.zero_le _⟩ hl.1 rfl rfl (Nat.le_of_ble_eq_true rfl) d_M_reckon_205 (fun H locs hP hS => ?_)
    refine lv_goto (tgt := 245) hx hb d_M_reckon_208 (by decide) ?_
    subst c9_10
    exact wrV X hr hlk hS d_M_reckon_245 hP
  by_cases c9_11 : af = 11
  · refine lv_tableIn (off := 202) (tgt := 211) hx hb d_M_reckon_9 (by rw [c9_11]; decide) (by rw [c9_11]; decide) (by rw [c9_11]; rfl) (by decide) ?_
    refine lv_aload_n hx hb d_M_reckon_211 rfl (lv_at hl 0 rfl) ?_
    refine lv_iload_n hx hb d_M_reckon_212 rfl (lv_at hl 1 rfl) ?_
    refine lv_aload_n hx hb d_M_reckon_213 rfl (lv_at hl 0 rfl) ?_
    refine gM_carry Z hP d_M_reckon_214 ?_
    refine lv_iadd hx hb d_M_reckon_217 ?_
    refine callWv k_M_90 X (c_M_add l D hO _) hP hK hN hS (va_recv hK hP (ci := 3) (q0 := 0) rfl rfl) rfl rfl ⟨Nat.le_of_ble_eq_true rfl, Nat.le_of_ble_eq_true rfl⟩ ⟨Nat.zero_le _, Nat.zero_le _⟩ hl.1 rfl rfl (Nat.le_of_ble_eq_true rfl) d_M_reckon_218 (fun H locs hP hS => ?_)
    refine lv_goto (tgt := 245) hx hb d_M_reckon_221 (by decide) ?_
    subst c9_11
    exact wrV X hr hlk hS d_M_reckon_245 hP
  by_cases c9_12 : af = 12
  · refine lv_tableIn (off := 103) (tgt := 112) hx hb d_M_reckon_9 (by rw [c9_12]; decide) (by rw [c9_12]; decide) (by rw [c9_12]; rfl) (by decide) ?_
    refine lv_aload_n hx hb d_M_reckon_112 rfl (lv_at hl 0 rfl) ?_
    refine lv_iload_n hx hb d_M_reckon_113 rfl (lv_at hl 1 rfl) ?_
    refine lv_aload_n hx hb d_M_reckon_114 rfl (lv_at hl 0 rfl) ?_
    refine gM_t Z hP d_M_reckon_115 ?_
    refine lv_iand hx hb d_M_reckon_118 ?_
    refine pM_sum Z hP hO hS d_M_reckon_119 (fun H locs hP hS => ?_)
    refine lv_goto (tgt := 245) hx hb d_M_reckon_122 (by decide) ?_
    subst c9_12
    exact wrV X hr hlk hS d_M_reckon_245 hP
  by_cases c9_13 : af = 13
  · refine lv_tableIn (off := 215) (tgt := 224) hx hb d_M_reckon_9 (by rw [c9_13]; decide) (by rw [c9_13]; decide) (by rw [c9_13]; rfl) (by decide) ?_
    refine lv_aload_n hx hb d_M_reckon_224 rfl (lv_at hl 0 rfl) ?_
    refine lv_iload_n hx hb d_M_reckon_225 rfl (lv_at hl 1 rfl) ?_
    refine lv_ldc hx hb hown (hts _ q_370) d_M_reckon_226 ?_
    refine lv_aload_n hx hb d_M_reckon_228 rfl (lv_at hl 0 rfl) ?_
    refine gM_t Z hP d_M_reckon_229 ?_
    refine lv_isub hx hb d_M_reckon_232 ?_
    refine lv_iand hx hb d_M_reckon_233 ?_
    refine pM_sum Z hP hO hS d_M_reckon_234 (fun H locs hP hS => ?_)
    refine lv_goto (tgt := 245) hx hb d_M_reckon_237 (by decide) ?_
    subst c9_13
    rw [andn ub ut] at hP
    exact wrV X hr hlk hS d_M_reckon_245 hP
  refine lv_tableOut (tgt := 240) hx hb d_M_reckon_9 (sw_out 0 14 (fun k hk => by match k, hk with | 0, _ => exact c9_0 | 1, _ => exact c9_1 | 2, _ => exact c9_2 | 3, _ => exact c9_3 | 4, _ => exact c9_4 | 5, _ => exact c9_5 | 6, _ => exact c9_6 | 7, _ => exact c9_7 | 8, _ => exact c9_8 | 9, _ => exact c9_9 | 10, _ => exact c9_10 | 11, _ => exact c9_11 | 12, _ => exact c9_12 | 13, _ => exact c9_13)) (by decide) ?_
  refine lv_aload_n hx hb d_M_reckon_240 rfl (lv_at hl 0 rfl) ?_
  refine lv_iconst (v := 0) hx hb d_M_reckon_241 (by decide) ?_
  refine pM_sum Z hP hO hS d_M_reckon_242 (fun H locs hP hS => ?_)
  exact wrV X hr hlk hS d_M_reckon_245 (by simp only [alF, acF, if_neg c9_0, if_neg c9_1, if_neg c9_2, if_neg c9_3, if_neg c9_4, if_neg c9_5, if_neg c9_6, if_neg c9_7, if_neg c9_8, if_neg c9_9, if_neg c9_10, if_neg c9_11, if_neg c9_12, if_neg c9_13]; exact hP)
set_option maxRecDepth 100000 in
theorem c_M_isOfAlu (l : Launch) (D : va_G) {md : Nat → Nat} {kd : Nat → ClassId} {xt xl xc xm xi xn xa xy xb xw xo xs rs af bs f1 f2 su sc : Int32} {con mem reg out wd pl ch dn wk : Nat → Int32} : Met l y_M_isOfAlu (Cond.code y_M_isOfAlu b_M_isOfAlu 1 (some .boolean) :: gW) (rmD 0) (va_Pc [.ref (md 0)] (bS D (wM md kd xt xl xc xm xi xn xa xy xb xw xo xs rs af bs f1 f2 su sc con mem reg out wd pl ch dn wk) (tysM kd))) (QcRead (isA af)) 0 0 (fun _ => False) := by
  refine startM (by decide) (Nat.le_of_ble_eq_true rfl) ?_
  intro p e s m below meth c ls X hr hlk hnm hB hl
  replace X : CallFix p m c b_M_isOfAlu 1 s _ gW R_M := X
  obtain ⟨hx, hb, hml, hown, hts⟩ := id X
  obtain ⟨hP, hK, hN⟩ := hB
  have Z : cxM p m c _ _ s _ R_M D kd := ⟨X, hK, hN⟩
  refine lv_aload_n hx hb d_M_isOfAlu_0 rfl (lv_at hl 0 rfl) ?_
  refine gM_aluf Z hP d_M_isOfAlu_1 ?_
  refine lv_if_eq (tgt := 50) hx hb d_M_isOfAlu_4 (by decide) (fun c4t => ?_) (fun c4f => ?_)
  · skip
    refine lv_iconst (v := 1) hx hb d_M_isOfAlu_50 (by decide) ?_
    refine lv_goto (tgt := 55) hx hb d_M_isOfAlu_51 (by decide) ?_
    exact rdZ X hr hlk d_M_isOfAlu_55 (by decide) (if_pos (Or.inl c4t)).symm
  · skip
    refine lv_aload_n hx hb d_M_isOfAlu_7 rfl (lv_at hl 0 rfl) ?_
    refine gM_aluf Z hP d_M_isOfAlu_8 ?_
    refine lv_iconst (v := 2) hx hb d_M_isOfAlu_11 (by decide) ?_
    refine lv_icmp_eq (tgt := 50) hx hb d_M_isOfAlu_12 (by decide) (fun c12t => ?_) (fun c12f => ?_)
    · skip
      refine lv_iconst (v := 1) hx hb d_M_isOfAlu_50 (by decide) ?_
      refine lv_goto (tgt := 55) hx hb d_M_isOfAlu_51 (by decide) ?_
      exact rdZ X hr hlk d_M_isOfAlu_55 (by decide) (if_pos (Or.inr (Or.inl c12t))).symm
    · skip
      refine lv_aload_n hx hb d_M_isOfAlu_15 rfl (lv_at hl 0 rfl) ?_
      refine gM_aluf Z hP d_M_isOfAlu_16 ?_
      refine lv_iconst (v := 5) hx hb d_M_isOfAlu_19 (by decide) ?_
      refine lv_icmp_eq (tgt := 50) hx hb d_M_isOfAlu_20 (by decide) (fun c20t => ?_) (fun c20f => ?_)
      · skip
        refine lv_iconst (v := 1) hx hb d_M_isOfAlu_50 (by decide) ?_
        refine lv_goto (tgt := 55) hx hb d_M_isOfAlu_51 (by decide) ?_
        exact rdZ X hr hlk d_M_isOfAlu_55 (by decide) (if_pos (Or.inr (Or.inr (Or.inl c20t)))).symm
      · skip
        refine lv_aload_n hx hb d_M_isOfAlu_23 rfl (lv_at hl 0 rfl) ?_
        refine gM_aluf Z hP d_M_isOfAlu_24 ?_
        refine lv_bipush (v := 6) hx hb d_M_isOfAlu_27 (by decide) ?_
        refine lv_icmp_eq (tgt := 50) hx hb d_M_isOfAlu_29 (by decide) (fun c29t => ?_) (fun c29f => ?_)
        · skip
          refine lv_iconst (v := 1) hx hb d_M_isOfAlu_50 (by decide) ?_
          refine lv_goto (tgt := 55) hx hb d_M_isOfAlu_51 (by decide) ?_
          exact rdZ X hr hlk d_M_isOfAlu_55 (by decide) (if_pos (Or.inr (Or.inr (Or.inr (Or.inl c29t))))).symm
        · skip
          refine lv_aload_n hx hb d_M_isOfAlu_32 rfl (lv_at hl 0 rfl) ?_
          refine gM_aluf Z hP d_M_isOfAlu_33 ?_
          refine lv_bipush (v := 10) hx hb d_M_isOfAlu_36 (by decide) ?_
          refine lv_icmp_lt (tgt := 54) hx hb d_M_isOfAlu_38 (by decide) (fun c38t => ?_) (fun c38f => ?_)
          · skip
            refine lv_iconst (v := 0) hx hb d_M_isOfAlu_54 (by decide) ?_
            exact rdZ X hr hlk d_M_isOfAlu_55 (by decide) (if_neg (fun z => by rcases z with z | z | z | z | z <;> first | exact c4f z | exact c12f z | exact c20f z | exact c29f z | exact (l32 _ _).mpr z.1 c38t)).symm
          · skip
            refine lv_aload_n hx hb d_M_isOfAlu_41 rfl (lv_at hl 0 rfl) ?_
            refine gM_aluf Z hP d_M_isOfAlu_42 ?_
            refine lv_bipush (v := 12) hx hb d_M_isOfAlu_45 (by decide) ?_
            refine lv_icmp_gt (tgt := 54) hx hb d_M_isOfAlu_47 (by decide) (fun c47t => ?_) (fun c47f => ?_)
            · skip
              refine lv_iconst (v := 0) hx hb d_M_isOfAlu_54 (by decide) ?_
              exact rdZ X hr hlk d_M_isOfAlu_55 (by decide) (if_neg (fun z => by rcases z with z | z | z | z | z <;> first | exact c4f z | exact c12f z | exact c20f z | exact c29f z | exact (l32 _ _).mpr z.2 c47t)).symm
            · skip
              refine lv_iconst (v := 1) hx hb d_M_isOfAlu_50 (by decide) ?_
              refine lv_goto (tgt := 55) hx hb d_M_isOfAlu_51 (by decide) ?_
              exact rdZ X hr hlk d_M_isOfAlu_55 (by decide) (if_pos (Or.inr (Or.inr (Or.inr (Or.inr ⟨(l32 _ _).mp c38f, (l32 _ _).mp c47f⟩))))).symm
set_option maxRecDepth 100000 in
theorem c_M_change (l : Launch) (D : va_G) {md : Nat → Nat} {kd : Nat → ClassId} {xt xl xc xm xi xn xa xy xb xw xo xs rs af bs f1 f2 su sc : Int32} {con mem reg out wd pl ch dn wk : Nat → Int32} (b h : Int32) (ub : u16 b) (uh : u16 h) (ui : u16 xi) : Met l y_M_change (Cond.code y_M_change b_M_change 3 (some .int) :: gW) (rmD 0) (va_Pc [.ref (md 0), .int b, .int h] (bS D (wM md kd xt xl xc xm xi xn xa xy xb xw xo xs rs af bs f1 f2 su sc con mem reg out wd pl ch dn wk) (tysM kd))) (QcRead (chF f2 b h xc xi)) 0 0 (fun _ => False) := by
  refine startM (by decide) (Nat.le_of_ble_eq_true rfl) ?_
  intro p e s m below meth c ls X hr hlk hnm hB hl
  replace X : CallFix p m c b_M_change 3 s _ gW R_M := X
  obtain ⟨hx, hb, hml, hown, hts⟩ := id X
  obtain ⟨hP, hK, hN⟩ := hB
  have Z : cxM p m c _ _ s _ R_M D kd := ⟨X, hK, hN⟩
  refine lv_aload_n hx hb d_M_change_0 rfl (lv_at hl 0 rfl) ?_
  refine gM_f2 Z hP d_M_change_1 ?_
  by_cases c4_1 : f2 = 1
  · refine lv_tableIn (off := 48) (tgt := 52) hx hb d_M_change_4 (by rw [c4_1]; decide) (by rw [c4_1]; decide) (by rw [c4_1]; rfl) (by decide) ?_
    refine lv_iload_n hx hb d_M_change_52 rfl (lv_at hl 1 rfl) ?_
    refine lv_if_ne (tgt := 60) hx hb d_M_change_53 (by decide) (fun c53t => ?_) (fun c53f => ?_)
    · skip
      refine lv_iconst (v := 0) hx hb d_M_change_60 (by decide) ?_
      exact rdI X hr hlk d_M_change_61 (by simp only [chF, if_pos c4_1, if_neg c53t])
    · skip
      refine lv_iconst (v := 1) hx hb d_M_change_56 (by decide) ?_
      refine lv_goto (tgt := 61) hx hb d_M_change_57 (by decide) ?_
      exact rdI X hr hlk d_M_change_61 (by simp only [chF, if_pos c4_1, if_pos c53f])
  by_cases c4_2 : f2 = 2
  · refine lv_tableIn (off := 58) (tgt := 62) hx hb d_M_change_4 (by rw [c4_2]; decide) (by rw [c4_2]; decide) (by rw [c4_2]; rfl) (by decide) ?_
    refine lv_iload_n hx hb d_M_change_62 rfl (lv_at hl 2 rfl) ?_
    refine lv_bipush (v := 15) hx hb d_M_change_63 (by decide) ?_
    refine lv_ishr hx hb d_M_change_65 ?_
    exact rdI X hr hlk d_M_change_66 (by rw [top1 uh]; simp only [chF, if_neg c4_1, if_pos c4_2])
  by_cases c4_3 : f2 = 3
  · refine lv_tableIn (off := 63) (tgt := 67) hx hb d_M_change_4 (by rw [c4_3]; decide) (by rw [c4_3]; decide) (by rw [c4_3]; rfl) (by decide) ?_
    refine lv_iload_n hx hb d_M_change_67 rfl (lv_at hl 2 rfl) ?_
    refine lv_if_ne (tgt := 75) hx hb d_M_change_68 (by decide) (fun c68t => ?_) (fun c68f => ?_)
    · skip
      refine lv_iconst (v := 0) hx hb d_M_change_75 (by decide) ?_
      exact rdI X hr hlk d_M_change_76 (by simp only [chF, if_neg c4_1, if_neg c4_2, if_pos c4_3, if_neg c68t])
    · skip
      refine lv_iconst (v := 1) hx hb d_M_change_71 (by decide) ?_
      refine lv_goto (tgt := 76) hx hb d_M_change_72 (by decide) ?_
      exact rdI X hr hlk d_M_change_76 (by simp only [chF, if_neg c4_1, if_neg c4_2, if_pos c4_3, if_pos c68f])
  by_cases c4_4 : f2 = 4
  · refine lv_tableIn (off := 73) (tgt := 77) hx hb d_M_change_4 (by rw [c4_4]; decide) (by rw [c4_4]; decide) (by rw [c4_4]; rfl) (by decide) ?_
    refine lv_iload_n hx hb d_M_change_77 rfl (lv_at hl 1 rfl) ?_
    refine lv_sipush (v := 1024) hx hb d_M_change_78 (by decide) ?_
    refine lv_irem hx hb d_M_change_81 (by decide) ?_
    exact rdI X hr hlk d_M_change_82 (by rw [rem10 ub]; simp only [chF, if_neg c4_1, if_neg c4_2, if_neg c4_3, if_pos c4_4])
  by_cases c4_5 : f2 = 5
  · refine lv_tableIn (off := 79) (tgt := 83) hx hb d_M_change_4 (by rw [c4_5]; decide) (by rw [c4_5]; decide) (by rw [c4_5]; rfl) (by decide) ?_
    refine lv_aload_n hx hb d_M_change_83 rfl (lv_at hl 0 rfl) ?_
    refine gM_carry Z hP d_M_change_84 ?_
    exact rdI X hr hlk d_M_change_87 (by simp only [chF, if_neg c4_1, if_neg c4_2, if_neg c4_3, if_neg c4_4, if_pos c4_5])
  by_cases c4_6 : f2 = 6
  · refine lv_tableIn (off := 91) (tgt := 95) hx hb d_M_change_4 (by rw [c4_6]; decide) (by rw [c4_6]; decide) (by rw [c4_6]; rfl) (by decide) ?_
    refine lv_iconst (v := 0) hx hb d_M_change_95 (by decide) ?_
    subst c4_6
    exact rdI X hr hlk d_M_change_96 rfl
  by_cases c4_7 : f2 = 7
  · refine lv_tableIn (off := 91) (tgt := 95) hx hb d_M_change_4 (by rw [c4_7]; decide) (by rw [c4_7]; decide) (by rw [c4_7]; rfl) (by decide) ?_
    refine lv_iconst (v := 0) hx hb d_M_change_95 (by decide) ?_
    subst c4_7
    exact rdI X hr hlk d_M_change_96 rfl
  by_cases c4_8 : f2 = 8
  · refine lv_tableIn (off := 84) (tgt := 88) hx hb d_M_change_4 (by rw [c4_8]; decide) (by rw [c4_8]; decide) (by rw [c4_8]; rfl) (by decide) ?_
    refine lv_aload_n hx hb d_M_change_88 rfl (lv_at hl 0 rfl) ?_
    refine gM_input Z hP d_M_change_89 ?_
    refine lv_iconst (v := 2) hx hb d_M_change_92 (by decide) ?_
    refine lv_irem hx hb d_M_change_93 (by decide) ?_
    exact rdI X hr hlk d_M_change_94 (by rw [rem1 ui]; simp only [chF, if_neg c4_1, if_neg c4_2, if_neg c4_3, if_neg c4_4, if_neg c4_5, if_neg c4_6, if_neg c4_7, if_pos c4_8])
  refine lv_tableOut (tgt := 95) hx hb d_M_change_4 (sw_out 1 8 (fun k hk => by match k, hk with | 0, _ => exact c4_1 | 1, _ => exact c4_2 | 2, _ => exact c4_3 | 3, _ => exact c4_4 | 4, _ => exact c4_5 | 5, _ => exact c4_6 | 6, _ => exact c4_7 | 7, _ => exact c4_8)) (by decide) ?_
  refine lv_iconst (v := 0) hx hb d_M_change_95 (by decide) ?_
  exact rdI X hr hlk d_M_change_96 (by simp only [chF, if_neg c4_1, if_neg c4_2, if_neg c4_3, if_neg c4_4, if_neg c4_5, if_neg c4_6, if_neg c4_7, if_neg c4_8])
set_option maxRecDepth 100000 in
theorem c_M_give (l : Launch) (D : va_G) {A : Nat → Prop} {md : Nat → Nat} {kd : Nat → ClassId} (hO : okM A md) {xt xl xc xm xi xn xa xy xb xw xo xs rs af bs f1 f2 su sc : Int32} {con mem reg out wd pl ch dn wk : Nat → Int32} (v : Int32) (hv : v = 0 ∨ v = 1) (hw : ¬ wk 0 = 0) : Met l y_M_give (Cond.code y_M_give b_M_give 4 none :: gW) (rmD 0) (va_Pc [.ref (md 0), .int v] (bS D (wM md kd xt xl xc xm xi xn xa xy xb xw xo xs rs af bs f1 f2 su sc con mem reg out wd pl ch dn wk) (tysM kd))) (qV (fun H => va_P D classes (wM md kd xt xl xc xm xi (if xa = 0 then xn else nI (grN wk 15)) (v) xy xb xw xo (if xa = 0 then xs else if nI (grN wk 15) = xn then xs else xs + 1) rs af bs f1 f2 su sc con mem reg out wd pl ch dn wk) H) A) 0 0 A := by
  refine startM (by decide) (Nat.le_of_ble_eq_true rfl) ?_
  intro p e s m below meth c ls X hr hlk hnm hB hl
  replace X : CallFix p m c b_M_give 4 s _ gW R_M := X
  obtain ⟨hx, hb, hml, hown, hts⟩ := id X
  obtain ⟨hP, hK, hN⟩ := hB
  have Z : cxM p m c _ _ s _ R_M D kd := ⟨X, hK, hN⟩
  have hS : va_S A s.heap s.heap [] := va_S.rf
  refine lv_aload_n hx hb d_M_give_0 rfl (lv_at hl 0 rfl) ?_
  refine gM_gives Z hP d_M_give_1 ?_
  refine lv_istore_n (lv' := [(2, _), (0, _), (1, _)]) hx hb d_M_give_4 rfl hl (by decide) rfl (fun ls hl => ?_)
  refine lv_aload_n hx hb d_M_give_5 rfl (lv_at hl 1 rfl) ?_
  refine lv_iload_n hx hb d_M_give_6 rfl (lv_at hl 2 rfl) ?_
  refine pM_gives Z hP hO hS hv d_M_give_7 (fun H locs hP hS => ?_)
  refine lv_iload_n hx hb d_M_give_10 rfl (lv_at hl 0 rfl) ?_
  refine lv_if_eq (tgt := 62) hx hb d_M_give_11 (by decide) (fun c11t => ?_) (fun c11f => ?_)
  · skip
    exact wrV X hr hlk hS d_M_give_62 (by simp only [if_pos c11t]; exact hP)
  · skip
    have K : ∀ k : Nat, k ≤ 15 → grN wk 15 = grN wk k → ∀ ls : Array Slot, lv_has ls 4 [(3, .int (nI k)), (2, .int xa), (0, .ref (md 0)), (1, .int v)] → W p l e (rmD 0) s m [.ref (md 0), .int v].toArray below meth c H locs 0 0 (MQ below (qV (fun H => va_P D classes (wM md kd xt xl xc xm xi (if xa = 0 then xn else nI (grN wk 15)) (v) xy xb xw xo (if xa = 0 then xs else if nI (grN wk 15) = xn then xs else xs + 1) rs af bs f1 f2 su sc con mem reg out wd pl ch dn wk) H) A) [.ref (md 0), .int v].toArray s 0 0 A) (F0 m 17 ls []) := by
      intro k
      induction k with
      | zero =>
        intro hk hg ls hl
        refine lv_aload_n hx hb d_M_give_17 rfl (lv_at hl 2 rfl) ?_
        refine gM_lines Z hP d_M_give_18 ?_
        refine lv_iload_n hx hb d_M_give_21 rfl (lv_at hl 0 rfl) ?_
        refine lM_lines Z hP (vp_in_nI (n := 0) (N := 16) (by omega) (by decide)) d_M_give_22 ?_
        refine lv_if_ne (tgt := 32) hx hb d_M_give_23 (by decide) (fun c23t => ?_) (fun c23f => ?_)
        · skip
          rw [nI_clamp (n := 0) (by omega)] at c23t
          have hg : 0 = grN wk 15 := by rw [hg]; rfl
          refine lv_aload_n hx hb d_M_give_32 rfl (lv_at hl 2 rfl) ?_
          refine lv_iload_n hx hb d_M_give_33 rfl (lv_at hl 0 rfl) ?_
          refine lv_aload_n hx hb d_M_give_34 rfl (lv_at hl 2 rfl) ?_
          refine gM_hand Z hP d_M_give_35 ?_
          refine lv_icmp_ne (tgt := 48) hx hb d_M_give_38 (by decide) (fun c38t => ?_) (fun c38f => ?_)
          · skip
            refine lv_aload_n hx hb d_M_give_48 rfl (lv_at hl 2 rfl) ?_
            refine gM_switched Z hP d_M_give_49 ?_
            refine lv_iconst (v := 1) hx hb d_M_give_52 (by decide) ?_
            refine lv_iadd hx hb d_M_give_53 ?_
            refine pM_switched Z hP hO hS d_M_give_54 (fun H locs hP hS => ?_)
            refine lv_aload_n hx hb d_M_give_57 rfl (lv_at hl 2 rfl) ?_
            refine lv_iload_n hx hb d_M_give_58 rfl (lv_at hl 0 rfl) ?_
            refine pM_hand Z hP hO hS d_M_give_59 (fun H locs hP hS => ?_)
            exact wrV X hr hlk hS d_M_give_62 (by rw [← hg]; simp only [if_neg c11f, if_neg c38t]; exact hP)
          · skip
            refine lv_aload_n hx hb d_M_give_41 rfl (lv_at hl 2 rfl) ?_
            refine gM_switched Z hP d_M_give_42 ?_
            refine lv_goto (tgt := 54) hx hb d_M_give_45 (by decide) ?_
            refine pM_switched Z hP hO hS d_M_give_54 (fun H locs hP hS => ?_)
            refine lv_aload_n hx hb d_M_give_57 rfl (lv_at hl 2 rfl) ?_
            refine lv_iload_n hx hb d_M_give_58 rfl (lv_at hl 0 rfl) ?_
            refine pM_hand Z hP hO hS d_M_give_59 (fun H locs hP hS => ?_)
            exact wrV X hr hlk hS d_M_give_62 (by rw [← hg]; simp only [if_neg c11f, if_pos c38f]; exact hP)
        · skip
          rw [nI_clamp (n := 0) (by omega)] at c23f
          exact absurd c23f hw
      | succ k ih =>
        intro hk hg ls hl
        refine lv_aload_n hx hb d_M_give_17 rfl (lv_at hl 2 rfl) ?_
        refine gM_lines Z hP d_M_give_18 ?_
        refine lv_iload_n hx hb d_M_give_21 rfl (lv_at hl 0 rfl) ?_
        refine lM_lines Z hP (vp_in_nI (n := (k + 1)) (N := 16) (by omega) (by decide)) d_M_give_22 ?_
        refine lv_if_ne (tgt := 32) hx hb d_M_give_23 (by decide) (fun c23t => ?_) (fun c23f => ?_)
        · skip
          rw [nI_clamp (n := (k + 1)) (by omega)] at c23t
          have hg : (k + 1) = grN wk 15 := by rw [hg]; simp only [grN, if_neg c23t]
          refine lv_aload_n hx hb d_M_give_32 rfl (lv_at hl 2 rfl) ?_
          refine lv_iload_n hx hb d_M_give_33 rfl (lv_at hl 0 rfl) ?_
          refine lv_aload_n hx hb d_M_give_34 rfl (lv_at hl 2 rfl) ?_
          refine gM_hand Z hP d_M_give_35 ?_
          refine lv_icmp_ne (tgt := 48) hx hb d_M_give_38 (by decide) (fun c38t => ?_) (fun c38f => ?_)
          · skip
            refine lv_aload_n hx hb d_M_give_48 rfl (lv_at hl 2 rfl) ?_
            refine gM_switched Z hP d_M_give_49 ?_
            refine lv_iconst (v := 1) hx hb d_M_give_52 (by decide) ?_
            refine lv_iadd hx hb d_M_give_53 ?_
            refine pM_switched Z hP hO hS d_M_give_54 (fun H locs hP hS => ?_)
            refine lv_aload_n hx hb d_M_give_57 rfl (lv_at hl 2 rfl) ?_
            refine lv_iload_n hx hb d_M_give_58 rfl (lv_at hl 0 rfl) ?_
            refine pM_hand Z hP hO hS d_M_give_59 (fun H locs hP hS => ?_)
            exact wrV X hr hlk hS d_M_give_62 (by rw [← hg]; simp only [if_neg c11f, if_neg c38t]; exact hP)
          · skip
            refine lv_aload_n hx hb d_M_give_41 rfl (lv_at hl 2 rfl) ?_
            refine gM_switched Z hP d_M_give_42 ?_
            refine lv_goto (tgt := 54) hx hb d_M_give_45 (by decide) ?_
            refine pM_switched Z hP hO hS d_M_give_54 (fun H locs hP hS => ?_)
            refine lv_aload_n hx hb d_M_give_57 rfl (lv_at hl 2 rfl) ?_
            refine lv_iload_n hx hb d_M_give_58 rfl (lv_at hl 0 rfl) ?_
            refine pM_hand Z hP hO hS d_M_give_59 (fun H locs hP hS => ?_)
            exact wrV X hr hlk hS d_M_give_62 (by rw [← hg]; simp only [if_neg c11f, if_pos c38f]; exact hP)
        · skip
          rw [nI_clamp (n := (k + 1)) (by omega)] at c23f
          refine lv_iinc (lv' := [(3, _), (2, _), (0, _), (1, _)]) hx hb d_M_give_26 hl (k := 0) rfl rfl (by decide) rfl (fun ls hl => ?_)
          refine lv_goto (tgt := 17) hx hb d_M_give_29 (by decide) ?_
          exact ih (by omega) (by rw [hg]; simp only [grN, if_pos c23f]) ls (by rw [show nI (k + 1) + Int32.ofInt (-1) = nI k from pk_m1 k] at hl; exact hl)
    refine lv_bipush (v := 15) hx hb d_M_give_14 (by decide) ?_
    refine lv_istore_n (lv' := [(3, _), (2, _), (0, _), (1, _)]) hx hb d_M_give_16 rfl hl (by decide) rfl (fun ls hl => ?_)
    exact K 15 (by omega) rfl ls hl
theorem ltw_0 {w : Int32} (h : ¬ (w >>> ((11 : Int32) &&& 31)) &&& 1 = 1) : mLT w = 0 := if_neg h
theorem ltw_1 {w : Int32} (h : (w >>> ((11 : Int32) &&& 31)) &&& 1 = 1) : ¬ mLT w = 0 := by rw [mLT, if_pos h]; decide
theorem ll_0 {w : Int32} (h : ¬ (w >>> ((10 : Int32) &&& 31)) &&& 1 = 1) : mLL w = 0 := if_neg h
theorem ll_1 {w : Int32} (h : (w >>> ((10 : Int32) &&& 31)) &&& 1 = 1) : ¬ mLL w = 0 := by rw [mLL, if_pos h]; decide
theorem jn_0 {x : Int32} {n : Nat} (h : vp_in x n) (hx : x ≤ 0) : x.toNatClampNeg = 0 := by
  have h1 := vp_in_iff.mp h
  have h2 := Int32.le_iff_toInt_le.mp hx
  have h3 : (0 : Int32).toInt = 0 := rfl
  have : x.toInt = (0 : Int32).toInt := by omega
  rw [Int32.toInt_inj.mp this]; rfl
theorem jn_1 {x : Int32} {n : Nat} (h : vp_in x n) (hx : ¬ x ≤ 0) : ¬ x.toNatClampNeg = 0 := by
  intro z
  apply hx
  obtain ⟨h1, h2⟩ := vp_in_iff.mp h
  rw [Int32.le_iff_toInt_le]
  have h3 : (0 : Int32).toInt = 0 := rfl
  have h4 : x.toInt.toNat = 0 := z
  omega
theorem upd_e {f : Nat → Int32} {i : Nat} {x : Int32} (h : f i = x) : upd f i x = f := by rw [← h]; exact upd_s
set_option maxRecDepth 100000 in
theorem c_M_act (l : Launch) (D : va_G) {A : Nat → Prop} {md : Nat → Nat} {kd : Nat → ClassId} (hO : okM A md) {xt xl xc xm xi xn xa xy xb xw xo xs su sc : Int32} {con mem reg out wd pl ch dn wk : Nat → Int32} (w : Int32) (hn : vp_in xn 16) (ho : 0 ≤ xo) (hw1 : wk 0 = 1) (ut : u16 xt) (ul : u16 xl) (um : u16 xm) (ui : u16 xi) {b h a r g : Int32} (eh : h = shF (mF1 w) xl) (eb : b = buF (cnF (mF1 w) (mF2 w)) (mRs w) (mBs w) xi xn xm xl con mem reg) (ea : a = alF (mAf w) b xt xc) (er : r = acF (mAf w) b xt xc) (eg : g = chF (mF2 w) b h xc xi) (ub : u16 b) (uh : u16 h) : Met l y_M_act (Cond.code y_M_act b_M_act 5 none :: gW) (rmD 2) (va_Pc [.ref (md 0), .int w] (bS D (wM md kd xt xl xc xm xi xn xa xy xb xw xo xs (mRs w) (mAf w) (mBs w) (mF1 w) (mF2 w) su sc con mem reg out wd pl ch dn wk) (tysM kd))) (qV (fun H => va_P D classes (wM md kd (if mLT w = 0 then xt else if isA (mAf w) = 0 then b else a) (if mLL w = 0 then xl else a) (if mLL w = 0 then xc else r) (if mF1 w = 1 then a else xm) xi xn xa xy (if mF1 w = 1 then xy else xb) xw (if mF1 w = 8 then xo + 1 else xo) xs (mRs w) (mAf w) (mBs w) (mF1 w) (mF2 w) (a) (r) con (if mF2 w = 6 then upd mem (xm &&& 1023).toNatClampNeg b else mem) (if mBs w = 1 ∧ cnF (mF1 w) (mF2 w) = 0 then upd reg (mRs w).toNatClampNeg h else reg) (if mF1 w = 8 then (if 500 ≤ xo then out else upd out xo.toNatClampNeg b) else out) wd (upd pl xn.toNatClampNeg (mNx w ||| ch xn.toNatClampNeg)) (upd ch xn.toNatClampNeg g) (upd dn xn.toNatClampNeg (dn xn.toNatClampNeg + 1)) (if mF1 w = 3 then upd wk xn.toNatClampNeg (if xn.toNatClampNeg = 0 then 1 else 0) else wk)) H) A) 0 0 A := by
  refine startM (by decide) (Nat.le_of_ble_eq_true rfl) ?_
  intro p e s m below meth c ls X hr hlk hnm hB hl
  replace X : CallFix p m c b_M_act 5 s _ gW R_M := X
  obtain ⟨hx, hb, hml, hown, hts⟩ := id X
  obtain ⟨hP, hK, hN⟩ := hB
  have Z : cxM p m c _ _ s _ R_M D kd := ⟨X, hK, hN⟩
  have hS : va_S A s.heap s.heap [] := va_S.rf
  refine lv_aload_n hx hb d_M_act_0 rfl (lv_at hl 0 rfl) ?_
  refine callR k_M_101 X (c_M_shifted l D ul) hP hK hN (va_recv hK hP (ci := 3) (q0 := 0) rfl rfl) rfl rfl ⟨Nat.le_of_ble_eq_true rfl, Nat.le_of_ble_eq_true rfl⟩ ⟨Nat.zero_le _, Nat.zero_le _⟩ hl.1 rfl rfl (Nat.le_of_ble_eq_true rfl) d_M_act_1 ?_
  rw [← eh]
  refine lv_istore_n (lv' := [(2, _), (0, _), (1, _)]) hx hb d_M_act_4 rfl hl (by decide) rfl (fun ls hl => ?_)
  refine lv_aload_n hx hb d_M_act_5 rfl (lv_at hl 1 rfl) ?_
  refine callR k_M_105 X (c_M_bus l D w um) hP hK hN (va_recv hK hP (ci := 3) (q0 := 0) rfl rfl) rfl rfl ⟨Nat.le_of_ble_eq_true rfl, Nat.le_of_ble_eq_true rfl⟩ ⟨Nat.zero_le _, Nat.zero_le _⟩ hl.1 rfl rfl (Nat.le_of_ble_eq_true rfl) d_M_act_6 ?_
  rw [← eb]
  refine lv_istore_n (lv' := [(3, _), (2, _), (0, _), (1, _)]) hx hb d_M_act_9 rfl hl (by decide) rfl (fun ls hl => ?_)
  refine lv_aload_n hx hb d_M_act_10 rfl (lv_at hl 2 rfl) ?_
  refine lv_iload_n hx hb d_M_act_11 rfl (lv_at hl 0 rfl) ?_
  refine callWv k_M_108 X (c_M_reckon l D hO _ ub ut) hP hK hN hS (va_recv hK hP (ci := 3) (q0 := 0) rfl rfl) rfl rfl ⟨Nat.le_of_ble_eq_true rfl, Nat.le_of_ble_eq_true rfl⟩ ⟨Nat.zero_le _, Nat.zero_le _⟩ hl.1 rfl rfl (Nat.le_of_ble_eq_true rfl) d_M_act_12 (fun H locs hP hS => ?_)
  rw [← ea, ← er] at hP
  refine lv_aload_n hx hb d_M_act_15 rfl (lv_at hl 2 rfl) ?_
  refine lv_iload_n hx hb d_M_act_16 rfl (lv_at hl 0 rfl) ?_
  refine lv_iload_n hx hb d_M_act_17 rfl (lv_at hl 1 rfl) ?_
  refine callR k_M_111 X (c_M_change l D _ _ ub uh ui) hP hK hN (va_recv hK hP (ci := 3) (q0 := 0) rfl rfl) rfl rfl ⟨Nat.le_of_ble_eq_true rfl, Nat.le_of_ble_eq_true rfl⟩ ⟨Nat.zero_le _, Nat.zero_le _⟩ hl.1 rfl rfl (Nat.le_of_ble_eq_true rfl) d_M_act_18 ?_
  rw [← eg]
  refine lv_istore (lv' := [(4, _), (3, _), (2, _), (0, _), (1, _)]) hx hb d_M_act_21 hl (by decide) rfl (fun ls hl => ?_)
  suffices KK : ∀ (H : Heap) (locs : List Loc), va_P D classes (wM md kd xt xl xc xm xi xn xa xy xb xw xo xs (mRs w) (mAf w) (mBs w) (mF1 w) (mF2 w) (a) (r) con mem (if mBs w = 1 ∧ cnF (mF1 w) (mF2 w) = 0 then upd reg (mRs w).toNatClampNeg h else reg) out wd pl ch dn wk) H → va_S A s.heap H locs → W p l e (rmD 2) s m [.ref (md 0), .int w].toArray below meth c H locs 0 0 (MQ below (qV (fun H => va_P D classes (wM md kd (if mLT w = 0 then xt else if isA (mAf w) = 0 then b else a) (if mLL w = 0 then xl else a) (if mLL w = 0 then xc else r) (if mF1 w = 1 then a else xm) xi xn xa xy (if mF1 w = 1 then xy else xb) xw (if mF1 w = 8 then xo + 1 else xo) xs (mRs w) (mAf w) (mBs w) (mF1 w) (mF2 w) (a) (r) con (if mF2 w = 6 then upd mem (xm &&& 1023).toNatClampNeg b else mem) (if mBs w = 1 ∧ cnF (mF1 w) (mF2 w) = 0 then upd reg (mRs w).toNatClampNeg h else reg) (if mF1 w = 8 then (if 500 ≤ xo then out else upd out xo.toNatClampNeg b) else out) wd (upd pl xn.toNatClampNeg (mNx w ||| ch xn.toNatClampNeg)) (upd ch xn.toNatClampNeg g) (upd dn xn.toNatClampNeg (dn xn.toNatClampNeg + 1)) (if mF1 w = 3 then upd wk xn.toNatClampNeg (if xn.toNatClampNeg = 0 then 1 else 0) else wk)) H) A) [.ref (md 0), .int w].toArray s 0 0 A) (F0 m 48 ls []) by
    refine lv_aload_n hx hb d_M_act_23 rfl (lv_at hl 3 rfl) ?_
    refine gM_bs Z hP d_M_act_24 ?_
    refine lv_iconst (v := 1) hx hb d_M_act_27 (by decide) ?_
    refine lv_icmp_ne (tgt := 48) hx hb d_M_act_28 (by decide) (fun c28t => ?_) (fun c28f => ?_)
    · skip
      exact KK H locs (by simp only [if_neg (fun z : _ ∧ _ => c28t z.1)]; exact hP) hS
    · skip
      refine lv_aload_n hx hb d_M_act_31 rfl (lv_at hl 3 rfl) ?_
      refine callR k_M_62 X (c_M_hasConstant l D) hP hK hN (va_recv hK hP (ci := 3) (q0 := 0) rfl rfl) rfl rfl ⟨Nat.le_of_ble_eq_true rfl, Nat.le_of_ble_eq_true rfl⟩ ⟨Nat.zero_le _, Nat.zero_le _⟩ hl.1 rfl rfl (Nat.le_of_ble_eq_true rfl) d_M_act_32 ?_
      refine lv_if_ne (tgt := 48) hx hb d_M_act_35 (by decide) (fun c35t => ?_) (fun c35f => ?_)
      · skip
        exact KK H locs (by simp only [if_neg (fun z : _ ∧ _ => c35t z.2)]; exact hP) hS
      · skip
        refine lv_aload_n hx hb d_M_act_38 rfl (lv_at hl 3 rfl) ?_
        refine gM_registers Z hP d_M_act_39 ?_
        refine lv_aload_n hx hb d_M_act_42 rfl (lv_at hl 3 rfl) ?_
        refine gM_rsel Z hP d_M_act_43 ?_
        refine lv_iload_n hx hb d_M_act_46 rfl (lv_at hl 2 rfl) ?_
        refine sM_registers Z hP hO hS (in_rs _) d_M_act_47 (fun H locs hP hS => ?_)
        exact KK H locs (by simp only [if_pos (And.intro c28f c35f)]; exact hP) hS
  clear hP hS
  intro H locs hP hS
  suffices KK : ∀ (H : Heap) (locs : List Loc), va_P D classes (wM md kd xt xl xc xm xi xn xa xy xb xw xo xs (mRs w) (mAf w) (mBs w) (mF1 w) (mF2 w) (a) (r) con (if mF2 w = 6 then upd mem (xm &&& 1023).toNatClampNeg b else mem) (if mBs w = 1 ∧ cnF (mF1 w) (mF2 w) = 0 then upd reg (mRs w).toNatClampNeg h else reg) out wd pl ch dn wk) H → va_S A s.heap H locs → W p l e (rmD 2) s m [.ref (md 0), .int w].toArray below meth c H locs 0 0 (MQ below (qV (fun H => va_P D classes (wM md kd (if mLT w = 0 then xt else if isA (mAf w) = 0 then b else a) (if mLL w = 0 then xl else a) (if mLL w = 0 then xc else r) (if mF1 w = 1 then a else xm) xi xn xa xy (if mF1 w = 1 then xy else xb) xw (if mF1 w = 8 then xo + 1 else xo) xs (mRs w) (mAf w) (mBs w) (mF1 w) (mF2 w) (a) (r) con (if mF2 w = 6 then upd mem (xm &&& 1023).toNatClampNeg b else mem) (if mBs w = 1 ∧ cnF (mF1 w) (mF2 w) = 0 then upd reg (mRs w).toNatClampNeg h else reg) (if mF1 w = 8 then (if 500 ≤ xo then out else upd out xo.toNatClampNeg b) else out) wd (upd pl xn.toNatClampNeg (mNx w ||| ch xn.toNatClampNeg)) (upd ch xn.toNatClampNeg g) (upd dn xn.toNatClampNeg (dn xn.toNatClampNeg + 1)) (if mF1 w = 3 then upd wk xn.toNatClampNeg (if xn.toNatClampNeg = 0 then 1 else 0) else wk)) H) A) [.ref (md 0), .int w].toArray s 0 0 A) (F0 m 71 ls []) by
    refine lv_aload_n hx hb d_M_act_48 rfl (lv_at hl 3 rfl) ?_
    refine gM_f2 Z hP d_M_act_49 ?_
    refine lv_bipush (v := 6) hx hb d_M_act_52 (by decide) ?_
    refine lv_icmp_ne (tgt := 71) hx hb d_M_act_54 (by decide) (fun c54t => ?_) (fun c54f => ?_)
    · skip
      exact KK H locs (by simp only [if_neg c54t]; exact hP) hS
    · skip
      refine lv_aload_n hx hb d_M_act_57 rfl (lv_at hl 3 rfl) ?_
      refine gM_memory Z hP d_M_act_58 ?_
      refine lv_aload_n hx hb d_M_act_61 rfl (lv_at hl 3 rfl) ?_
      refine gM_mar Z hP d_M_act_62 ?_
      refine lv_sipush (v := 1024) hx hb d_M_act_65 (by decide) ?_
      refine lv_irem hx hb d_M_act_68 (by decide) ?_
      refine lv_iload_n hx hb d_M_act_69 rfl (lv_at hl 1 rfl) ?_
      refine sM_memory Z hP hO hS (by rw [rem10 um]; exact in_ma _) d_M_act_70 (fun H locs hP hS => ?_)
      rw [rem10 um] at hP
      exact KK H locs (by simp only [if_pos c54f]; exact hP) hS
  clear hP hS
  intro H locs hP hS
  suffices KK : ∀ (H : Heap) (locs : List Loc), va_P D classes (wM md kd (if mLT w = 0 then xt else if isA (mAf w) = 0 then b else a) xl xc xm xi xn xa xy xb xw xo xs (mRs w) (mAf w) (mBs w) (mF1 w) (mF2 w) (a) (r) con (if mF2 w = 6 then upd mem (xm &&& 1023).toNatClampNeg b else mem) (if mBs w = 1 ∧ cnF (mF1 w) (mF2 w) = 0 then upd reg (mRs w).toNatClampNeg h else reg) out wd pl ch dn wk) H → va_S A s.heap H locs → W p l e (rmD 2) s m [.ref (md 0), .int w].toArray below meth c H locs 0 0 (MQ below (qV (fun H => va_P D classes (wM md kd (if mLT w = 0 then xt else if isA (mAf w) = 0 then b else a) (if mLL w = 0 then xl else a) (if mLL w = 0 then xc else r) (if mF1 w = 1 then a else xm) xi xn xa xy (if mF1 w = 1 then xy else xb) xw (if mF1 w = 8 then xo + 1 else xo) xs (mRs w) (mAf w) (mBs w) (mF1 w) (mF2 w) (a) (r) con (if mF2 w = 6 then upd mem (xm &&& 1023).toNatClampNeg b else mem) (if mBs w = 1 ∧ cnF (mF1 w) (mF2 w) = 0 then upd reg (mRs w).toNatClampNeg h else reg) (if mF1 w = 8 then (if 500 ≤ xo then out else upd out xo.toNatClampNeg b) else out) wd (upd pl xn.toNatClampNeg (mNx w ||| ch xn.toNatClampNeg)) (upd ch xn.toNatClampNeg g) (upd dn xn.toNatClampNeg (dn xn.toNatClampNeg + 1)) (if mF1 w = 3 then upd wk xn.toNatClampNeg (if xn.toNatClampNeg = 0 then 1 else 0) else wk)) H) A) [.ref (md 0), .int w].toArray s 0 0 A) (F0 m 100 ls []) by
    refine lv_iload_n hx hb d_M_act_71 rfl (lv_at hl 4 rfl) ?_
    refine lv_bipush (v := 11) hx hb d_M_act_72 (by decide) ?_
    refine lv_ishr hx hb d_M_act_74 ?_
    refine lv_iconst (v := 1) hx hb d_M_act_75 (by decide) ?_
    refine lv_iand hx hb d_M_act_76 ?_
    refine lv_iconst (v := 1) hx hb d_M_act_77 (by decide) ?_
    refine lv_icmp_ne (tgt := 100) hx hb d_M_act_78 (by decide) (fun c78t => ?_) (fun c78f => ?_)
    · skip
      exact KK H locs (by simp only [if_pos (ltw_0 c78t)]; exact hP) hS
    · skip
      refine lv_aload_n hx hb d_M_act_81 rfl (lv_at hl 3 rfl) ?_
      refine lv_aload_n hx hb d_M_act_82 rfl (lv_at hl 3 rfl) ?_
      refine callR k_M_115 X (c_M_isOfAlu l D) hP hK hN (va_recv hK hP (ci := 3) (q0 := 0) rfl rfl) rfl rfl ⟨Nat.le_of_ble_eq_true rfl, Nat.le_of_ble_eq_true rfl⟩ ⟨Nat.zero_le _, Nat.zero_le _⟩ hl.1 rfl rfl (Nat.le_of_ble_eq_true rfl) d_M_act_83 ?_
      refine lv_if_eq (tgt := 96) hx hb d_M_act_86 (by decide) (fun c86t => ?_) (fun c86f => ?_)
      · skip
        refine lv_iload_n hx hb d_M_act_96 rfl (lv_at hl 1 rfl) ?_
        refine pM_t Z hP hO hS d_M_act_97 (fun H locs hP hS => ?_)
        exact KK H locs (by simp only [if_neg (ltw_1 c78f), if_pos c86t]; exact hP) hS
      · skip
        refine lv_aload_n hx hb d_M_act_89 rfl (lv_at hl 3 rfl) ?_
        refine gM_sum Z hP d_M_act_90 ?_
        refine lv_goto (tgt := 97) hx hb d_M_act_93 (by decide) ?_
        refine pM_t Z hP hO hS d_M_act_97 (fun H locs hP hS => ?_)
        exact KK H locs (by simp only [if_neg (ltw_1 c78f), if_neg c86f]; exact hP) hS
  clear hP hS
  intro H locs hP hS
  suffices KK : ∀ (H : Heap) (locs : List Loc), va_P D classes (wM md kd (if mLT w = 0 then xt else if isA (mAf w) = 0 then b else a) (if mLL w = 0 then xl else a) (if mLL w = 0 then xc else r) xm xi xn xa xy xb xw xo xs (mRs w) (mAf w) (mBs w) (mF1 w) (mF2 w) (a) (r) con (if mF2 w = 6 then upd mem (xm &&& 1023).toNatClampNeg b else mem) (if mBs w = 1 ∧ cnF (mF1 w) (mF2 w) = 0 then upd reg (mRs w).toNatClampNeg h else reg) out wd pl ch dn wk) H → va_S A s.heap H locs → W p l e (rmD 2) s m [.ref (md 0), .int w].toArray below meth c H locs 0 0 (MQ below (qV (fun H => va_P D classes (wM md kd (if mLT w = 0 then xt else if isA (mAf w) = 0 then b else a) (if mLL w = 0 then xl else a) (if mLL w = 0 then xc else r) (if mF1 w = 1 then a else xm) xi xn xa xy (if mF1 w = 1 then xy else xb) xw (if mF1 w = 8 then xo + 1 else xo) xs (mRs w) (mAf w) (mBs w) (mF1 w) (mF2 w) (a) (r) con (if mF2 w = 6 then upd mem (xm &&& 1023).toNatClampNeg b else mem) (if mBs w = 1 ∧ cnF (mF1 w) (mF2 w) = 0 then upd reg (mRs w).toNatClampNeg h else reg) (if mF1 w = 8 then (if 500 ≤ xo then out else upd out xo.toNatClampNeg b) else out) wd (upd pl xn.toNatClampNeg (mNx w ||| ch xn.toNatClampNeg)) (upd ch xn.toNatClampNeg g) (upd dn xn.toNatClampNeg (dn xn.toNatClampNeg + 1)) (if mF1 w = 3 then upd wk xn.toNatClampNeg (if xn.toNatClampNeg = 0 then 1 else 0) else wk)) H) A) [.ref (md 0), .int w].toArray s 0 0 A) (F0 m 126 ls []) by
    refine lv_iload_n hx hb d_M_act_100 rfl (lv_at hl 4 rfl) ?_
    refine lv_bipush (v := 10) hx hb d_M_act_101 (by decide) ?_
    refine lv_ishr hx hb d_M_act_103 ?_
    refine lv_iconst (v := 1) hx hb d_M_act_104 (by decide) ?_
    refine lv_iand hx hb d_M_act_105 ?_
    refine lv_iconst (v := 1) hx hb d_M_act_106 (by decide) ?_
    refine lv_icmp_ne (tgt := 126) hx hb d_M_act_107 (by decide) (fun c107t => ?_) (fun c107f => ?_)
    · skip
      exact KK H locs (by simp only [if_pos (ll_0 c107t)]; exact hP) hS
    · skip
      refine lv_aload_n hx hb d_M_act_110 rfl (lv_at hl 3 rfl) ?_
      refine lv_aload_n hx hb d_M_act_111 rfl (lv_at hl 3 rfl) ?_
      refine gM_sum Z hP d_M_act_112 ?_
      refine pM_l Z hP hO hS d_M_act_115 (fun H locs hP hS => ?_)
      refine lv_aload_n hx hb d_M_act_118 rfl (lv_at hl 3 rfl) ?_
      refine lv_aload_n hx hb d_M_act_119 rfl (lv_at hl 3 rfl) ?_
      refine gM_sumCarry Z hP d_M_act_120 ?_
      refine pM_carry Z hP hO hS d_M_act_123 (fun H locs hP hS => ?_)
      exact KK H locs (by simp only [if_neg (ll_1 c107f)]; exact hP) hS
  clear hP hS
  intro H locs hP hS
  suffices KK : ∀ (H : Heap) (locs : List Loc), va_P D classes (wM md kd (if mLT w = 0 then xt else if isA (mAf w) = 0 then b else a) (if mLL w = 0 then xl else a) (if mLL w = 0 then xc else r) (if mF1 w = 1 then a else xm) xi xn xa xy (if mF1 w = 1 then xy else xb) xw xo xs (mRs w) (mAf w) (mBs w) (mF1 w) (mF2 w) (a) (r) con (if mF2 w = 6 then upd mem (xm &&& 1023).toNatClampNeg b else mem) (if mBs w = 1 ∧ cnF (mF1 w) (mF2 w) = 0 then upd reg (mRs w).toNatClampNeg h else reg) out wd pl ch dn wk) H → va_S A s.heap H locs → W p l e (rmD 2) s m [.ref (md 0), .int w].toArray below meth c H locs 0 0 (MQ below (qV (fun H => va_P D classes (wM md kd (if mLT w = 0 then xt else if isA (mAf w) = 0 then b else a) (if mLL w = 0 then xl else a) (if mLL w = 0 then xc else r) (if mF1 w = 1 then a else xm) xi xn xa xy (if mF1 w = 1 then xy else xb) xw (if mF1 w = 8 then xo + 1 else xo) xs (mRs w) (mAf w) (mBs w) (mF1 w) (mF2 w) (a) (r) con (if mF2 w = 6 then upd mem (xm &&& 1023).toNatClampNeg b else mem) (if mBs w = 1 ∧ cnF (mF1 w) (mF2 w) = 0 then upd reg (mRs w).toNatClampNeg h else reg) (if mF1 w = 8 then (if 500 ≤ xo then out else upd out xo.toNatClampNeg b) else out) wd (upd pl xn.toNatClampNeg (mNx w ||| ch xn.toNatClampNeg)) (upd ch xn.toNatClampNeg g) (upd dn xn.toNatClampNeg (dn xn.toNatClampNeg + 1)) (if mF1 w = 3 then upd wk xn.toNatClampNeg (if xn.toNatClampNeg = 0 then 1 else 0) else wk)) H) A) [.ref (md 0), .int w].toArray s 0 0 A) (F0 m 150 ls []) by
    refine lv_aload_n hx hb d_M_act_126 rfl (lv_at hl 3 rfl) ?_
    refine gM_f1 Z hP d_M_act_127 ?_
    refine lv_iconst (v := 1) hx hb d_M_act_130 (by decide) ?_
    refine lv_icmp_ne (tgt := 150) hx hb d_M_act_131 (by decide) (fun c131t => ?_) (fun c131f => ?_)
    · skip
      exact KK H locs (by simp only [if_neg c131t]; exact hP) hS
    · skip
      refine lv_aload_n hx hb d_M_act_134 rfl (lv_at hl 3 rfl) ?_
      refine lv_aload_n hx hb d_M_act_135 rfl (lv_at hl 3 rfl) ?_
      refine gM_sum Z hP d_M_act_136 ?_
      refine pM_mar Z hP hO hS d_M_act_139 (fun H locs hP hS => ?_)
      refine lv_aload_n hx hb d_M_act_142 rfl (lv_at hl 3 rfl) ?_
      refine lv_aload_n hx hb d_M_act_143 rfl (lv_at hl 3 rfl) ?_
      refine gM_cycles Z hP d_M_act_144 ?_
      refine pM_began Z hP hO hS d_M_act_147 (fun H locs hP hS => ?_)
      exact KK H locs (by simp only [if_pos c131f]; exact hP) hS
  clear hP hS
  intro H locs hP hS
  suffices KK : ∀ (H : Heap) (locs : List Loc), va_P D classes (wM md kd (if mLT w = 0 then xt else if isA (mAf w) = 0 then b else a) (if mLL w = 0 then xl else a) (if mLL w = 0 then xc else r) (if mF1 w = 1 then a else xm) xi xn xa xy (if mF1 w = 1 then xy else xb) xw xo xs (mRs w) (mAf w) (mBs w) (mF1 w) (mF2 w) (a) (r) con (if mF2 w = 6 then upd mem (xm &&& 1023).toNatClampNeg b else mem) (if mBs w = 1 ∧ cnF (mF1 w) (mF2 w) = 0 then upd reg (mRs w).toNatClampNeg h else reg) out wd pl ch dn (if mF1 w = 3 then upd wk xn.toNatClampNeg (if xn.toNatClampNeg = 0 then 1 else 0) else wk)) H → va_S A s.heap H locs → W p l e (rmD 2) s m [.ref (md 0), .int w].toArray below meth c H locs 0 0 (MQ below (qV (fun H => va_P D classes (wM md kd (if mLT w = 0 then xt else if isA (mAf w) = 0 then b else a) (if mLL w = 0 then xl else a) (if mLL w = 0 then xc else r) (if mF1 w = 1 then a else xm) xi xn xa xy (if mF1 w = 1 then xy else xb) xw (if mF1 w = 8 then xo + 1 else xo) xs (mRs w) (mAf w) (mBs w) (mF1 w) (mF2 w) (a) (r) con (if mF2 w = 6 then upd mem (xm &&& 1023).toNatClampNeg b else mem) (if mBs w = 1 ∧ cnF (mF1 w) (mF2 w) = 0 then upd reg (mRs w).toNatClampNeg h else reg) (if mF1 w = 8 then (if 500 ≤ xo then out else upd out xo.toNatClampNeg b) else out) wd (upd pl xn.toNatClampNeg (mNx w ||| ch xn.toNatClampNeg)) (upd ch xn.toNatClampNeg g) (upd dn xn.toNatClampNeg (dn xn.toNatClampNeg + 1)) (if mF1 w = 3 then upd wk xn.toNatClampNeg (if xn.toNatClampNeg = 0 then 1 else 0) else wk)) H) A) [.ref (md 0), .int w].toArray s 0 0 A) (F0 m 175 ls []) by
    refine lv_aload_n hx hb d_M_act_150 rfl (lv_at hl 3 rfl) ?_
    refine gM_f1 Z hP d_M_act_151 ?_
    refine lv_iconst (v := 3) hx hb d_M_act_154 (by decide) ?_
    refine lv_icmp_ne (tgt := 175) hx hb d_M_act_155 (by decide) (fun c155t => ?_) (fun c155f => ?_)
    · skip
      exact KK H locs (by simp only [if_neg c155t]; exact hP) hS
    · skip
      refine lv_aload_n hx hb d_M_act_158 rfl (lv_at hl 3 rfl) ?_
      refine gM_hand Z hP d_M_act_159 ?_
      refine lv_if_le (tgt := 175) hx hb d_M_act_162 (by decide) (fun c162t => ?_) (fun c162f => ?_)
      · skip
        exact KK H locs (by simp only [if_pos c155f, if_pos (jn_0 hn c162t), jn_0 hn c162t, if_true, upd_e hw1]; exact hP) hS
      · skip
        refine lv_aload_n hx hb d_M_act_165 rfl (lv_at hl 3 rfl) ?_
        refine gM_lines Z hP d_M_act_166 ?_
        refine lv_aload_n hx hb d_M_act_169 rfl (lv_at hl 3 rfl) ?_
        refine gM_hand Z hP d_M_act_170 ?_
        refine lv_iconst (v := 0) hx hb d_M_act_173 (by decide) ?_
        refine sM_lines Z hP hO hS (by decide) hn d_M_act_174 (fun H locs hP hS => ?_)
        exact KK H locs (by simp only [if_pos c155f, if_neg (jn_1 hn c162f)]; exact hP) hS
  clear hP hS
  intro H locs hP hS
  suffices KK : ∀ (H : Heap) (locs : List Loc), va_P D classes (wM md kd (if mLT w = 0 then xt else if isA (mAf w) = 0 then b else a) (if mLL w = 0 then xl else a) (if mLL w = 0 then xc else r) (if mF1 w = 1 then a else xm) xi xn xa xy (if mF1 w = 1 then xy else xb) xw (if mF1 w = 8 then xo + 1 else xo) xs (mRs w) (mAf w) (mBs w) (mF1 w) (mF2 w) (a) (r) con (if mF2 w = 6 then upd mem (xm &&& 1023).toNatClampNeg b else mem) (if mBs w = 1 ∧ cnF (mF1 w) (mF2 w) = 0 then upd reg (mRs w).toNatClampNeg h else reg) (if mF1 w = 8 then (if 500 ≤ xo then out else upd out xo.toNatClampNeg b) else out) wd pl ch dn (if mF1 w = 3 then upd wk xn.toNatClampNeg (if xn.toNatClampNeg = 0 then 1 else 0) else wk)) H → va_S A s.heap H locs → W p l e (rmD 2) s m [.ref (md 0), .int w].toArray below meth c H locs 0 0 (MQ below (qV (fun H => va_P D classes (wM md kd (if mLT w = 0 then xt else if isA (mAf w) = 0 then b else a) (if mLL w = 0 then xl else a) (if mLL w = 0 then xc else r) (if mF1 w = 1 then a else xm) xi xn xa xy (if mF1 w = 1 then xy else xb) xw (if mF1 w = 8 then xo + 1 else xo) xs (mRs w) (mAf w) (mBs w) (mF1 w) (mF2 w) (a) (r) con (if mF2 w = 6 then upd mem (xm &&& 1023).toNatClampNeg b else mem) (if mBs w = 1 ∧ cnF (mF1 w) (mF2 w) = 0 then upd reg (mRs w).toNatClampNeg h else reg) (if mF1 w = 8 then (if 500 ≤ xo then out else upd out xo.toNatClampNeg b) else out) wd (upd pl xn.toNatClampNeg (mNx w ||| ch xn.toNatClampNeg)) (upd ch xn.toNatClampNeg g) (upd dn xn.toNatClampNeg (dn xn.toNatClampNeg + 1)) (if mF1 w = 3 then upd wk xn.toNatClampNeg (if xn.toNatClampNeg = 0 then 1 else 0) else wk)) H) A) [.ref (md 0), .int w].toArray s 0 0 A) (F0 m 214 ls []) by
    refine lv_aload_n hx hb d_M_act_175 rfl (lv_at hl 3 rfl) ?_
    refine gM_f1 Z hP d_M_act_176 ?_
    refine lv_bipush (v := 8) hx hb d_M_act_179 (by decide) ?_
    refine lv_icmp_ne (tgt := 214) hx hb d_M_act_181 (by decide) (fun c181t => ?_) (fun c181f => ?_)
    · skip
      exact KK H locs (by simp only [if_neg c181t]; exact hP) hS
    · skip
      refine lv_aload_n hx hb d_M_act_184 rfl (lv_at hl 3 rfl) ?_
      refine gM_outs Z hP d_M_act_185 ?_
      refine lv_sipush (v := 500) hx hb d_M_act_188 (by decide) ?_
      refine lv_icmp_ge (tgt := 204) hx hb d_M_act_191 (by decide) (fun c191t => ?_) (fun c191f => ?_)
      · skip
        refine lv_aload_n hx hb d_M_act_204 rfl (lv_at hl 3 rfl) ?_
        refine lv_dup hx hb d_M_act_205 rfl ?_
        refine gM_outs Z hP d_M_act_206 ?_
        refine lv_iconst (v := 1) hx hb d_M_act_209 (by decide) ?_
        refine lv_iadd hx hb d_M_act_210 ?_
        refine pM_outs Z hP hO hS d_M_act_211 (fun H locs hP hS => ?_)
        exact KK H locs (by simp only [if_pos c181f, if_pos c191t]; exact hP) hS
      · skip
        refine lv_aload_n hx hb d_M_act_194 rfl (lv_at hl 3 rfl) ?_
        refine gM_out Z hP d_M_act_195 ?_
        refine lv_aload_n hx hb d_M_act_198 rfl (lv_at hl 3 rfl) ?_
        refine gM_outs Z hP d_M_act_199 ?_
        refine lv_iload_n hx hb d_M_act_202 rfl (lv_at hl 1 rfl) ?_
        refine sM_out Z hP hO hS (in_lt rfl ho c191f) d_M_act_203 (fun H locs hP hS => ?_)
        refine lv_aload_n hx hb d_M_act_204 rfl (lv_at hl 3 rfl) ?_
        refine lv_dup hx hb d_M_act_205 rfl ?_
        refine gM_outs Z hP d_M_act_206 ?_
        refine lv_iconst (v := 1) hx hb d_M_act_209 (by decide) ?_
        refine lv_iadd hx hb d_M_act_210 ?_
        refine pM_outs Z hP hO hS d_M_act_211 (fun H locs hP hS => ?_)
        exact KK H locs (by simp only [if_pos c181f, if_neg c191f]; exact hP) hS
  clear hP hS
  intro H locs hP hS
  refine lv_aload_n hx hb d_M_act_214 rfl (lv_at hl 3 rfl) ?_
  refine gM_places Z hP d_M_act_215 ?_
  refine lv_aload_n hx hb d_M_act_218 rfl (lv_at hl 3 rfl) ?_
  refine gM_hand Z hP d_M_act_219 ?_
  refine lv_iload_n hx hb d_M_act_222 rfl (lv_at hl 4 rfl) ?_
  refine lv_sipush (v := 1023) hx hb d_M_act_223 (by decide) ?_
  refine lv_iand hx hb d_M_act_226 ?_
  refine lv_aload_n hx hb d_M_act_227 rfl (lv_at hl 3 rfl) ?_
  refine gM_changes Z hP d_M_act_228 ?_
  refine lv_aload_n hx hb d_M_act_231 rfl (lv_at hl 3 rfl) ?_
  refine gM_hand Z hP d_M_act_232 ?_
  refine lM_changes Z hP hn d_M_act_235 ?_
  refine lv_ior hx hb d_M_act_236 ?_
  refine sM_places Z hP hO hS hn d_M_act_237 (fun H locs hP hS => ?_)
  refine lv_aload_n hx hb d_M_act_238 rfl (lv_at hl 3 rfl) ?_
  refine gM_changes Z hP d_M_act_239 ?_
  refine lv_aload_n hx hb d_M_act_242 rfl (lv_at hl 3 rfl) ?_
  refine gM_hand Z hP d_M_act_243 ?_
  refine lv_iload hx hb d_M_act_246 (lv_at hl 0 rfl) ?_
  refine sM_changes Z hP hO hS hn d_M_act_248 (fun H locs hP hS => ?_)
  refine lv_aload_n hx hb d_M_act_249 rfl (lv_at hl 3 rfl) ?_
  refine gM_done Z hP d_M_act_250 ?_
  refine lv_aload_n hx hb d_M_act_253 rfl (lv_at hl 3 rfl) ?_
  refine gM_hand Z hP d_M_act_254 ?_
  refine lv_dup2_11 hx hb d_M_act_257 rfl rfl ?_
  refine lM_done Z hP hn d_M_act_258 ?_
  refine lv_iconst (v := 1) hx hb d_M_act_259 (by decide) ?_
  refine lv_iadd hx hb d_M_act_260 ?_
  refine sM_done Z hP hO hS hn d_M_act_261 (fun H locs hP hS => ?_)
  exact wrV X hr hlk hS d_M_act_262 hP
end
section
/-! the machine's state: twelve numbers (t, l, carry, mar, input, now, asked, cycle, began, waited, out, switched) and nine tables (constants, memory, registers, outs, words, places, changes, done, woken) -/
abbrev Sg : Type := (Nat → Int32) × (Nat → Nat → Int32)
def mkS (xt xl xc xm xi xn xa xy xb xw xo xs : Int32) (con mem reg out wd pl ch dn wk : Nat → Int32) : Sg :=
  (fun k => match k with | 0 => xt | 1 => xl | 2 => xc | 3 => xm | 4 => xi | 5 => xn | 6 => xa | 7 => xy | 8 => xb | 9 => xw | 10 => xo | _ => xs,
   fun k => match k with | 0 => con | 1 => mem | 2 => reg | 3 => out | 4 => wd | 5 => pl | 6 => ch | 7 => dn | _ => wk)
def wCs (ad : Nat → Nat) (kc : Nat → ClassId) (am sm : Nat → Nat) (g : Sg) (bu sh al ac : Int32) : va_W := wC ad kc am sm (g.1 0) (g.1 1) (g.1 2) (g.1 3) (g.1 4) (g.1 5) (g.1 6) (g.1 7) (g.1 8) (g.1 9) (g.1 10) (g.1 11) bu sh al ac (g.2 0) (g.2 1) (g.2 2) (g.2 3) (g.2 4) (g.2 5) (g.2 6) (g.2 7) (g.2 8)
def wMs (md : Nat → Nat) (kd : Nat → ClassId) (g : Sg) (rs af bs f1 f2 su sc : Int32) : va_W := wM md kd (g.1 0) (g.1 1) (g.1 2) (g.1 3) (g.1 4) (g.1 5) (g.1 6) (g.1 7) (g.1 8) (g.1 9) (g.1 10) (g.1 11) rs af bs f1 f2 su sc (g.2 0) (g.2 1) (g.2 2) (g.2 3) (g.2 4) (g.2 5) (g.2 6) (g.2 7) (g.2 8)
/-- the word at hand, and whether it waits -/
def cyW (g : Sg) : Int32 := g.2 4 (g.2 5 (g.1 5).toNatClampNeg).toNatClampNeg
def cyQ (g : Sg) : Int32 := wtF (mF1 (cyW g)) (mBs (cyW g)) (mF2 (cyW g)) (g.1 7 - g.1 8)
/-- an instruction: w the word, b the bus, h the shifted l, a and r the sum and its carry, q what is changed next -/
def stpS (g : Sg) (j : Nat) (w b h a r q : Int32) : Sg := mkS (if mLT w = 0 then g.1 0 else if isA (mAf w) = 0 then b else a) (if mLL w = 0 then g.1 1 else a) (if mLL w = 0 then g.1 2 else r) (if mF1 w = 1 then a else g.1 3) (g.1 4) (g.1 5) (g.1 6) (g.1 7) (if mF1 w = 1 then g.1 7 else g.1 8) (g.1 9) (if mF1 w = 8 then g.1 10 + 1 else g.1 10) (g.1 11)
  (g.2 0) (if mF2 w = 6 then upd (g.2 1) (g.1 3 &&& 1023).toNatClampNeg b else g.2 1) (if mBs w = 1 ∧ cnF (mF1 w) (mF2 w) = 0 then upd (g.2 2) (mRs w).toNatClampNeg h else g.2 2) (if mF1 w = 8 then (if 500 ≤ g.1 10 then g.2 3 else upd (g.2 3) (g.1 10).toNatClampNeg b) else g.2 3) (g.2 4)
  (upd (g.2 5) j (mNx w ||| g.2 6 j)) (upd (g.2 6) j q) (upd (g.2 7) j (g.2 7 j + 1)) (if mF1 w = 3 then upd (g.2 8) j (if j = 0 then 1 else 0) else g.2 8)
def trnS (g : Sg) (v : Int32) : Sg := mkS (g.1 0) (g.1 1) (g.1 2) (g.1 3) (g.1 4) (if g.1 6 = 0 then g.1 5 else nI (grN (g.2 8) 15)) v (g.1 7) (g.1 8) (g.1 9) (g.1 10) (if g.1 6 = 0 then g.1 11 else if nI (grN (g.2 8) 15) = g.1 5 then g.1 11 else g.1 11 + 1) (g.2 0) (g.2 1) (g.2 2) (g.2 3) (g.2 4) (g.2 5) (g.2 6) (g.2 7) (g.2 8)
def tckS (g : Sg) : Sg := mkS (g.1 0) (g.1 1) (g.1 2) (g.1 3) (g.1 4) (g.1 5) (g.1 6) (g.1 7 + 1) (g.1 8) (g.1 9) (g.1 10) (g.1 11) (g.2 0) (g.2 1) (g.2 2) (g.2 3) (g.2 4) (g.2 5) (g.2 6) (g.2 7) (g.2 8)
def wtdS (g : Sg) : Sg := mkS (g.1 0) (g.1 1) (g.1 2) (g.1 3) (g.1 4) (g.1 5) (g.1 6) (g.1 7) (g.1 8) (g.1 9 + 1) (g.1 10) (g.1 11) (g.2 0) (g.2 1) (g.2 2) (g.2 3) (g.2 4) (g.2 5) (g.2 6) (g.2 7) (g.2 8)
def cyH (g : Sg) : Int32 := shF (mF1 (cyW g)) (g.1 1)
def cyB (g : Sg) : Int32 := buF (cnF (mF1 (cyW g)) (mF2 (cyW g))) (mRs (cyW g)) (mBs (cyW g)) (g.1 4) (g.1 5) (g.1 3) (g.1 1) (g.2 0) (g.2 1) (g.2 2)
def cyA (g : Sg) : Int32 := alF (mAf (cyW g)) (cyB g) (g.1 0) (g.1 2)
def cyR (g : Sg) : Int32 := acF (mAf (cyW g)) (cyB g) (g.1 0) (g.1 2)
def cyG (g : Sg) : Int32 := chF (mF2 (cyW g)) (cyB g) (cyH g) (g.1 2) (g.1 4)
def actS (g : Sg) : Sg := stpS g (g.1 5).toNatClampNeg (cyW g) (cyB g) (cyH g) (cyA g) (cyR g) (cyG g)
def cyc (g : Sg) : Sg := if cyQ g = 0 then tckS (trnS (actS g) (if mF1 (cyW g) = 2 then 1 else 0)) else tckS (wtdS g)
def runS : Nat → Sg → Sg
  | 0, g => g
  | k + 1, g => runS k (cyc g)
def runC : Nat → Sg → Int32 → Int32
  | 0, _, n => n
  | k + 1, g, n => runC k (cyc g) (if cyQ g = 0 then n + 1 else n)
/-- what always holds; B bounds the count of outs -/
def Inv (B : Nat) (g : Sg) : Prop := u16 (g.1 0) ∧ u16 (g.1 1) ∧ b01 (g.1 2) ∧ u16 (g.1 3) ∧ u16 (g.1 4) ∧ vp_in (g.1 5) 16 ∧ b01 (g.1 6) ∧ (∃ n : Nat, n ≤ B ∧ g.1 10 = nI n) ∧ (∀ k, u16 (g.2 0 k)) ∧ (∀ k, u16 (g.2 1 k)) ∧ (∀ k, u16 (g.2 2 k)) ∧ (∀ k, u10 (g.2 5 k)) ∧ (∀ k, u10 (g.2 6 k)) ∧ (∀ k, b01 (g.2 8 k)) ∧ g.2 8 0 = 1
theorem u16_n {x : Int32} (h : vp_in x 16) : u16 x := by
  obtain ⟨j, hj, e⟩ := vp_in_of h (by decide)
  exact ⟨j, by omega, e⟩
theorem b01_bit : b01 1 := Or.inr rfl
theorem upd_all {P : Int32 → Prop} {f : Nat → Int32} {i : Nat} {x : Int32} (h : ∀ k, P (f k)) (hx : P x) : ∀ k, P (upd f i x k) := by
  intro k
  unfold upd
  exact ite_p hx (h k)
theorem itf_all {P : Int32 → Prop} {c : Prop} [Decidable c] {f g : Nat → Int32} (hf : ∀ k, P (f k)) (hg : ∀ k, P (g k)) : ∀ k, P ((if c then f else g) k) := by
  by_cases h : c
  · rw [if_pos h]; exact hf
  · rw [if_neg h]; exact hg
theorem Inv.mono {B B' : Nat} {g : Sg} (h : Inv B g) (hB : B ≤ B') : Inv B' g := by
  obtain ⟨h1, h2, h3, h4, h5, h6, h7, ⟨n, hn, e⟩, h8⟩ := h
  exact ⟨h1, h2, h3, h4, h5, h6, h7, ⟨n, by omega, e⟩, h8⟩
theorem Inv.b {B : Nat} {g : Sg} (h : Inv B g) : u16 (cyB g) := by
  obtain ⟨h1, h2, h3, h4, h5, h6, h7, h8, h9, h10, h11, h12⟩ := h
  exact u16_bu h5 (u16_n h6) h4 h2 h9 h10 h11
theorem Inv.h {B : Nat} {g : Sg} (h : Inv B g) : u16 (cyH g) := u16_sh h.2.1
theorem Inv.tck {B : Nat} {g : Sg} (h : Inv B g) : Inv B (tckS g) := h
theorem Inv.wtd {B : Nat} {g : Sg} (h : Inv B g) : Inv B (wtdS g) := h
theorem Inv.act {B : Nat} {g : Sg} (h : Inv B g) : Inv (B + 1) (actS g) := by
  have hb := h.b
  have hh := h.h
  obtain ⟨h1, h2, h3, h4, h5, h6, h7, ⟨n, hn, e⟩, h9, h10, h11, h12, h13, h14, h15⟩ := h
  have ha : u16 (cyA g) := u16_al hb h1
  have hr : b01 (cyR g) := b01_ac
  have hq : u10 (cyG g) := u10_ch h3
  refine ⟨ite_p h1 (ite_p hb ha), ite_p h2 ha, ite_p h3 hr, ite_p ha h4, h5, h6, h7, ?_, h9, itf_all (upd_all h10 hb) h10, itf_all (upd_all h11 hh) h11, upd_all h12 ((u10_and _).or (h13 _)), upd_all h13 hq, itf_all (upd_all h14 (ite_p (Or.inr rfl) (Or.inl rfl))) h14, ?_⟩
  · show ∃ n : Nat, n ≤ B + 1 ∧ (if mF1 (cyW g) = 8 then g.1 10 + 1 else g.1 10) = nI n
    by_cases hc : mF1 (cyW g) = 8
    · rw [if_pos hc]; exact ⟨n + 1, by omega, by rw [e]; exact nI_1 n⟩
    · rw [if_neg hc]; exact ⟨n, by omega, e⟩
  · show (if mF1 (cyW g) = 3 then upd (g.2 8) (g.1 5).toNatClampNeg (if (g.1 5).toNatClampNeg = 0 then 1 else 0) else g.2 8) 0 = 1
    by_cases hc : mF1 (cyW g) = 3
    · rw [if_pos hc]
      by_cases hj : (g.1 5).toNatClampNeg = 0
      · rw [hj, if_pos rfl, upd_at]
      · rw [upd_ne (Ne.symm hj)]; exact h15
    · rw [if_neg hc]; exact h15
theorem Inv.trn {B : Nat} {g : Sg} (h : Inv B g) {v : Int32} (hv : b01 v) : Inv B (trnS g v) := by
  obtain ⟨h1, h2, h3, h4, h5, h6, h7, h8, h9⟩ := h
  refine ⟨h1, h2, h3, h4, h5, ?_, hv, h8, h9⟩
  exact ite_p (P := fun x => vp_in x 16) h6 (vp_in_nI (Nat.lt_of_le_of_lt (grN_le _ 15) (by decide)) (by decide))
theorem Inv.cyc {B : Nat} {g : Sg} (h : Inv B g) : Inv (B + 1) (cyc g) := by
  unfold Jvm.Pilot.CMicroTasksLaw_law_r8969_aade71.cyc
  by_cases hc : cyQ g = 0
  · rw [if_pos hc]; exact (h.act.trn (ite_p (Or.inr rfl) (Or.inl rfl))).tck
  · rw [if_neg hc]; exact (h.wtd.tck).mono (by omega)
theorem Inv.run {B : Nat} : ∀ (k : Nat) {g : Sg}, Inv B g → Inv (B + k) (runS k g) := by
  intro k
  induction k generalizing B with
  | zero => intro g h; exact h
  | succ k ih => intro g h; exact (ih h.cyc).mono (by omega)
theorem cyc_s {g : Sg} (h : cyQ g = 0) : cyc g = tckS (trnS (actS g) (if mF1 (cyW g) = 2 then 1 else 0)) := if_pos h
theorem cyc_w {g : Sg} (h : ¬ cyQ g = 0) : cyc g = tckS (wtdS g) := if_neg h
theorem Inv.o {B : Nat} {g : Sg} (h : Inv B g) (hB : B < 2 ^ 31) : 0 ≤ g.1 10 := by
  obtain ⟨n, hn, e⟩ := h.2.2.2.2.2.2.2.1
  rw [e]; exact nI_pos' (by omega)
end
section
def rnA (v : Int32) (g : Sg) : Int32 := if 1 ≤ v ∧ v ≤ 5000 then runC v.toNatClampNeg g 0 else -1
def rnS (v : Int32) (g : Sg) : Sg := if 1 ≤ v ∧ v ≤ 5000 then runS v.toNatClampNeg g else g
theorem trn_0 {g : Sg} {v : Int32} (h : g.1 6 = 0) : trnS g v = mkS (g.1 0) (g.1 1) (g.1 2) (g.1 3) (g.1 4) (g.1 5) v (g.1 7) (g.1 8) (g.1 9) (g.1 10) (g.1 11) (g.2 0) (g.2 1) (g.2 2) (g.2 3) (g.2 4) (g.2 5) (g.2 6) (g.2 7) (g.2 8) := by simp only [trnS, if_pos h]
theorem trn_1 {g : Sg} {v : Int32} (h : ¬ g.1 6 = 0) (h2 : nI (grN (g.2 8) 15) = g.1 5) : trnS g v = mkS (g.1 0) (g.1 1) (g.1 2) (g.1 3) (g.1 4) (nI (grN (g.2 8) 15)) v (g.1 7) (g.1 8) (g.1 9) (g.1 10) (g.1 11) (g.2 0) (g.2 1) (g.2 2) (g.2 3) (g.2 4) (g.2 5) (g.2 6) (g.2 7) (g.2 8) := by simp only [trnS, if_neg h, if_pos h2]
theorem trn_2 {g : Sg} {v : Int32} (h : ¬ g.1 6 = 0) (h2 : ¬ nI (grN (g.2 8) 15) = g.1 5) : trnS g v = mkS (g.1 0) (g.1 1) (g.1 2) (g.1 3) (g.1 4) (nI (grN (g.2 8) 15)) v (g.1 7) (g.1 8) (g.1 9) (g.1 10) (g.1 11 + 1) (g.2 0) (g.2 1) (g.2 2) (g.2 3) (g.2 4) (g.2 5) (g.2 6) (g.2 7) (g.2 8) := by simp only [trnS, if_neg h, if_neg h2]
theorem v_of {v : Int32} (h : 1 ≤ v ∧ v ≤ 5000) : ∃ V : Nat, V ≤ 5000 ∧ v = nI V := by
  refine nI_of2 (M := 5000) (by decide) ?_ h.2
  have h1 := Int32.le_iff_toInt_le.mp h.1
  rw [Int32.lt_iff_toInt_lt]
  have h2 : (0 : Int32).toInt = 0 := rfl
  have h3 : (1 : Int32).toInt = 1 := rfl
  omega
set_option maxHeartbeats 4000000 in
set_option maxRecDepth 100000 in
theorem c_C_run (l : Launch) (D : va_G) {A : Nat → Prop} {ad am sm : Nat → Nat} {kc : Nat → ClassId} (hO : okC A ad am sm) (B : Nat) (g0 : Sg) (hI : Inv B g0) (hB : B + 5000 < 2 ^ 31) {bu sh al ac : Int32} (v : Int32) : Met l y_C_run (Cond.code y_C_run b_C_run 8 (some .int) :: gW) (rmD 3) (va_Pc [.ref (ad 0), .int v] (bS D (wCs ad kc am sm g0 bu sh al ac) (tysC kc))) (qI (rnA v g0) (fun H => ∃ bu sh al ac : Int32, va_P D classes (wCs ad kc am sm (rnS v g0) bu sh al ac) H) A) 0 0 A := by
  refine startM (by decide) (Nat.le_of_ble_eq_true rfl) ?_
  intro p e s m below meth c ls X hr hlk hnm hB1 hl
  replace X : CallFix p m c b_C_run 8 s _ gW R_C := X
  obtain ⟨hx, hb, hml, hown, hts⟩ := id X
  obtain ⟨hP, hK, hN⟩ := hB1
  have Z : cxC p m c _ _ s _ R_C D kc := ⟨X, hK, hN⟩
  have hS : va_S A s.heap s.heap [] := va_S.rf
  refine lv_iload_n hx hb d_C_run_0 rfl (lv_at hl 1 rfl) ?_
  refine lv_i2l hx hb d_C_run_1 rfl ?_
  refine lv_lconst (v := 1) hx hb d_C_run_2 (by decide) ?_
  refine lv_ldc2 hx hb hown (hts _ q_189) d_C_run_3 ?_
  refine callSt k_C_46 X (c_C_wn l v 1 5000 (by decide) (by decide)) rfl rfl ⟨Nat.le_of_ble_eq_true rfl, Nat.le_of_ble_eq_true rfl⟩ ⟨Nat.zero_le _, Nat.zero_le _⟩ hl.1 rfl rfl (Nat.le_of_ble_eq_true rfl) d_C_run_6 ?_
  refine lv_if_ne (tgt := 14) hx hb d_C_run_9 (by decide) (fun c9t => ?_) (fun c9f => ?_)
  · skip
    have hv : 1 ≤ v ∧ v ≤ 5000 := Decidable.not_not.mp (fun z => c9t (ite10.mpr z))
    obtain ⟨V, hV, rfl⟩ := v_of hv
    have K : ∀ (k i : Nat), i + k = V → ∀ (g : Sg) (n bu sh al ac : Int32) (H : Heap) (locs : List Loc) (ls : Array Slot), Inv (B + i) g → runS k g = runS V g0 → runC k g n = runC V g0 0 → va_P D classes (wCs ad kc am sm g bu sh al ac) H → va_S A s.heap H locs → lv_has ls 8 [(3, .int (nI i)), (2, .int n), (0, .ref (ad 0)), (1, .int (nI V))] → W p l e (rmD 3) s m [.ref (ad 0), .int (nI V)].toArray below meth c H locs 0 0 (MQ below (qI (rnA (nI V) g0) (fun H => ∃ bu sh al ac : Int32, va_P D classes (wCs ad kc am sm (rnS (nI V) g0) bu sh al ac) H) A) [.ref (ad 0), .int (nI V)].toArray s 0 0 A) (F0 m 18 ls []) := by
      intro k
      induction k with
      | zero =>
        intro i hik g n bu sh al ac H locs ls hI' hs hc hP hS hl
        refine lv_iload_n hx hb d_C_run_18 rfl (lv_at hl 0 rfl) ?_
        refine lv_iload_n hx hb d_C_run_19 rfl (lv_at hl 3 rfl) ?_
        refine lv_icmp_ge (tgt := 159) hx hb d_C_run_20 (by decide) (fun c20t => ?_) (fun c20f => ?_)
        · skip
          refine lv_iload_n hx hb d_C_run_159 rfl (lv_at hl 1 rfl) ?_
          exact wrI X hr hlk hS d_C_run_160 (by rw [rnA, if_pos hv, nI_clamp (by omega), ← hc]; rfl) ⟨_, _, _, _, by rw [rnS, if_pos hv, nI_clamp (by omega), ← hs]; exact hP⟩
        · skip
          exact absurd (nI_le (by omega) (by omega)) c20f
      | succ k ih =>
        intro i hik g n bu sh al ac H locs ls hI' hs hc hP hS hl
        refine lv_iload_n hx hb d_C_run_18 rfl (lv_at hl 0 rfl) ?_
        refine lv_iload_n hx hb d_C_run_19 rfl (lv_at hl 3 rfl) ?_
        refine lv_icmp_ge (tgt := 159) hx hb d_C_run_20 (by decide) (fun c20t => ?_) (fun c20f => ?_)
        · skip
          exact absurd c20t (nI_ge (by omega) (by omega))
        · skip
          have hn : vp_in (g.1 5) 16 := hI'.2.2.2.2.2.1
          have hj := vp_lt hn
          have hpi := (hI'.2.2.2.2.2.2.2.2.2.2.2.1 (g.1 5).toNatClampNeg).vp
          have hi := vp_lt hpi
          have ho : 0 ≤ g.1 10 := hI'.o (by omega)
          replace hP : va_P D classes (wC ad kc am sm (g.1 0) (g.1 1) (g.1 2) (g.1 3) (g.1 4) (g.1 5) (g.1 6) (g.1 7) (g.1 8) (g.1 9) (g.1 10) (g.1 11) bu sh al ac (g.2 0) (g.2 1) (g.2 2) (g.2 3) (g.2 4) (g.2 5) (g.2 6) (g.2 7) (g.2 8)) H := hP
          refine lv_aload_n hx hb d_C_run_23 rfl (lv_at hl 2 rfl) ?_
          refine gC_strands Z hP d_C_run_24 ?_
          refine lv_aload_n hx hb d_C_run_27 rfl (lv_at hl 2 rfl) ?_
          refine gC_now Z hP d_C_run_28 ?_
          refine lC_strands Z hP hn d_C_run_31 ?_
          refine lv_astore (lv' := [(4, _), (3, _), (2, _), (0, _), (1, _)]) hx hb d_C_run_32 hl (by decide) rfl (fun ls hl => ?_)
          refine lv_aload_n hx hb d_C_run_34 rfl (lv_at hl 3 rfl) ?_
          refine gC_store Z hP d_C_run_35 ?_
          refine lv_aload hx hb d_C_run_38 (lv_at hl 0 rfl) ?_
          refine gS_place Z hP hj d_C_run_40 ?_
          refine lC_store Z hP hpi d_C_run_43 ?_
          refine lv_astore (lv' := [(5, _), (4, _), (3, _), (2, _), (0, _), (1, _)]) hx hb d_C_run_44 hl (by decide) rfl (fun ls hl => ?_)
          refine lv_aload_n hx hb d_C_run_46 rfl (lv_at hl 4 rfl) ?_
          refine lv_aload hx hb d_C_run_47 (lv_at hl 0 rfl) ?_
          refine callR k_C_170 X (c_C_isWaiting l D hi) hP hK hN (va_recv hK hP (ci := 0) (q0 := 0) rfl rfl) rfl rfl ⟨Nat.le_of_ble_eq_true rfl, Nat.le_of_ble_eq_true rfl⟩ ⟨Nat.zero_le _, Nat.zero_le _⟩ hl.1 rfl rfl (Nat.le_of_ble_eq_true rfl) d_C_run_49 ?_
          refine lv_if_eq (tgt := 68) hx hb d_C_run_52 (by decide) (fun c52t => ?_) (fun c52f => ?_)
          · skip
            have hq : cyQ g = 0 := c52t
            refine lv_aload_n hx hb d_C_run_68 rfl (lv_at hl 4 rfl) ?_
            refine lv_aload hx hb d_C_run_69 (lv_at hl 0 rfl) ?_
            refine lv_aload hx hb d_C_run_71 (lv_at hl 1 rfl) ?_
            refine callWv k_C_177 X (c_C_step l D hO hi hj ho rfl rfl rfl rfl rfl) hP hK hN hS (va_recv hK hP (ci := 0) (q0 := 0) rfl rfl) rfl rfl ⟨Nat.le_of_ble_eq_true rfl, Nat.le_of_ble_eq_true rfl⟩ ⟨Nat.zero_le _, Nat.zero_le _⟩ hl.1 rfl rfl (Nat.le_of_ble_eq_true rfl) d_C_run_73 (fun H locs hP hS => ?_)
            replace hP : va_P D classes (wC ad kc am sm ((actS g).1 0) ((actS g).1 1) ((actS g).1 2) ((actS g).1 3) ((actS g).1 4) ((actS g).1 5) ((actS g).1 6) ((actS g).1 7) ((actS g).1 8) ((actS g).1 9) ((actS g).1 10) ((actS g).1 11) (cyB g) (cyH g) (cyA g) (cyR g) ((actS g).2 0) ((actS g).2 1) ((actS g).2 2) ((actS g).2 3) ((actS g).2 4) ((actS g).2 5) ((actS g).2 6) ((actS g).2 7) ((actS g).2 8)) H := hP
            refine lv_iinc (lv' := [(2, _), (5, _), (4, _), (3, _), (0, _), (1, _)]) hx hb d_C_run_76 hl (k := 3) rfl rfl (by decide) rfl (fun ls hl => ?_)
            refine lv_aload_n hx hb d_C_run_79 rfl (lv_at hl 4 rfl) ?_
            refine gC_asked Z hP d_C_run_80 ?_
            refine lv_istore (lv' := [(6, _), (2, _), (5, _), (4, _), (3, _), (0, _), (1, _)]) hx hb d_C_run_83 hl (by decide) rfl (fun ls hl => ?_)
            refine lv_aload_n hx hb d_C_run_85 rfl (lv_at hl 5 rfl) ?_
            refine lv_aload hx hb d_C_run_86 (lv_at hl 2 rfl) ?_
            refine gK_f1 Z hP hi d_C_run_88 ?_
            refine lv_iconst (v := 2) hx hb d_C_run_91 (by decide) ?_
            refine lv_icmp_ne (tgt := 99) hx hb d_C_run_92 (by decide) (fun c92t => ?_) (fun c92f => ?_)
            · skip
              replace c92t : ¬ mF1 (cyW g) = 2 := c92t
              refine lv_iconst (v := 0) hx hb d_C_run_99 (by decide) ?_
              refine pC_asked Z hP hO hS (by decide) d_C_run_100 (fun H locs hP hS => ?_)
              refine lv_iload hx hb d_C_run_103 (lv_at hl 0 rfl) ?_
              refine lv_if_eq (tgt := 143) hx hb d_C_run_105 (by decide) (fun c105t => ?_) (fun c105f => ?_)
              · skip
                refine lv_aload_n hx hb d_C_run_143 rfl (lv_at hl 5 rfl) ?_
                refine lv_dup hx hb d_C_run_144 rfl ?_
                refine gC_cycle Z hP d_C_run_145 ?_
                refine lv_iconst (v := 1) hx hb d_C_run_148 (by decide) ?_
                refine lv_iadd hx hb d_C_run_149 ?_
                refine pC_cycle Z hP hO hS d_C_run_150 (fun H locs hP hS => ?_)
                refine lv_iinc (lv' := [(3, _), (6, _), (2, _), (5, _), (4, _), (0, _), (1, _)]) hx hb d_C_run_153 hl (k := 4) rfl rfl (by decide) rfl (fun ls hl => ?_)
                refine lv_goto (tgt := 18) hx hb d_C_run_156 (by decide) ?_
                rw [show nI i + Int32.ofInt 1 = nI (i + 1) from nI_1 i] at hl
                exact ih (i + 1) (by omega) (cyc g) _ _ _ _ _ H locs ls hI'.cyc hs (by have h9 := hc; simp only [runC, if_pos hq] at h9; exact h9) (by rw [cyc_s hq, if_neg c92t, trn_0 (g := actS g) c105t]; exact hP) hS (lv_sub hl [0, 2, 5, 6] rfl)
              · skip
                refine lv_aload_n hx hb d_C_run_108 rfl (lv_at hl 5 rfl) ?_
                refine callR k_C_184 X (c_C_greatest l D (by rw [hI'.act.2.2.2.2.2.2.2.2.2.2.2.2.2.2]; decide)) hP hK hN (va_recv hK hP (ci := 0) (q0 := 0) rfl rfl) rfl rfl ⟨Nat.le_of_ble_eq_true rfl, Nat.le_of_ble_eq_true rfl⟩ ⟨Nat.zero_le _, Nat.zero_le _⟩ hl.1 rfl rfl (Nat.le_of_ble_eq_true rfl) d_C_run_109 ?_
                refine lv_istore (lv' := [(7, _), (6, _), (2, _), (5, _), (4, _), (3, _), (0, _), (1, _)]) hx hb d_C_run_112 hl (by decide) rfl (fun ls hl => ?_)
                refine lv_aload_n hx hb d_C_run_114 rfl (lv_at hl 6 rfl) ?_
                refine lv_dup hx hb d_C_run_115 rfl ?_
                refine gC_switched Z hP d_C_run_116 ?_
                refine lv_iload hx hb d_C_run_119 (lv_at hl 0 rfl) ?_
                refine lv_aload_n hx hb d_C_run_121 rfl (lv_at hl 6 rfl) ?_
                refine gC_now Z hP d_C_run_122 ?_
                refine lv_icmp_ne (tgt := 132) hx hb d_C_run_125 (by decide) (fun c125t => ?_) (fun c125f => ?_)
                · skip
                  refine lv_iconst (v := 1) hx hb d_C_run_132 (by decide) ?_
                  refine lv_iadd hx hb d_C_run_133 ?_
                  refine pC_switched Z hP hO hS d_C_run_134 (fun H locs hP hS => ?_)
                  refine lv_aload_n hx hb d_C_run_137 rfl (lv_at hl 6 rfl) ?_
                  refine lv_iload hx hb d_C_run_138 (lv_at hl 0 rfl) ?_
                  refine pC_now Z hP hO hS d_C_run_140 (fun H locs hP hS => ?_)
                  refine lv_aload_n hx hb d_C_run_143 rfl (lv_at hl 6 rfl) ?_
                  refine lv_dup hx hb d_C_run_144 rfl ?_
                  refine gC_cycle Z hP d_C_run_145 ?_
                  refine lv_iconst (v := 1) hx hb d_C_run_148 (by decide) ?_
                  refine lv_iadd hx hb d_C_run_149 ?_
                  refine pC_cycle Z hP hO hS d_C_run_150 (fun H locs hP hS => ?_)
                  refine lv_iinc (lv' := [(3, _), (7, _), (6, _), (2, _), (5, _), (4, _), (0, _), (1, _)]) hx hb d_C_run_153 hl (k := 5) rfl rfl (by decide) rfl (fun ls hl => ?_)
                  refine lv_goto (tgt := 18) hx hb d_C_run_156 (by decide) ?_
                  rw [show nI i + Int32.ofInt 1 = nI (i + 1) from nI_1 i] at hl
                  exact ih (i + 1) (by omega) (cyc g) _ _ _ _ _ H locs ls hI'.cyc hs (by have h9 := hc; simp only [runC, if_pos hq] at h9; exact h9) (by rw [cyc_s hq, if_neg c92t, trn_2 (g := actS g) c105f c125t]; exact hP) hS (lv_sub hl [0, 3, 6, 7] rfl)
                · skip
                  refine lv_iconst (v := 0) hx hb d_C_run_128 (by decide) ?_
                  refine lv_goto (tgt := 133) hx hb d_C_run_129 (by decide) ?_
                  refine lv_iadd hx hb d_C_run_133 ?_
                  refine pC_switched Z hP hO hS d_C_run_134 (fun H locs hP hS => ?_)
                  refine lv_aload_n hx hb d_C_run_137 rfl (lv_at hl 6 rfl) ?_
                  refine lv_iload hx hb d_C_run_138 (lv_at hl 0 rfl) ?_
                  refine pC_now Z hP hO hS d_C_run_140 (fun H locs hP hS => ?_)
                  refine lv_aload_n hx hb d_C_run_143 rfl (lv_at hl 6 rfl) ?_
                  refine lv_dup hx hb d_C_run_144 rfl ?_
                  refine gC_cycle Z hP d_C_run_145 ?_
                  refine lv_iconst (v := 1) hx hb d_C_run_148 (by decide) ?_
                  refine lv_iadd hx hb d_C_run_149 ?_
                  refine pC_cycle Z hP hO hS d_C_run_150 (fun H locs hP hS => ?_)
                  refine lv_iinc (lv' := [(3, _), (7, _), (6, _), (2, _), (5, _), (4, _), (0, _), (1, _)]) hx hb d_C_run_153 hl (k := 5) rfl rfl (by decide) rfl (fun ls hl => ?_)
                  refine lv_goto (tgt := 18) hx hb d_C_run_156 (by decide) ?_
                  rw [show (actS g).1 11 + 0 = (actS g).1 11 from Int32.add_zero _] at hP
                  rw [show nI i + Int32.ofInt 1 = nI (i + 1) from nI_1 i] at hl
                  exact ih (i + 1) (by omega) (cyc g) _ _ _ _ _ H locs ls hI'.cyc hs (by have h9 := hc; simp only [runC, if_pos hq] at h9; exact h9) (by rw [cyc_s hq, if_neg c92t, trn_1 (g := actS g) c105f c125f]; exact hP) hS (lv_sub hl [0, 3, 6, 7] rfl)
            · skip
              replace c92f : mF1 (cyW g) = 2 := c92f
              refine lv_iconst (v := 1) hx hb d_C_run_95 (by decide) ?_
              refine lv_goto (tgt := 100) hx hb d_C_run_96 (by decide) ?_
              refine pC_asked Z hP hO hS (by decide) d_C_run_100 (fun H locs hP hS => ?_)
              refine lv_iload hx hb d_C_run_103 (lv_at hl 0 rfl) ?_
              refine lv_if_eq (tgt := 143) hx hb d_C_run_105 (by decide) (fun c105t => ?_) (fun c105f => ?_)
              · skip
                refine lv_aload_n hx hb d_C_run_143 rfl (lv_at hl 5 rfl) ?_
                refine lv_dup hx hb d_C_run_144 rfl ?_
                refine gC_cycle Z hP d_C_run_145 ?_
                refine lv_iconst (v := 1) hx hb d_C_run_148 (by decide) ?_
                refine lv_iadd hx hb d_C_run_149 ?_
                refine pC_cycle Z hP hO hS d_C_run_150 (fun H locs hP hS => ?_)
                refine lv_iinc (lv' := [(3, _), (6, _), (2, _), (5, _), (4, _), (0, _), (1, _)]) hx hb d_C_run_153 hl (k := 4) rfl rfl (by decide) rfl (fun ls hl => ?_)
                refine lv_goto (tgt := 18) hx hb d_C_run_156 (by decide) ?_
                rw [show nI i + Int32.ofInt 1 = nI (i + 1) from nI_1 i] at hl
                exact ih (i + 1) (by omega) (cyc g) _ _ _ _ _ H locs ls hI'.cyc hs (by have h9 := hc; simp only [runC, if_pos hq] at h9; exact h9) (by rw [cyc_s hq, if_pos c92f, trn_0 (g := actS g) c105t]; exact hP) hS (lv_sub hl [0, 2, 5, 6] rfl)
              · skip
                refine lv_aload_n hx hb d_C_run_108 rfl (lv_at hl 5 rfl) ?_
                refine callR k_C_184 X (c_C_greatest l D (by rw [hI'.act.2.2.2.2.2.2.2.2.2.2.2.2.2.2]; decide)) hP hK hN (va_recv hK hP (ci := 0) (q0 := 0) rfl rfl) rfl rfl ⟨Nat.le_of_ble_eq_true rfl, Nat.le_of_ble_eq_true rfl⟩ ⟨Nat.zero_le _, Nat.zero_le _⟩ hl.1 rfl rfl (Nat.le_of_ble_eq_true rfl) d_C_run_109 ?_
                refine lv_istore (lv' := [(7, _), (6, _), (2, _), (5, _), (4, _), (3, _), (0, _), (1, _)]) hx hb d_C_run_112 hl (by decide) rfl (fun ls hl => ?_)
                refine lv_aload_n hx hb d_C_run_114 rfl (lv_at hl 6 rfl) ?_
                refine lv_dup hx hb d_C_run_115 rfl ?_
                refine gC_switched Z hP d_C_run_116 ?_
                refine lv_iload hx hb d_C_run_119 (lv_at hl 0 rfl) ?_
                refine lv_aload_n hx hb d_C_run_121 rfl (lv_at hl 6 rfl) ?_
                refine gC_now Z hP d_C_run_122 ?_
                refine lv_icmp_ne (tgt := 132) hx hb d_C_run_125 (by decide) (fun c125t => ?_) (fun c125f => ?_)
                · skip
                  refine lv_iconst (v := 1) hx hb d_C_run_132 (by decide) ?_
                  refine lv_iadd hx hb d_C_run_133 ?_
                  refine pC_switched Z hP hO hS d_C_run_134 (fun H locs hP hS => ?_)
                  refine lv_aload_n hx hb d_C_run_137 rfl (lv_at hl 6 rfl) ?_
                  refine lv_iload hx hb d_C_run_138 (lv_at hl 0 rfl) ?_
                  refine pC_now Z hP hO hS d_C_run_140 (fun H locs hP hS => ?_)
                  refine lv_aload_n hx hb d_C_run_143 rfl (lv_at hl 6 rfl) ?_
                  refine lv_dup hx hb d_C_run_144 rfl ?_
                  refine gC_cycle Z hP d_C_run_145 ?_
                  refine lv_iconst (v := 1) hx hb d_C_run_148 (by decide) ?_
                  refine lv_iadd hx hb d_C_run_149 ?_
                  refine pC_cycle Z hP hO hS d_C_run_150 (fun H locs hP hS => ?_)
                  refine lv_iinc (lv' := [(3, _), (7, _), (6, _), (2, _), (5, _), (4, _), (0, _), (1, _)]) hx hb d_C_run_153 hl (k := 5) rfl rfl (by decide) rfl (fun ls hl => ?_)
                  refine lv_goto (tgt := 18) hx hb d_C_run_156 (by decide) ?_
                  rw [show nI i + Int32.ofInt 1 = nI (i + 1) from nI_1 i] at hl
                  exact ih (i + 1) (by omega) (cyc g) _ _ _ _ _ H locs ls hI'.cyc hs (by have h9 := hc; simp only [runC, if_pos hq] at h9; exact h9) (by rw [cyc_s hq, if_pos c92f, trn_2 (g := actS g) c105f c125t]; exact hP) hS (lv_sub hl [0, 3, 6, 7] rfl)
                · skip
                  refine lv_iconst (v := 0) hx hb d_C_run_128 (by decide) ?_
                  refine lv_goto (tgt := 133) hx hb d_C_run_129 (by decide) ?_
                  refine lv_iadd hx hb d_C_run_133 ?_
                  refine pC_switched Z hP hO hS d_C_run_134 (fun H locs hP hS => ?_)
                  refine lv_aload_n hx hb d_C_run_137 rfl (lv_at hl 6 rfl) ?_
                  refine lv_iload hx hb d_C_run_138 (lv_at hl 0 rfl) ?_
                  refine pC_now Z hP hO hS d_C_run_140 (fun H locs hP hS => ?_)
                  refine lv_aload_n hx hb d_C_run_143 rfl (lv_at hl 6 rfl) ?_
                  refine lv_dup hx hb d_C_run_144 rfl ?_
                  refine gC_cycle Z hP d_C_run_145 ?_
                  refine lv_iconst (v := 1) hx hb d_C_run_148 (by decide) ?_
                  refine lv_iadd hx hb d_C_run_149 ?_
                  refine pC_cycle Z hP hO hS d_C_run_150 (fun H locs hP hS => ?_)
                  refine lv_iinc (lv' := [(3, _), (7, _), (6, _), (2, _), (5, _), (4, _), (0, _), (1, _)]) hx hb d_C_run_153 hl (k := 5) rfl rfl (by decide) rfl (fun ls hl => ?_)
                  refine lv_goto (tgt := 18) hx hb d_C_run_156 (by decide) ?_
                  rw [show (actS g).1 11 + 0 = (actS g).1 11 from Int32.add_zero _] at hP
                  rw [show nI i + Int32.ofInt 1 = nI (i + 1) from nI_1 i] at hl
                  exact ih (i + 1) (by omega) (cyc g) _ _ _ _ _ H locs ls hI'.cyc hs (by have h9 := hc; simp only [runC, if_pos hq] at h9; exact h9) (by rw [cyc_s hq, if_pos c92f, trn_1 (g := actS g) c105f c125f]; exact hP) hS (lv_sub hl [0, 3, 6, 7] rfl)
          · skip
            have hq : ¬ cyQ g = 0 := c52f
            refine lv_aload_n hx hb d_C_run_55 rfl (lv_at hl 4 rfl) ?_
            refine lv_dup hx hb d_C_run_56 rfl ?_
            refine gC_waited Z hP d_C_run_57 ?_
            refine lv_iconst (v := 1) hx hb d_C_run_60 (by decide) ?_
            refine lv_iadd hx hb d_C_run_61 ?_
            refine pC_waited Z hP hO hS d_C_run_62 (fun H locs hP hS => ?_)
            refine lv_goto (tgt := 143) hx hb d_C_run_65 (by decide) ?_
            refine lv_aload_n hx hb d_C_run_143 rfl (lv_at hl 4 rfl) ?_
            refine lv_dup hx hb d_C_run_144 rfl ?_
            refine gC_cycle Z hP d_C_run_145 ?_
            refine lv_iconst (v := 1) hx hb d_C_run_148 (by decide) ?_
            refine lv_iadd hx hb d_C_run_149 ?_
            refine pC_cycle Z hP hO hS d_C_run_150 (fun H locs hP hS => ?_)
            refine lv_iinc (lv' := [(3, _), (5, _), (4, _), (2, _), (0, _), (1, _)]) hx hb d_C_run_153 hl (k := 2) rfl rfl (by decide) rfl (fun ls hl => ?_)
            refine lv_goto (tgt := 18) hx hb d_C_run_156 (by decide) ?_
            rw [show nI i + Int32.ofInt 1 = nI (i + 1) from nI_1 i] at hl
            exact ih (i + 1) (by omega) (cyc g) _ _ _ _ _ H locs ls hI'.cyc hs (by have h9 := hc; simp only [runC, if_neg hq] at h9; exact h9) (by rw [cyc_w hq]; exact hP) hS (lv_sub hl [0, 3, 4, 5] rfl)
    refine lv_iconst (v := 0) hx hb d_C_run_14 (by decide) ?_
    refine lv_istore_n (lv' := [(2, _), (0, _), (1, _)]) hx hb d_C_run_15 rfl hl (by decide) rfl (fun ls hl => ?_)
    refine lv_iconst (v := 0) hx hb d_C_run_16 (by decide) ?_
    refine lv_istore_n (lv' := [(3, _), (2, _), (0, _), (1, _)]) hx hb d_C_run_17 rfl hl (by decide) rfl (fun ls hl => ?_)
    exact K V 0 (by omega) g0 0 bu sh al ac s.heap [] ls hI rfl rfl hP hS hl
  · skip
    refine lv_iconst (v := (-1)) hx hb d_C_run_12 (by decide) ?_
    exact wrI X hr hlk hS d_C_run_13 (by rw [rnA, if_neg (ite10.mp c9f)]) ⟨_, _, _, _, by rw [rnS, if_neg (ite10.mp c9f)]; exact hP⟩
set_option maxHeartbeats 4000000 in
set_option maxRecDepth 100000 in
theorem c_M_run (l : Launch) (D : va_G) {A : Nat → Prop} {md : Nat → Nat} {kd : Nat → ClassId} (hO : okM A md) (B : Nat) (g0 : Sg) (hI : Inv B g0) (hB : B + 5000 < 2 ^ 31) {rs af bs f1 f2 su sc : Int32} (v : Int32) : Met l y_M_run (Cond.code y_M_run b_M_run 5 (some .int) :: gW) (rmD 3) (va_Pc [.ref (md 0), .int v] (bS D (wMs md kd g0 rs af bs f1 f2 su sc) (tysM kd))) (qI (rnA v g0) (fun H => ∃ rs af bs f1 f2 su sc : Int32, va_P D classes (wMs md kd (rnS v g0) rs af bs f1 f2 su sc) H) A) 0 0 A := by
  refine startM (by decide) (Nat.le_of_ble_eq_true rfl) ?_
  intro p e s m below meth c ls X hr hlk hnm hB1 hl
  replace X : CallFix p m c b_M_run 5 s _ gW R_M := X
  obtain ⟨hx, hb, hml, hown, hts⟩ := id X
  obtain ⟨hP, hK, hN⟩ := hB1
  have Z : cxM p m c _ _ s _ R_M D kd := ⟨X, hK, hN⟩
  have hS : va_S A s.heap s.heap [] := va_S.rf
  refine lv_iload_n hx hb d_M_run_0 rfl (lv_at hl 1 rfl) ?_
  refine lv_iconst (v := 1) hx hb d_M_run_1 (by decide) ?_
  refine lv_icmp_lt (tgt := 12) hx hb d_M_run_2 (by decide) (fun c2t => ?_) (fun c2f => ?_)
  · skip
    refine lv_iconst (v := (-1)) hx hb d_M_run_12 (by decide) ?_
    exact wrI X hr hlk hS d_M_run_13 (by rw [rnA, if_neg (fun z => (l32 _ _).mpr z.1 c2t)]) ⟨_, _, _, _, _, _, _, by rw [rnS, if_neg (fun z => (l32 _ _).mpr z.1 c2t)]; exact hP⟩
  · skip
    refine lv_iload_n hx hb d_M_run_5 rfl (lv_at hl 1 rfl) ?_
    refine lv_sipush (v := 5000) hx hb d_M_run_6 (by decide) ?_
    refine lv_icmp_le (tgt := 14) hx hb d_M_run_9 (by decide) (fun c9t => ?_) (fun c9f => ?_)
    · skip
      have hv : 1 ≤ v ∧ v ≤ 5000 := ⟨(l32 _ _).mp c2f, c9t⟩
      obtain ⟨V, hV, rfl⟩ := v_of hv
      have K : ∀ (k i : Nat), i + k = V → ∀ (g : Sg) (n rs af bs f1 f2 su sc : Int32) (H : Heap) (locs : List Loc) (ls : Array Slot), Inv (B + i) g → runS k g = runS V g0 → runC k g n = runC V g0 0 → va_P D classes (wMs md kd g rs af bs f1 f2 su sc) H → va_S A s.heap H locs → lv_has ls 5 [(3, .int (nI i)), (2, .int n), (0, .ref (md 0)), (1, .int (nI V))] → W p l e (rmD 3) s m [.ref (md 0), .int (nI V)].toArray below meth c H locs 0 0 (MQ below (qI (rnA (nI V) g0) (fun H => ∃ rs af bs f1 f2 su sc : Int32, va_P D classes (wMs md kd (rnS (nI V) g0) rs af bs f1 f2 su sc) H) A) [.ref (md 0), .int (nI V)].toArray s 0 0 A) (F0 m 18 ls []) := by
        intro k
        induction k with
        | zero =>
          intro i hik g n rs af bs f1 f2 su sc H locs ls hI' hs hc hP hS hl
          refine lv_iload_n hx hb d_M_run_18 rfl (lv_at hl 0 rfl) ?_
          refine lv_iload_n hx hb d_M_run_19 rfl (lv_at hl 3 rfl) ?_
          refine lv_icmp_ge (tgt := 158) hx hb d_M_run_20 (by decide) (fun c20t => ?_) (fun c20f => ?_)
          · skip
            refine lv_iload_n hx hb d_M_run_158 rfl (lv_at hl 1 rfl) ?_
            exact wrI X hr hlk hS d_M_run_159 (by rw [rnA, if_pos hv, nI_clamp (by omega), ← hc]; rfl) ⟨_, _, _, _, _, _, _, by rw [rnS, if_pos hv, nI_clamp (by omega), ← hs]; exact hP⟩
          · skip
            exact absurd (nI_le (by omega) (by omega)) c20f
        | succ k ih =>
          intro i hik g n rs af bs f1 f2 su sc H locs ls hI' hs hc hP hS hl
          refine lv_iload_n hx hb d_M_run_18 rfl (lv_at hl 0 rfl) ?_
          refine lv_iload_n hx hb d_M_run_19 rfl (lv_at hl 3 rfl) ?_
          refine lv_icmp_ge (tgt := 158) hx hb d_M_run_20 (by decide) (fun c20t => ?_) (fun c20f => ?_)
          · skip
            exact absurd c20t (nI_ge (by omega) (by omega))
          · skip
            have hn : vp_in (g.1 5) 16 := hI'.2.2.2.2.2.1
            have hpi := (hI'.2.2.2.2.2.2.2.2.2.2.2.1 (g.1 5).toNatClampNeg).vp
            have ho : 0 ≤ g.1 10 := hI'.o (by omega)
            replace hP : va_P D classes (wM md kd (g.1 0) (g.1 1) (g.1 2) (g.1 3) (g.1 4) (g.1 5) (g.1 6) (g.1 7) (g.1 8) (g.1 9) (g.1 10) (g.1 11) rs af bs f1 f2 su sc (g.2 0) (g.2 1) (g.2 2) (g.2 3) (g.2 4) (g.2 5) (g.2 6) (g.2 7) (g.2 8)) H := hP
            refine lv_aload_n hx hb d_M_run_23 rfl (lv_at hl 2 rfl) ?_
            refine gM_instructions Z hP d_M_run_24 ?_
            refine lv_aload_n hx hb d_M_run_27 rfl (lv_at hl 2 rfl) ?_
            refine gM_places Z hP d_M_run_28 ?_
            refine lv_aload_n hx hb d_M_run_31 rfl (lv_at hl 2 rfl) ?_
            refine gM_hand Z hP d_M_run_32 ?_
            refine lM_places Z hP hn d_M_run_35 ?_
            refine lM_instructions Z hP hpi d_M_run_36 ?_
            refine lv_istore (lv' := [(4, _), (3, _), (2, _), (0, _), (1, _)]) hx hb d_M_run_37 hl (by decide) rfl (fun ls hl => ?_)
            refine lv_aload_n hx hb d_M_run_39 rfl (lv_at hl 3 rfl) ?_
            refine lv_iload hx hb d_M_run_40 (lv_at hl 0 rfl) ?_
            refine lv_bipush (v := 27) hx hb d_M_run_42 (by decide) ?_
            refine lv_iushr hx hb d_M_run_44 rfl ?_
            refine pM_rsel Z hP hO hS d_M_run_45 (fun H locs hP hS => ?_)
            refine lv_aload_n hx hb d_M_run_48 rfl (lv_at hl 3 rfl) ?_
            refine lv_iload hx hb d_M_run_49 (lv_at hl 0 rfl) ?_
            refine lv_bipush (v := 23) hx hb d_M_run_51 (by decide) ?_
            refine lv_iushr hx hb d_M_run_53 rfl ?_
            refine lv_bipush (v := 15) hx hb d_M_run_54 (by decide) ?_
            refine lv_iand hx hb d_M_run_56 ?_
            refine pM_aluf Z hP hO hS d_M_run_57 (fun H locs hP hS => ?_)
            refine lv_aload_n hx hb d_M_run_60 rfl (lv_at hl 3 rfl) ?_
            refine lv_iload hx hb d_M_run_61 (lv_at hl 0 rfl) ?_
            refine lv_bipush (v := 20) hx hb d_M_run_63 (by decide) ?_
            refine lv_iushr hx hb d_M_run_65 rfl ?_
            refine lv_bipush (v := 7) hx hb d_M_run_66 (by decide) ?_
            refine lv_iand hx hb d_M_run_68 ?_
            refine pM_bs Z hP hO hS d_M_run_69 (fun H locs hP hS => ?_)
            refine lv_aload_n hx hb d_M_run_72 rfl (lv_at hl 3 rfl) ?_
            refine lv_iload hx hb d_M_run_73 (lv_at hl 0 rfl) ?_
            refine lv_bipush (v := 16) hx hb d_M_run_75 (by decide) ?_
            refine lv_iushr hx hb d_M_run_77 rfl ?_
            refine lv_bipush (v := 15) hx hb d_M_run_78 (by decide) ?_
            refine lv_iand hx hb d_M_run_80 ?_
            refine pM_f1 Z hP hO hS d_M_run_81 (fun H locs hP hS => ?_)
            refine lv_aload_n hx hb d_M_run_84 rfl (lv_at hl 3 rfl) ?_
            refine lv_iload hx hb d_M_run_85 (lv_at hl 0 rfl) ?_
            refine lv_bipush (v := 12) hx hb d_M_run_87 (by decide) ?_
            refine lv_iushr hx hb d_M_run_89 rfl ?_
            refine lv_bipush (v := 15) hx hb d_M_run_90 (by decide) ?_
            refine lv_iand hx hb d_M_run_92 ?_
            refine pM_f2 Z hP hO hS d_M_run_93 (fun H locs hP hS => ?_)
            replace hP : va_P D classes (wM md kd (g.1 0) (g.1 1) (g.1 2) (g.1 3) (g.1 4) (g.1 5) (g.1 6) (g.1 7) (g.1 8) (g.1 9) (g.1 10) (g.1 11) (mRs (cyW g)) (mAf (cyW g)) (mBs (cyW g)) (mF1 (cyW g)) (mF2 (cyW g)) su sc (g.2 0) (g.2 1) (g.2 2) (g.2 3) (g.2 4) (g.2 5) (g.2 6) (g.2 7) (g.2 8)) H := hP
            refine lv_aload_n hx hb d_M_run_96 rfl (lv_at hl 3 rfl) ?_
            refine callR k_M_128 X (c_M_waits l D) hP hK hN (va_recv hK hP (ci := 3) (q0 := 0) rfl rfl) rfl rfl ⟨Nat.le_of_ble_eq_true rfl, Nat.le_of_ble_eq_true rfl⟩ ⟨Nat.zero_le _, Nat.zero_le _⟩ hl.1 rfl rfl (Nat.le_of_ble_eq_true rfl) d_M_run_97 ?_
            refine lv_if_eq (tgt := 116) hx hb d_M_run_100 (by decide) (fun c100t => ?_) (fun c100f => ?_)
            · skip
              have hq : cyQ g = 0 := c100t
              refine lv_iinc (lv' := [(2, _), (4, _), (3, _), (0, _), (1, _)]) hx hb d_M_run_116 hl (k := 2) rfl rfl (by decide) rfl (fun ls hl => ?_)
              refine lv_aload_n hx hb d_M_run_119 rfl (lv_at hl 3 rfl) ?_
              refine lv_iload hx hb d_M_run_120 (lv_at hl 1 rfl) ?_
              refine callWv k_M_134 X (c_M_act l D hO (cyW g) hn ho hI'.2.2.2.2.2.2.2.2.2.2.2.2.2.2 hI'.1 hI'.2.1 hI'.2.2.2.1 hI'.2.2.2.2.1 rfl rfl rfl rfl rfl hI'.b hI'.h) hP hK hN hS (va_recv hK hP (ci := 3) (q0 := 0) rfl rfl) rfl rfl ⟨Nat.le_of_ble_eq_true rfl, Nat.le_of_ble_eq_true rfl⟩ ⟨Nat.zero_le _, Nat.zero_le _⟩ hl.1 rfl rfl (Nat.le_of_ble_eq_true rfl) d_M_run_122 (fun H locs hP hS => ?_)
              replace hP : va_P D classes (wM md kd ((actS g).1 0) ((actS g).1 1) ((actS g).1 2) ((actS g).1 3) ((actS g).1 4) ((actS g).1 5) ((actS g).1 6) ((actS g).1 7) ((actS g).1 8) ((actS g).1 9) ((actS g).1 10) ((actS g).1 11) (mRs (cyW g)) (mAf (cyW g)) (mBs (cyW g)) (mF1 (cyW g)) (mF2 (cyW g)) (cyA g) (cyR g) ((actS g).2 0) ((actS g).2 1) ((actS g).2 2) ((actS g).2 3) ((actS g).2 4) ((actS g).2 5) ((actS g).2 6) ((actS g).2 7) ((actS g).2 8)) H := hP
              refine lv_aload_n hx hb d_M_run_125 rfl (lv_at hl 3 rfl) ?_
              refine lv_aload_n hx hb d_M_run_126 rfl (lv_at hl 3 rfl) ?_
              refine gM_f1 Z hP d_M_run_127 ?_
              refine lv_iconst (v := 2) hx hb d_M_run_130 (by decide) ?_
              refine lv_icmp_ne (tgt := 138) hx hb d_M_run_131 (by decide) (fun c131t => ?_) (fun c131f => ?_)
              · skip
                refine lv_iconst (v := 0) hx hb d_M_run_138 (by decide) ?_
                refine callWv k_M_137 X (c_M_give l D hO _ (by decide) (by rw [hI'.act.2.2.2.2.2.2.2.2.2.2.2.2.2.2]; decide)) hP hK hN hS (va_recv hK hP (ci := 3) (q0 := 0) rfl rfl) rfl rfl ⟨Nat.le_of_ble_eq_true rfl, Nat.le_of_ble_eq_true rfl⟩ ⟨Nat.zero_le _, Nat.zero_le _⟩ hl.1 rfl rfl (Nat.le_of_ble_eq_true rfl) d_M_run_139 (fun H locs hP hS => ?_)
                refine lv_aload_n hx hb d_M_run_142 rfl (lv_at hl 3 rfl) ?_
                refine lv_dup hx hb d_M_run_143 rfl ?_
                refine gM_cycles Z hP d_M_run_144 ?_
                refine lv_iconst (v := 1) hx hb d_M_run_147 (by decide) ?_
                refine lv_iadd hx hb d_M_run_148 ?_
                refine pM_cycles Z hP hO hS d_M_run_149 (fun H locs hP hS => ?_)
                refine lv_iinc (lv' := [(3, _), (2, _), (4, _), (0, _), (1, _)]) hx hb d_M_run_152 hl (k := 2) rfl rfl (by decide) rfl (fun ls hl => ?_)
                refine lv_goto (tgt := 18) hx hb d_M_run_155 (by decide) ?_
                rw [show nI i + Int32.ofInt 1 = nI (i + 1) from nI_1 i] at hl
                exact ih (i + 1) (by omega) (cyc g) _ _ _ _ _ _ _ _ H locs ls hI'.cyc hs (by have h9 := hc; simp only [runC, if_pos hq] at h9; exact h9) (by rw [cyc_s hq, if_neg c131t]; exact hP) hS (lv_sub hl [0, 1, 3, 4] rfl)
              · skip
                refine lv_iconst (v := 1) hx hb d_M_run_134 (by decide) ?_
                refine lv_goto (tgt := 139) hx hb d_M_run_135 (by decide) ?_
                refine callWv k_M_137 X (c_M_give l D hO _ (by decide) (by rw [hI'.act.2.2.2.2.2.2.2.2.2.2.2.2.2.2]; decide)) hP hK hN hS (va_recv hK hP (ci := 3) (q0 := 0) rfl rfl) rfl rfl ⟨Nat.le_of_ble_eq_true rfl, Nat.le_of_ble_eq_true rfl⟩ ⟨Nat.zero_le _, Nat.zero_le _⟩ hl.1 rfl rfl (Nat.le_of_ble_eq_true rfl) d_M_run_139 (fun H locs hP hS => ?_)
                refine lv_aload_n hx hb d_M_run_142 rfl (lv_at hl 3 rfl) ?_
                refine lv_dup hx hb d_M_run_143 rfl ?_
                refine gM_cycles Z hP d_M_run_144 ?_
                refine lv_iconst (v := 1) hx hb d_M_run_147 (by decide) ?_
                refine lv_iadd hx hb d_M_run_148 ?_
                refine pM_cycles Z hP hO hS d_M_run_149 (fun H locs hP hS => ?_)
                refine lv_iinc (lv' := [(3, _), (2, _), (4, _), (0, _), (1, _)]) hx hb d_M_run_152 hl (k := 2) rfl rfl (by decide) rfl (fun ls hl => ?_)
                refine lv_goto (tgt := 18) hx hb d_M_run_155 (by decide) ?_
                rw [show nI i + Int32.ofInt 1 = nI (i + 1) from nI_1 i] at hl
                exact ih (i + 1) (by omega) (cyc g) _ _ _ _ _ _ _ _ H locs ls hI'.cyc hs (by have h9 := hc; simp only [runC, if_pos hq] at h9; exact h9) (by rw [cyc_s hq, if_pos c131f]; exact hP) hS (lv_sub hl [0, 1, 3, 4] rfl)
            · skip
              have hq : ¬ cyQ g = 0 := c100f
              refine lv_aload_n hx hb d_M_run_103 rfl (lv_at hl 3 rfl) ?_
              refine lv_dup hx hb d_M_run_104 rfl ?_
              refine gM_waited Z hP d_M_run_105 ?_
              refine lv_iconst (v := 1) hx hb d_M_run_108 (by decide) ?_
              refine lv_iadd hx hb d_M_run_109 ?_
              refine pM_waited Z hP hO hS d_M_run_110 (fun H locs hP hS => ?_)
              refine lv_goto (tgt := 142) hx hb d_M_run_113 (by decide) ?_
              refine lv_aload_n hx hb d_M_run_142 rfl (lv_at hl 3 rfl) ?_
              refine lv_dup hx hb d_M_run_143 rfl ?_
              refine gM_cycles Z hP d_M_run_144 ?_
              refine lv_iconst (v := 1) hx hb d_M_run_147 (by decide) ?_
              refine lv_iadd hx hb d_M_run_148 ?_
              refine pM_cycles Z hP hO hS d_M_run_149 (fun H locs hP hS => ?_)
              refine lv_iinc (lv' := [(3, _), (4, _), (2, _), (0, _), (1, _)]) hx hb d_M_run_152 hl (k := 1) rfl rfl (by decide) rfl (fun ls hl => ?_)
              refine lv_goto (tgt := 18) hx hb d_M_run_155 (by decide) ?_
              rw [show nI i + Int32.ofInt 1 = nI (i + 1) from nI_1 i] at hl
              exact ih (i + 1) (by omega) (cyc g) _ _ _ _ _ _ _ _ H locs ls hI'.cyc hs (by have h9 := hc; simp only [runC, if_neg hq] at h9; exact h9) (by rw [cyc_w hq]; exact hP) hS (lv_sub hl [0, 2, 3, 4] rfl)
      refine lv_iconst (v := 0) hx hb d_M_run_14 (by decide) ?_
      refine lv_istore_n (lv' := [(2, _), (0, _), (1, _)]) hx hb d_M_run_15 rfl hl (by decide) rfl (fun ls hl => ?_)
      refine lv_iconst (v := 0) hx hb d_M_run_16 (by decide) ?_
      refine lv_istore_n (lv' := [(3, _), (2, _), (0, _), (1, _)]) hx hb d_M_run_17 rfl hl (by decide) rfl (fun ls hl => ?_)
      exact K V 0 (by omega) g0 0 rs af bs f1 f2 su sc s.heap [] ls hI rfl rfl hP hS hl
    · skip
      refine lv_iconst (v := (-1)) hx hb d_M_run_12 (by decide) ?_
      exact wrI X hr hlk hS d_M_run_13 (by rw [rnA, if_neg (fun z => c9f z.2)]) ⟨_, _, _, _, _, _, _, by rw [rnS, if_neg (fun z => c9f z.2)]; exact hP⟩
end
section
def oStore (k v : Int32) (g : Sg) : Sg := if 0 ≤ k ∧ k ≤ 1023 then mkS (g.1 0) (g.1 1) (g.1 2) (g.1 3) (g.1 4) (g.1 5) (g.1 6) (g.1 7) (g.1 8) (g.1 9) (g.1 10) (g.1 11) (g.2 0) (g.2 1) (g.2 2) (g.2 3) (upd (g.2 4) k.toNatClampNeg v) (g.2 5) (g.2 6) (g.2 7) (g.2 8) else g
def oConst (k v : Int32) (g : Sg) : Sg := if 0 ≤ k ∧ k ≤ 255 then mkS (g.1 0) (g.1 1) (g.1 2) (g.1 3) (g.1 4) (g.1 5) (g.1 6) (g.1 7) (g.1 8) (g.1 9) (g.1 10) (g.1 11) (upd (g.2 0) k.toNatClampNeg (v &&& 65535)) (g.2 1) (g.2 2) (g.2 3) (g.2 4) (g.2 5) (g.2 6) (g.2 7) (g.2 8) else g
def oPoke (k v : Int32) (g : Sg) : Sg := if 0 ≤ k ∧ k ≤ 1023 then mkS (g.1 0) (g.1 1) (g.1 2) (g.1 3) (g.1 4) (g.1 5) (g.1 6) (g.1 7) (g.1 8) (g.1 9) (g.1 10) (g.1 11) (g.2 0) (upd (g.2 1) k.toNatClampNeg (v &&& 65535)) (g.2 2) (g.2 3) (g.2 4) (g.2 5) (g.2 6) (g.2 7) (g.2 8) else g
def oSet (k v : Int32) (g : Sg) : Sg := if 0 ≤ k ∧ k ≤ 31 then mkS (g.1 0) (g.1 1) (g.1 2) (g.1 3) (g.1 4) (g.1 5) (g.1 6) (g.1 7) (g.1 8) (g.1 9) (g.1 10) (g.1 11) (g.2 0) (g.2 1) (upd (g.2 2) k.toNatClampNeg (v &&& 65535)) (g.2 3) (g.2 4) (g.2 5) (g.2 6) (g.2 7) (g.2 8) else g
def oPort (v : Int32) (g : Sg) : Sg := mkS (g.1 0) (g.1 1) (g.1 2) (g.1 3) (v &&& 65535) (g.1 5) (g.1 6) (g.1 7) (g.1 8) (g.1 9) (g.1 10) (g.1 11) (g.2 0) (g.2 1) (g.2 2) (g.2 3) (g.2 4) (g.2 5) (g.2 6) (g.2 7) (g.2 8)
def oWake (k : Int32) (g : Sg) : Sg := if 0 ≤ k ∧ k ≤ 15 then mkS (g.1 0) (g.1 1) (g.1 2) (g.1 3) (g.1 4) (g.1 5) (g.1 6) (g.1 7) (g.1 8) (g.1 9) (g.1 10) (g.1 11) (g.2 0) (g.2 1) (g.2 2) (g.2 3) (g.2 4) (g.2 5) (g.2 6) (g.2 7) (upd (g.2 8) k.toNatClampNeg 1) else g
def aWake (k : Int32) (g : Sg) : Int32 := if 0 ≤ k ∧ k ≤ 15 then g.2 8 k.toNatClampNeg else 0
def oStart (k v : Int32) (g : Sg) : Sg := if (0 ≤ k ∧ k ≤ 15) ∧ (0 ≤ v ∧ v ≤ 1023) then mkS (g.1 0) (g.1 1) (g.1 2) (g.1 3) (g.1 4) (g.1 5) (g.1 6) (g.1 7) (g.1 8) (g.1 9) (g.1 10) (g.1 11) (g.2 0) (g.2 1) (g.2 2) (g.2 3) (g.2 4) (upd (g.2 5) k.toNatClampNeg v) (upd (g.2 6) k.toNatClampNeg 0) (g.2 7) (g.2 8) else g
def aReg (k : Int32) (g : Sg) : Int32 := if 0 ≤ k ∧ k ≤ 31 then g.2 2 k.toNatClampNeg else if k = 32 then g.1 0 else if k = 33 then g.1 1 else if k = 34 then g.1 2 else if k = 35 then g.1 3 else -1
def aPeek (k : Int32) (g : Sg) : Int32 := if 0 ≤ k ∧ k ≤ 1023 then g.2 1 k.toNatClampNeg else -1
def aTask (k v : Int32) (g : Sg) : Int32 := if (0 ≤ k ∧ k ≤ 15) ∧ (0 ≤ v ∧ v ≤ 3) then (if v = 0 then g.2 5 k.toNatClampNeg else if v = 1 then g.2 6 k.toNatClampNeg else if v = 2 then (if g.2 8 k.toNatClampNeg = 0 then 0 else 1) else g.2 7 k.toNatClampNeg) else -1
def aOut (k : Int32) (g : Sg) : Int32 := if 0 ≤ k ∧ k < g.1 10 ∧ k < 500 then g.2 3 k.toNatClampNeg else -1
def aCnt (k : Int32) (g : Sg) : Int32 := if k = 0 then g.1 7 else if k = 1 then g.1 9 else if k = 2 then g.1 10 else if k = 3 then g.1 11 else -1
theorem w1_of {D : va_G} {ws : va_W} {H : Heap} {k a : Nat} {w : Int32} (h : va_P D classes ws H) (hk : ws[k]? = some (a, .inr (1, mf w))) : va_P D classes (w1 a (mRs w) (mAf w) (mBs w) (mF1 w) (mF2 w) (mLT w) (mLL w) (mNx w)) H := by
  intro j q hj
  have h1 := (List.getElem?_eq_some_iff.mp hj).1
  have h2 : j = 0 := by simp [w1] at h1; exact h1
  subst h2
  cases hj
  exact h k _ hk
theorem Inv.store {B : Nat} {g : Sg} (h : Inv B g) (k v : Int32) : Inv B (oStore k v g) := by
  unfold oStore; split <;> exact h
theorem Inv.const {B : Nat} {g : Sg} (h : Inv B g) (k v : Int32) : Inv B (oConst k v g) := by
  unfold oConst; split
  · obtain ⟨h1, h2, h3, h4, h5, h6, h7, h8, h9, h10⟩ := h
    exact ⟨h1, h2, h3, h4, h5, h6, h7, h8, upd_all h9 (u16_and v), h10⟩
  · exact h
theorem Inv.poke {B : Nat} {g : Sg} (h : Inv B g) (k v : Int32) : Inv B (oPoke k v g) := by
  unfold oPoke; split
  · obtain ⟨h1, h2, h3, h4, h5, h6, h7, h8, h9, h10, h11⟩ := h
    exact ⟨h1, h2, h3, h4, h5, h6, h7, h8, h9, upd_all h10 (u16_and v), h11⟩
  · exact h
theorem Inv.set {B : Nat} {g : Sg} (h : Inv B g) (k v : Int32) : Inv B (oSet k v g) := by
  unfold oSet; split
  · obtain ⟨h1, h2, h3, h4, h5, h6, h7, h8, h9, h10, h11, h12⟩ := h
    exact ⟨h1, h2, h3, h4, h5, h6, h7, h8, h9, h10, upd_all h11 (u16_and v), h12⟩
  · exact h
theorem Inv.port {B : Nat} {g : Sg} (h : Inv B g) (v : Int32) : Inv B (oPort v g) := by
  obtain ⟨h1, h2, h3, h4, h5, h6⟩ := h
  exact ⟨h1, h2, h3, h4, u16_and v, h6⟩
theorem Inv.wake {B : Nat} {g : Sg} (h : Inv B g) (k : Int32) : Inv B (oWake k g) := by
  unfold oWake; split
  · obtain ⟨h1, h2, h3, h4, h5, h6, h7, h8, h9, h10, h11, h12, h13, h14, h15⟩ := h
    refine ⟨h1, h2, h3, h4, h5, h6, h7, h8, h9, h10, h11, h12, h13, upd_all h14 (Or.inr rfl), ?_⟩
    show upd (g.2 8) k.toNatClampNeg 1 0 = 1
    by_cases hk : 0 = k.toNatClampNeg
    · rw [← hk, upd_at]
    · rw [upd_ne hk]; exact h15
  · exact h
theorem u10_of {v : Int32} (h : 0 ≤ v ∧ v ≤ 1023) : u10 v := by
  obtain ⟨j, hj, e⟩ := nI_of2 (M := 1023) (n := 1023) (by decide) ((l32 _ _).mpr h.1) h.2
  exact ⟨j, by omega, e⟩
theorem Inv.start {B : Nat} {g : Sg} (h : Inv B g) (k v : Int32) : Inv B (oStart k v g) := by
  unfold oStart; split
  · rename_i hc
    obtain ⟨h1, h2, h3, h4, h5, h6, h7, h8, h9, h10, h11, h12, h13, h14⟩ := h
    exact ⟨h1, h2, h3, h4, h5, h6, h7, h8, h9, h10, h11, upd_all h12 (u10_of hc.2), upd_all h13 u10_0, h14⟩
  · exact h
theorem Inv.rn {B : Nat} {g : Sg} (h : Inv B g) (v : Int32) : Inv (B + 5000) (rnS v g) := by
  unfold rnS; split
  · rename_i hc
    obtain ⟨V, hV, rfl⟩ := v_of hc
    rw [nI_clamp (by omega)]
    exact (h.run V).mono (by omega)
  · exact h.mono (by omega)
theorem out_iff {x o : Int32} (ho : 0 ≤ o) : (0 ≤ x ∧ x ≤ (if o < 500 then o else 500) - 1) ↔ (0 ≤ x ∧ x < o ∧ x < 500) := by
  obtain ⟨n, hn, rfl⟩ := nI_of ((l32 _ _).mpr ho)
  have e5 : (500 : Int32) = nI 500 := rfl
  have e1 : (1 : Int32) = nI 1 := rfl
  constructor
  · rintro ⟨h0, h⟩
    obtain ⟨k, hk, rfl⟩ := nI_of ((l32 _ _).mpr h0)
    by_cases hc : nI n < 500
    · rw [if_pos hc] at h
      rw [e5, nI_ltI hn (by decide)] at hc
      by_cases hn0 : n = 0
      · subst hn0
        exfalso
        rw [Int32.le_iff_toInt_le, nI_toInt hk] at h
        have : (nI 0 - 1 : Int32).toInt = -1 := by decide
        omega
      · rw [e1, pk_sub (by omega), nI_leI hk (by omega)] at h
        rw [e5, nI_ltI hk hn, nI_ltI hk (by decide)]
        exact ⟨h0, by omega, by omega⟩
    · rw [if_neg hc] at h
      rw [e5, nI_ltI hn (by decide)] at hc
      rw [e5, e1, pk_sub (by decide), nI_leI hk (by decide)] at h
      rw [e5, nI_ltI hk hn, nI_ltI hk (by decide)]
      exact ⟨h0, by omega, by omega⟩
  · rintro ⟨h0, h1, h2⟩
    obtain ⟨k, hk, rfl⟩ := nI_of ((l32 _ _).mpr h0)
    rw [nI_ltI hk hn] at h1
    rw [e5, nI_ltI hk (by decide)] at h2
    refine ⟨h0, ?_⟩
    by_cases hc : nI n < 500
    · rw [if_pos hc, e1, pk_sub (by omega), nI_leI hk (by omega)]; omega
    · rw [if_neg hc, e5, e1, pk_sub (by decide), nI_leI hk (by decide)]; omega
set_option maxRecDepth 100000 in
theorem c_C_store (l : Launch) (D : va_G) {A : Nat → Prop} {ad am sm : Nat → Nat} {kc : Nat → ClassId} (hO : okC A ad am sm) (g : Sg) {bu sh al ac : Int32} (k v : Int32) : Met l y_C_store (Cond.code y_C_store b_C_store 3 (some .boolean) :: gW) (rmD 1) (va_Pc [.ref (ad 0), .int k, .int v] (bS D (wCs ad kc am sm g bu sh al ac) (tysC kc))) (qI (if 0 ≤ k ∧ k ≤ 1023 then 1 else 0) (fun H => va_P D classes (wCs ad kc am sm (oStore k v g) bu sh al ac) H) A) 0 0 A := by
  refine startM (by decide) (Nat.le_of_ble_eq_true rfl) ?_
  intro p e s m below meth c ls X hr hlk hnm hB hl
  replace X : CallFix p m c b_C_store 3 s _ gW R_C := X
  obtain ⟨hx, hb, hml, hown, hts⟩ := id X
  obtain ⟨hP, hK, hN⟩ := hB
  have Z : cxC p m c _ _ s _ R_C D kc := ⟨X, hK, hN⟩
  replace hP : va_P D classes (wC ad kc am sm (g.1 0) (g.1 1) (g.1 2) (g.1 3) (g.1 4) (g.1 5) (g.1 6) (g.1 7) (g.1 8) (g.1 9) (g.1 10) (g.1 11) bu sh al ac (g.2 0) (g.2 1) (g.2 2) (g.2 3) (g.2 4) (g.2 5) (g.2 6) (g.2 7) (g.2 8)) s.heap := hP
  have hS : va_S A s.heap s.heap [] := va_S.rf
  refine lv_iload_n hx hb d_C_store_0 rfl (lv_at hl 1 rfl) ?_
  refine lv_i2l hx hb d_C_store_1 rfl ?_
  refine lv_lconst (v := 0) hx hb d_C_store_2 (by decide) ?_
  refine lv_ldc2 hx hb hown (hts _ q_146) d_C_store_3 ?_
  refine callSt k_C_46 X (c_C_wn l k 0 1023 (by decide) (by decide)) rfl rfl ⟨Nat.le_of_ble_eq_true rfl, Nat.le_of_ble_eq_true rfl⟩ ⟨Nat.zero_le _, Nat.zero_le _⟩ hl.1 rfl rfl (Nat.le_of_ble_eq_true rfl) d_C_store_6 ?_
  refine lv_if_ne (tgt := 14) hx hb d_C_store_9 (by decide) (fun c9t => ?_) (fun c9f => ?_)
  · skip
    have hv := Decidable.not_not.mp (fun z => c9t (ite10.mpr z))
    have hi := vp_lt (in_of (b := 1023) rfl hv)
    refine lv_aload_n hx hb d_C_store_14 rfl (lv_at hl 0 rfl) ?_
    refine gC_store Z hP d_C_store_15 ?_
    refine lv_iload_n hx hb d_C_store_18 rfl (lv_at hl 1 rfl) ?_
    refine lC_store Z hP (in_of (b := 1023) rfl hv) d_C_store_19 ?_
    refine lv_iload_n hx hb d_C_store_20 rfl (lv_at hl 2 rfl) ?_
    refine callWv1 (A1 := fun x => x = am k.toNatClampNeg) k_C_50 X (c_K_become l D _ _ _ _ _ _ _ _ v) (w1_of hP (wC_k hi)) (hK.sub (tys' := []) [] rfl) hN hS (fun q hq => by rw [hq]; exact (hO kc (g.1 0) (g.1 1) (g.1 2) (g.1 3) (g.1 4) (g.1 5) (g.1 6) (g.1 7) (g.1 8) (g.1 9) (g.1 10) (g.1 11) bu sh al ac (g.2 0) (g.2 1) (g.2 2) (g.2 3) (g.2 4) (g.2 5) (g.2 6) (g.2 7) (g.2 8)).2 (7 + k.toNatClampNeg) _ (wC_k hi)) (va_recv hK hP (ci := 1) (q0 := 7 + k.toNatClampNeg) rfl (wC_k hi)) rfl rfl ⟨Nat.le_of_ble_eq_true rfl, Nat.le_of_ble_eq_true rfl⟩ ⟨Nat.zero_le _, Nat.zero_le _⟩ hl.1 rfl rfl (Nat.le_of_ble_eq_true rfl) d_C_store_21 (fun H locs hp1 hk1 hS => ?_)
    replace hP := hP.set1 (hO kc (g.1 0) (g.1 1) (g.1 2) (g.1 3) (g.1 4) (g.1 5) (g.1 6) (g.1 7) (g.1 8) (g.1 9) (g.1 10) (g.1 11) bu sh al ac (g.2 0) (g.2 1) (g.2 2) (g.2 3) (g.2 4) (g.2 5) (g.2 6) (g.2 7) (g.2 8)) (wC_k hi) (hp1 0 _ rfl) hk1
    rw [wC_kset hi] at hP
    refine lv_iconst (v := 1) hx hb d_C_store_24 (by decide) ?_
    exact wrZ X hr hlk hS d_C_store_25 (by decide) (if_pos hv).symm (by rw [oStore, if_pos hv]; exact hP)
  · skip
    have hv := ite10.mp c9f
    refine lv_iconst (v := 0) hx hb d_C_store_12 (by decide) ?_
    exact wrZ X hr hlk hS d_C_store_13 (by decide) (if_neg hv).symm (by rw [oStore, if_neg hv]; exact hP)
set_option maxRecDepth 100000 in
theorem c_M_store (l : Launch) (D : va_G) {A : Nat → Prop} {md : Nat → Nat} {kd : Nat → ClassId} (hO : okM A md) (g : Sg) {rs af bs f1 f2 su sc : Int32} (k v : Int32) : Met l y_M_store (Cond.code y_M_store b_M_store 3 (some .boolean) :: gW) (rmD 1) (va_Pc [.ref (md 0), .int k, .int v] (bS D (wMs md kd g rs af bs f1 f2 su sc) (tysM kd))) (qI (if 0 ≤ k ∧ k ≤ 1023 then 1 else 0) (fun H => va_P D classes (wMs md kd (oStore k v g) rs af bs f1 f2 su sc) H) A) 0 0 A := by
  refine startM (by decide) (Nat.le_of_ble_eq_true rfl) ?_
  intro p e s m below meth c ls X hr hlk hnm hB hl
  replace X : CallFix p m c b_M_store 3 s _ gW R_M := X
  obtain ⟨hx, hb, hml, hown, hts⟩ := id X
  obtain ⟨hP, hK, hN⟩ := hB
  have Z : cxM p m c _ _ s _ R_M D kd := ⟨X, hK, hN⟩
  replace hP : va_P D classes (wM md kd (g.1 0) (g.1 1) (g.1 2) (g.1 3) (g.1 4) (g.1 5) (g.1 6) (g.1 7) (g.1 8) (g.1 9) (g.1 10) (g.1 11) rs af bs f1 f2 su sc (g.2 0) (g.2 1) (g.2 2) (g.2 3) (g.2 4) (g.2 5) (g.2 6) (g.2 7) (g.2 8)) s.heap := hP
  have hS : va_S A s.heap s.heap [] := va_S.rf
  refine lv_iload_n hx hb d_M_store_0 rfl (lv_at hl 1 rfl) ?_
  refine lv_sipush (v := 1023) hx hb d_M_store_1 (by decide) ?_
  refine callSt k_M_42 X (c_M_within l k 1023) rfl rfl ⟨Nat.le_of_ble_eq_true rfl, Nat.le_of_ble_eq_true rfl⟩ ⟨Nat.zero_le _, Nat.zero_le _⟩ hl.1 rfl rfl (Nat.le_of_ble_eq_true rfl) d_M_store_4 ?_
  refine lv_if_ne (tgt := 12) hx hb d_M_store_7 (by decide) (fun c7t => ?_) (fun c7f => ?_)
  · skip
    have hv := Decidable.not_not.mp (fun z => c7t (ite10.mpr z))
    refine lv_aload_n hx hb d_M_store_12 rfl (lv_at hl 0 rfl) ?_
    refine gM_instructions Z hP d_M_store_13 ?_
    refine lv_iload_n hx hb d_M_store_16 rfl (lv_at hl 1 rfl) ?_
    refine lv_iload_n hx hb d_M_store_17 rfl (lv_at hl 2 rfl) ?_
    refine sM_instructions Z hP hO hS (in_of (b := 1023) rfl hv) d_M_store_18 (fun H locs hP hS => ?_)
    refine lv_iconst (v := 1) hx hb d_M_store_19 (by decide) ?_
    exact wrZ X hr hlk hS d_M_store_20 (by decide) (if_pos hv).symm (by rw [oStore, if_pos hv]; exact hP)
  · skip
    have hv := ite10.mp c7f
    refine lv_iconst (v := 0) hx hb d_M_store_10 (by decide) ?_
    exact wrZ X hr hlk hS d_M_store_11 (by decide) (if_neg hv).symm (by rw [oStore, if_neg hv]; exact hP)
set_option maxRecDepth 100000 in
theorem c_C_constant (l : Launch) (D : va_G) {A : Nat → Prop} {ad am sm : Nat → Nat} {kc : Nat → ClassId} (hO : okC A ad am sm) (g : Sg) {bu sh al ac : Int32} (k v : Int32) : Met l y_C_constant (Cond.code y_C_constant b_C_constant 3 (some .boolean) :: gW) (rmD 1) (va_Pc [.ref (ad 0), .int k, .int v] (bS D (wCs ad kc am sm g bu sh al ac) (tysC kc))) (qI (if 0 ≤ k ∧ k ≤ 255 then 1 else 0) (fun H => va_P D classes (wCs ad kc am sm (oConst k v g) bu sh al ac) H) A) 0 0 A := by
  refine startM (by decide) (Nat.le_of_ble_eq_true rfl) ?_
  intro p e s m below meth c ls X hr hlk hnm hB hl
  replace X : CallFix p m c b_C_constant 3 s _ gW R_C := X
  obtain ⟨hx, hb, hml, hown, hts⟩ := id X
  obtain ⟨hP, hK, hN⟩ := hB
  have Z : cxC p m c _ _ s _ R_C D kc := ⟨X, hK, hN⟩
  replace hP : va_P D classes (wC ad kc am sm (g.1 0) (g.1 1) (g.1 2) (g.1 3) (g.1 4) (g.1 5) (g.1 6) (g.1 7) (g.1 8) (g.1 9) (g.1 10) (g.1 11) bu sh al ac (g.2 0) (g.2 1) (g.2 2) (g.2 3) (g.2 4) (g.2 5) (g.2 6) (g.2 7) (g.2 8)) s.heap := hP
  have hS : va_S A s.heap s.heap [] := va_S.rf
  refine lv_iload_n hx hb d_C_constant_0 rfl (lv_at hl 1 rfl) ?_
  refine lv_i2l hx hb d_C_constant_1 rfl ?_
  refine lv_lconst (v := 0) hx hb d_C_constant_2 (by decide) ?_
  refine lv_ldc2 hx hb hown (hts _ q_158) d_C_constant_3 ?_
  refine callSt k_C_46 X (c_C_wn l k 0 255 (by decide) (by decide)) rfl rfl ⟨Nat.le_of_ble_eq_true rfl, Nat.le_of_ble_eq_true rfl⟩ ⟨Nat.zero_le _, Nat.zero_le _⟩ hl.1 rfl rfl (Nat.le_of_ble_eq_true rfl) d_C_constant_6 ?_
  refine lv_if_ne (tgt := 14) hx hb d_C_constant_9 (by decide) (fun c9t => ?_) (fun c9f => ?_)
  · skip
    have hv := Decidable.not_not.mp (fun z => c9t (ite10.mpr z))
    refine lv_aload_n hx hb d_C_constant_14 rfl (lv_at hl 0 rfl) ?_
    refine gC_constants Z hP d_C_constant_15 ?_
    refine lv_iload_n hx hb d_C_constant_18 rfl (lv_at hl 1 rfl) ?_
    refine lv_iload_n hx hb d_C_constant_19 rfl (lv_at hl 2 rfl) ?_
    refine lv_ldc hx hb hown (hts _ q_159) d_C_constant_20 ?_
    refine lv_iand hx hb d_C_constant_22 ?_
    refine sC_constants Z hP hO hS (in_of (b := 255) rfl hv) d_C_constant_23 (fun H locs hP hS => ?_)
    refine lv_iconst (v := 1) hx hb d_C_constant_24 (by decide) ?_
    exact wrZ X hr hlk hS d_C_constant_25 (by decide) (if_pos hv).symm (by rw [oConst, if_pos hv]; exact hP)
  · skip
    have hv := ite10.mp c9f
    refine lv_iconst (v := 0) hx hb d_C_constant_12 (by decide) ?_
    exact wrZ X hr hlk hS d_C_constant_13 (by decide) (if_neg hv).symm (by rw [oConst, if_neg hv]; exact hP)
set_option maxRecDepth 100000 in
theorem c_M_constant (l : Launch) (D : va_G) {A : Nat → Prop} {md : Nat → Nat} {kd : Nat → ClassId} (hO : okM A md) (g : Sg) {rs af bs f1 f2 su sc : Int32} (k v : Int32) : Met l y_M_constant (Cond.code y_M_constant b_M_constant 3 (some .boolean) :: gW) (rmD 1) (va_Pc [.ref (md 0), .int k, .int v] (bS D (wMs md kd g rs af bs f1 f2 su sc) (tysM kd))) (qI (if 0 ≤ k ∧ k ≤ 255 then 1 else 0) (fun H => va_P D classes (wMs md kd (oConst k v g) rs af bs f1 f2 su sc) H) A) 0 0 A := by
  refine startM (by decide) (Nat.le_of_ble_eq_true rfl) ?_
  intro p e s m below meth c ls X hr hlk hnm hB hl
  replace X : CallFix p m c b_M_constant 3 s _ gW R_M := X
  obtain ⟨hx, hb, hml, hown, hts⟩ := id X
  obtain ⟨hP, hK, hN⟩ := hB
  have Z : cxM p m c _ _ s _ R_M D kd := ⟨X, hK, hN⟩
  replace hP : va_P D classes (wM md kd (g.1 0) (g.1 1) (g.1 2) (g.1 3) (g.1 4) (g.1 5) (g.1 6) (g.1 7) (g.1 8) (g.1 9) (g.1 10) (g.1 11) rs af bs f1 f2 su sc (g.2 0) (g.2 1) (g.2 2) (g.2 3) (g.2 4) (g.2 5) (g.2 6) (g.2 7) (g.2 8)) s.heap := hP
  have hS : va_S A s.heap s.heap [] := va_S.rf
  refine lv_iload_n hx hb d_M_constant_0 rfl (lv_at hl 1 rfl) ?_
  refine lv_sipush (v := 255) hx hb d_M_constant_1 (by decide) ?_
  refine callSt k_M_42 X (c_M_within l k 255) rfl rfl ⟨Nat.le_of_ble_eq_true rfl, Nat.le_of_ble_eq_true rfl⟩ ⟨Nat.zero_le _, Nat.zero_le _⟩ hl.1 rfl rfl (Nat.le_of_ble_eq_true rfl) d_M_constant_4 ?_
  refine lv_if_ne (tgt := 12) hx hb d_M_constant_7 (by decide) (fun c7t => ?_) (fun c7f => ?_)
  · skip
    have hv := Decidable.not_not.mp (fun z => c7t (ite10.mpr z))
    refine lv_aload_n hx hb d_M_constant_12 rfl (lv_at hl 0 rfl) ?_
    refine gM_constants Z hP d_M_constant_13 ?_
    refine lv_iload_n hx hb d_M_constant_16 rfl (lv_at hl 1 rfl) ?_
    refine lv_iload_n hx hb d_M_constant_17 rfl (lv_at hl 2 rfl) ?_
    refine lv_ldc hx hb hown (hts _ q_370) d_M_constant_18 ?_
    refine lv_iand hx hb d_M_constant_20 ?_
    refine sM_constants Z hP hO hS (in_of (b := 255) rfl hv) d_M_constant_21 (fun H locs hP hS => ?_)
    refine lv_iconst (v := 1) hx hb d_M_constant_22 (by decide) ?_
    exact wrZ X hr hlk hS d_M_constant_23 (by decide) (if_pos hv).symm (by rw [oConst, if_pos hv]; exact hP)
  · skip
    have hv := ite10.mp c7f
    refine lv_iconst (v := 0) hx hb d_M_constant_10 (by decide) ?_
    exact wrZ X hr hlk hS d_M_constant_11 (by decide) (if_neg hv).symm (by rw [oConst, if_neg hv]; exact hP)
set_option maxRecDepth 100000 in
theorem c_C_poke (l : Launch) (D : va_G) {A : Nat → Prop} {ad am sm : Nat → Nat} {kc : Nat → ClassId} (hO : okC A ad am sm) (g : Sg) {bu sh al ac : Int32} (k v : Int32) : Met l y_C_poke (Cond.code y_C_poke b_C_poke 3 (some .boolean) :: gW) (rmD 1) (va_Pc [.ref (ad 0), .int k, .int v] (bS D (wCs ad kc am sm g bu sh al ac) (tysC kc))) (qI (if 0 ≤ k ∧ k ≤ 1023 then 1 else 0) (fun H => va_P D classes (wCs ad kc am sm (oPoke k v g) bu sh al ac) H) A) 0 0 A := by
  refine startM (by decide) (Nat.le_of_ble_eq_true rfl) ?_
  intro p e s m below meth c ls X hr hlk hnm hB hl
  replace X : CallFix p m c b_C_poke 3 s _ gW R_C := X
  obtain ⟨hx, hb, hml, hown, hts⟩ := id X
  obtain ⟨hP, hK, hN⟩ := hB
  have Z : cxC p m c _ _ s _ R_C D kc := ⟨X, hK, hN⟩
  replace hP : va_P D classes (wC ad kc am sm (g.1 0) (g.1 1) (g.1 2) (g.1 3) (g.1 4) (g.1 5) (g.1 6) (g.1 7) (g.1 8) (g.1 9) (g.1 10) (g.1 11) bu sh al ac (g.2 0) (g.2 1) (g.2 2) (g.2 3) (g.2 4) (g.2 5) (g.2 6) (g.2 7) (g.2 8)) s.heap := hP
  have hS : va_S A s.heap s.heap [] := va_S.rf
  refine lv_iload_n hx hb d_C_poke_0 rfl (lv_at hl 1 rfl) ?_
  refine lv_i2l hx hb d_C_poke_1 rfl ?_
  refine lv_lconst (v := 0) hx hb d_C_poke_2 (by decide) ?_
  refine lv_ldc2 hx hb hown (hts _ q_146) d_C_poke_3 ?_
  refine callSt k_C_46 X (c_C_wn l k 0 1023 (by decide) (by decide)) rfl rfl ⟨Nat.le_of_ble_eq_true rfl, Nat.le_of_ble_eq_true rfl⟩ ⟨Nat.zero_le _, Nat.zero_le _⟩ hl.1 rfl rfl (Nat.le_of_ble_eq_true rfl) d_C_poke_6 ?_
  refine lv_if_ne (tgt := 14) hx hb d_C_poke_9 (by decide) (fun c9t => ?_) (fun c9f => ?_)
  · skip
    have hv := Decidable.not_not.mp (fun z => c9t (ite10.mpr z))
    refine lv_aload_n hx hb d_C_poke_14 rfl (lv_at hl 0 rfl) ?_
    refine gC_memory Z hP d_C_poke_15 ?_
    refine lv_iload_n hx hb d_C_poke_18 rfl (lv_at hl 1 rfl) ?_
    refine lv_iload_n hx hb d_C_poke_19 rfl (lv_at hl 2 rfl) ?_
    refine lv_ldc hx hb hown (hts _ q_159) d_C_poke_20 ?_
    refine lv_iand hx hb d_C_poke_22 ?_
    refine sC_memory Z hP hO hS (in_of (b := 1023) rfl hv) d_C_poke_23 (fun H locs hP hS => ?_)
    refine lv_iconst (v := 1) hx hb d_C_poke_24 (by decide) ?_
    exact wrZ X hr hlk hS d_C_poke_25 (by decide) (if_pos hv).symm (by rw [oPoke, if_pos hv]; exact hP)
  · skip
    have hv := ite10.mp c9f
    refine lv_iconst (v := 0) hx hb d_C_poke_12 (by decide) ?_
    exact wrZ X hr hlk hS d_C_poke_13 (by decide) (if_neg hv).symm (by rw [oPoke, if_neg hv]; exact hP)
set_option maxRecDepth 100000 in
theorem c_M_poke (l : Launch) (D : va_G) {A : Nat → Prop} {md : Nat → Nat} {kd : Nat → ClassId} (hO : okM A md) (g : Sg) {rs af bs f1 f2 su sc : Int32} (k v : Int32) : Met l y_M_poke (Cond.code y_M_poke b_M_poke 3 (some .boolean) :: gW) (rmD 1) (va_Pc [.ref (md 0), .int k, .int v] (bS D (wMs md kd g rs af bs f1 f2 su sc) (tysM kd))) (qI (if 0 ≤ k ∧ k ≤ 1023 then 1 else 0) (fun H => va_P D classes (wMs md kd (oPoke k v g) rs af bs f1 f2 su sc) H) A) 0 0 A := by
  refine startM (by decide) (Nat.le_of_ble_eq_true rfl) ?_
  intro p e s m below meth c ls X hr hlk hnm hB hl
  replace X : CallFix p m c b_M_poke 3 s _ gW R_M := X
  obtain ⟨hx, hb, hml, hown, hts⟩ := id X
  obtain ⟨hP, hK, hN⟩ := hB
  have Z : cxM p m c _ _ s _ R_M D kd := ⟨X, hK, hN⟩
  replace hP : va_P D classes (wM md kd (g.1 0) (g.1 1) (g.1 2) (g.1 3) (g.1 4) (g.1 5) (g.1 6) (g.1 7) (g.1 8) (g.1 9) (g.1 10) (g.1 11) rs af bs f1 f2 su sc (g.2 0) (g.2 1) (g.2 2) (g.2 3) (g.2 4) (g.2 5) (g.2 6) (g.2 7) (g.2 8)) s.heap := hP
  have hS : va_S A s.heap s.heap [] := va_S.rf
  refine lv_iload_n hx hb d_M_poke_0 rfl (lv_at hl 1 rfl) ?_
  refine lv_sipush (v := 1023) hx hb d_M_poke_1 (by decide) ?_
  refine callSt k_M_42 X (c_M_within l k 1023) rfl rfl ⟨Nat.le_of_ble_eq_true rfl, Nat.le_of_ble_eq_true rfl⟩ ⟨Nat.zero_le _, Nat.zero_le _⟩ hl.1 rfl rfl (Nat.le_of_ble_eq_true rfl) d_M_poke_4 ?_
  refine lv_if_ne (tgt := 12) hx hb d_M_poke_7 (by decide) (fun c7t => ?_) (fun c7f => ?_)
  · skip
    have hv := Decidable.not_not.mp (fun z => c7t (ite10.mpr z))
    refine lv_aload_n hx hb d_M_poke_12 rfl (lv_at hl 0 rfl) ?_
    refine gM_memory Z hP d_M_poke_13 ?_
    refine lv_iload_n hx hb d_M_poke_16 rfl (lv_at hl 1 rfl) ?_
    refine lv_iload_n hx hb d_M_poke_17 rfl (lv_at hl 2 rfl) ?_
    refine lv_ldc hx hb hown (hts _ q_370) d_M_poke_18 ?_
    refine lv_iand hx hb d_M_poke_20 ?_
    refine sM_memory Z hP hO hS (in_of (b := 1023) rfl hv) d_M_poke_21 (fun H locs hP hS => ?_)
    refine lv_iconst (v := 1) hx hb d_M_poke_22 (by decide) ?_
    exact wrZ X hr hlk hS d_M_poke_23 (by decide) (if_pos hv).symm (by rw [oPoke, if_pos hv]; exact hP)
  · skip
    have hv := ite10.mp c7f
    refine lv_iconst (v := 0) hx hb d_M_poke_10 (by decide) ?_
    exact wrZ X hr hlk hS d_M_poke_11 (by decide) (if_neg hv).symm (by rw [oPoke, if_neg hv]; exact hP)
set_option maxRecDepth 100000 in
theorem c_C_set (l : Launch) (D : va_G) {A : Nat → Prop} {ad am sm : Nat → Nat} {kc : Nat → ClassId} (hO : okC A ad am sm) (g : Sg) {bu sh al ac : Int32} (k v : Int32) : Met l y_C_set (Cond.code y_C_set b_C_set 3 (some .boolean) :: gW) (rmD 1) (va_Pc [.ref (ad 0), .int k, .int v] (bS D (wCs ad kc am sm g bu sh al ac) (tysC kc))) (qI (if 0 ≤ k ∧ k ≤ 31 then 1 else 0) (fun H => va_P D classes (wCs ad kc am sm (oSet k v g) bu sh al ac) H) A) 0 0 A := by
  refine startM (by decide) (Nat.le_of_ble_eq_true rfl) ?_
  intro p e s m below meth c ls X hr hlk hnm hB hl
  replace X : CallFix p m c b_C_set 3 s _ gW R_C := X
  obtain ⟨hx, hb, hml, hown, hts⟩ := id X
  obtain ⟨hP, hK, hN⟩ := hB
  have Z : cxC p m c _ _ s _ R_C D kc := ⟨X, hK, hN⟩
  replace hP : va_P D classes (wC ad kc am sm (g.1 0) (g.1 1) (g.1 2) (g.1 3) (g.1 4) (g.1 5) (g.1 6) (g.1 7) (g.1 8) (g.1 9) (g.1 10) (g.1 11) bu sh al ac (g.2 0) (g.2 1) (g.2 2) (g.2 3) (g.2 4) (g.2 5) (g.2 6) (g.2 7) (g.2 8)) s.heap := hP
  have hS : va_S A s.heap s.heap [] := va_S.rf
  refine lv_iload_n hx hb d_C_set_0 rfl (lv_at hl 1 rfl) ?_
  refine lv_i2l hx hb d_C_set_1 rfl ?_
  refine lv_lconst (v := 0) hx hb d_C_set_2 (by decide) ?_
  refine lv_ldc2 hx hb hown (hts _ q_168) d_C_set_3 ?_
  refine callSt k_C_46 X (c_C_wn l k 0 31 (by decide) (by decide)) rfl rfl ⟨Nat.le_of_ble_eq_true rfl, Nat.le_of_ble_eq_true rfl⟩ ⟨Nat.zero_le _, Nat.zero_le _⟩ hl.1 rfl rfl (Nat.le_of_ble_eq_true rfl) d_C_set_6 ?_
  refine lv_if_ne (tgt := 14) hx hb d_C_set_9 (by decide) (fun c9t => ?_) (fun c9f => ?_)
  · skip
    have hv := Decidable.not_not.mp (fun z => c9t (ite10.mpr z))
    refine lv_aload_n hx hb d_C_set_14 rfl (lv_at hl 0 rfl) ?_
    refine gC_registers Z hP d_C_set_15 ?_
    refine lv_iload_n hx hb d_C_set_18 rfl (lv_at hl 1 rfl) ?_
    refine lv_iload_n hx hb d_C_set_19 rfl (lv_at hl 2 rfl) ?_
    refine lv_ldc hx hb hown (hts _ q_159) d_C_set_20 ?_
    refine lv_iand hx hb d_C_set_22 ?_
    refine sC_registers Z hP hO hS (in_of (b := 31) rfl hv) d_C_set_23 (fun H locs hP hS => ?_)
    refine lv_iconst (v := 1) hx hb d_C_set_24 (by decide) ?_
    exact wrZ X hr hlk hS d_C_set_25 (by decide) (if_pos hv).symm (by rw [oSet, if_pos hv]; exact hP)
  · skip
    have hv := ite10.mp c9f
    refine lv_iconst (v := 0) hx hb d_C_set_12 (by decide) ?_
    exact wrZ X hr hlk hS d_C_set_13 (by decide) (if_neg hv).symm (by rw [oSet, if_neg hv]; exact hP)
set_option maxRecDepth 100000 in
theorem c_M_set (l : Launch) (D : va_G) {A : Nat → Prop} {md : Nat → Nat} {kd : Nat → ClassId} (hO : okM A md) (g : Sg) {rs af bs f1 f2 su sc : Int32} (k v : Int32) : Met l y_M_set (Cond.code y_M_set b_M_set 3 (some .boolean) :: gW) (rmD 1) (va_Pc [.ref (md 0), .int k, .int v] (bS D (wMs md kd g rs af bs f1 f2 su sc) (tysM kd))) (qI (if 0 ≤ k ∧ k ≤ 31 then 1 else 0) (fun H => va_P D classes (wMs md kd (oSet k v g) rs af bs f1 f2 su sc) H) A) 0 0 A := by
  refine startM (by decide) (Nat.le_of_ble_eq_true rfl) ?_
  intro p e s m below meth c ls X hr hlk hnm hB hl
  replace X : CallFix p m c b_M_set 3 s _ gW R_M := X
  obtain ⟨hx, hb, hml, hown, hts⟩ := id X
  obtain ⟨hP, hK, hN⟩ := hB
  have Z : cxM p m c _ _ s _ R_M D kd := ⟨X, hK, hN⟩
  replace hP : va_P D classes (wM md kd (g.1 0) (g.1 1) (g.1 2) (g.1 3) (g.1 4) (g.1 5) (g.1 6) (g.1 7) (g.1 8) (g.1 9) (g.1 10) (g.1 11) rs af bs f1 f2 su sc (g.2 0) (g.2 1) (g.2 2) (g.2 3) (g.2 4) (g.2 5) (g.2 6) (g.2 7) (g.2 8)) s.heap := hP
  have hS : va_S A s.heap s.heap [] := va_S.rf
  refine lv_iload_n hx hb d_M_set_0 rfl (lv_at hl 1 rfl) ?_
  refine lv_bipush (v := 31) hx hb d_M_set_1 (by decide) ?_
  refine callSt k_M_42 X (c_M_within l k 31) rfl rfl ⟨Nat.le_of_ble_eq_true rfl, Nat.le_of_ble_eq_true rfl⟩ ⟨Nat.zero_le _, Nat.zero_le _⟩ hl.1 rfl rfl (Nat.le_of_ble_eq_true rfl) d_M_set_3 ?_
  refine lv_if_ne (tgt := 11) hx hb d_M_set_6 (by decide) (fun c6t => ?_) (fun c6f => ?_)
  · skip
    have hv := Decidable.not_not.mp (fun z => c6t (ite10.mpr z))
    refine lv_aload_n hx hb d_M_set_11 rfl (lv_at hl 0 rfl) ?_
    refine gM_registers Z hP d_M_set_12 ?_
    refine lv_iload_n hx hb d_M_set_15 rfl (lv_at hl 1 rfl) ?_
    refine lv_iload_n hx hb d_M_set_16 rfl (lv_at hl 2 rfl) ?_
    refine lv_ldc hx hb hown (hts _ q_370) d_M_set_17 ?_
    refine lv_iand hx hb d_M_set_19 ?_
    refine sM_registers Z hP hO hS (in_of (b := 31) rfl hv) d_M_set_20 (fun H locs hP hS => ?_)
    refine lv_iconst (v := 1) hx hb d_M_set_21 (by decide) ?_
    exact wrZ X hr hlk hS d_M_set_22 (by decide) (if_pos hv).symm (by rw [oSet, if_pos hv]; exact hP)
  · skip
    have hv := ite10.mp c6f
    refine lv_iconst (v := 0) hx hb d_M_set_9 (by decide) ?_
    exact wrZ X hr hlk hS d_M_set_10 (by decide) (if_neg hv).symm (by rw [oSet, if_neg hv]; exact hP)
set_option maxRecDepth 100000 in
theorem c_C_port (l : Launch) (D : va_G) {A : Nat → Prop} {ad am sm : Nat → Nat} {kc : Nat → ClassId} (hO : okC A ad am sm) (g : Sg) {bu sh al ac : Int32} (v : Int32) : Met l y_C_port (Cond.code y_C_port b_C_port 2 none :: gW) (rmD 0) (va_Pc [.ref (ad 0), .int v] (bS D (wCs ad kc am sm g bu sh al ac) (tysC kc))) (qV (fun H => va_P D classes (wCs ad kc am sm (oPort v g) bu sh al ac) H) A) 0 0 A := by
  refine startM (by decide) (Nat.le_of_ble_eq_true rfl) ?_
  intro p e s m below meth c ls X hr hlk hnm hB hl
  replace X : CallFix p m c b_C_port 2 s _ gW R_C := X
  obtain ⟨hx, hb, hml, hown, hts⟩ := id X
  obtain ⟨hP, hK, hN⟩ := hB
  have Z : cxC p m c _ _ s _ R_C D kc := ⟨X, hK, hN⟩
  replace hP : va_P D classes (wC ad kc am sm (g.1 0) (g.1 1) (g.1 2) (g.1 3) (g.1 4) (g.1 5) (g.1 6) (g.1 7) (g.1 8) (g.1 9) (g.1 10) (g.1 11) bu sh al ac (g.2 0) (g.2 1) (g.2 2) (g.2 3) (g.2 4) (g.2 5) (g.2 6) (g.2 7) (g.2 8)) s.heap := hP
  have hS : va_S A s.heap s.heap [] := va_S.rf
  refine lv_aload_n hx hb d_C_port_0 rfl (lv_at hl 0 rfl) ?_
  refine lv_iload_n hx hb d_C_port_1 rfl (lv_at hl 1 rfl) ?_
  refine lv_ldc hx hb hown (hts _ q_159) d_C_port_2 ?_
  refine lv_iand hx hb d_C_port_4 ?_
  refine pC_input Z hP hO hS d_C_port_5 (fun H locs hP hS => ?_)
  exact wrV X hr hlk hS d_C_port_8 hP
set_option maxRecDepth 100000 in
theorem c_M_port (l : Launch) (D : va_G) {A : Nat → Prop} {md : Nat → Nat} {kd : Nat → ClassId} (hO : okM A md) (g : Sg) {rs af bs f1 f2 su sc : Int32} (v : Int32) : Met l y_M_port (Cond.code y_M_port b_M_port 2 none :: gW) (rmD 0) (va_Pc [.ref (md 0), .int v] (bS D (wMs md kd g rs af bs f1 f2 su sc) (tysM kd))) (qV (fun H => va_P D classes (wMs md kd (oPort v g) rs af bs f1 f2 su sc) H) A) 0 0 A := by
  refine startM (by decide) (Nat.le_of_ble_eq_true rfl) ?_
  intro p e s m below meth c ls X hr hlk hnm hB hl
  replace X : CallFix p m c b_M_port 2 s _ gW R_M := X
  obtain ⟨hx, hb, hml, hown, hts⟩ := id X
  obtain ⟨hP, hK, hN⟩ := hB
  have Z : cxM p m c _ _ s _ R_M D kd := ⟨X, hK, hN⟩
  replace hP : va_P D classes (wM md kd (g.1 0) (g.1 1) (g.1 2) (g.1 3) (g.1 4) (g.1 5) (g.1 6) (g.1 7) (g.1 8) (g.1 9) (g.1 10) (g.1 11) rs af bs f1 f2 su sc (g.2 0) (g.2 1) (g.2 2) (g.2 3) (g.2 4) (g.2 5) (g.2 6) (g.2 7) (g.2 8)) s.heap := hP
  have hS : va_S A s.heap s.heap [] := va_S.rf
  refine lv_aload_n hx hb d_M_port_0 rfl (lv_at hl 0 rfl) ?_
  refine lv_iload_n hx hb d_M_port_1 rfl (lv_at hl 1 rfl) ?_
  refine lv_ldc hx hb hown (hts _ q_370) d_M_port_2 ?_
  refine lv_iand hx hb d_M_port_4 ?_
  refine pM_input Z hP hO hS d_M_port_5 (fun H locs hP hS => ?_)
  exact wrV X hr hlk hS d_M_port_8 hP
set_option maxRecDepth 100000 in
theorem c_C_wake (l : Launch) (D : va_G) {A : Nat → Prop} {ad am sm : Nat → Nat} {kc : Nat → ClassId} (hO : okC A ad am sm) (g : Sg) {bu sh al ac : Int32} (hb01 : ∀ k, b01 (g.2 8 k)) (k : Int32) : Met l y_C_wake (Cond.code y_C_wake b_C_wake 3 (some .boolean) :: gW) (rmD 2) (va_Pc [.ref (ad 0), .int k] (bS D (wCs ad kc am sm g bu sh al ac) (tysC kc))) (qI (aWake k g) (fun H => va_P D classes (wCs ad kc am sm (oWake k g) bu sh al ac) H) A) 0 0 A := by
  refine startM (by decide) (Nat.le_of_ble_eq_true rfl) ?_
  intro p e s m below meth c ls X hr hlk hnm hB hl
  replace X : CallFix p m c b_C_wake 3 s _ gW R_C := X
  obtain ⟨hx, hb, hml, hown, hts⟩ := id X
  obtain ⟨hP, hK, hN⟩ := hB
  have Z : cxC p m c _ _ s _ R_C D kc := ⟨X, hK, hN⟩
  replace hP : va_P D classes (wC ad kc am sm (g.1 0) (g.1 1) (g.1 2) (g.1 3) (g.1 4) (g.1 5) (g.1 6) (g.1 7) (g.1 8) (g.1 9) (g.1 10) (g.1 11) bu sh al ac (g.2 0) (g.2 1) (g.2 2) (g.2 3) (g.2 4) (g.2 5) (g.2 6) (g.2 7) (g.2 8)) s.heap := hP
  have hS : va_S A s.heap s.heap [] := va_S.rf
  refine lv_iload_n hx hb d_C_wake_0 rfl (lv_at hl 1 rfl) ?_
  refine callSt k_C_64 X (c_C_isTask l k) rfl rfl ⟨Nat.le_of_ble_eq_true rfl, Nat.le_of_ble_eq_true rfl⟩ ⟨Nat.zero_le _, Nat.zero_le _⟩ hl.1 rfl rfl (Nat.le_of_ble_eq_true rfl) d_C_wake_1 ?_
  refine lv_if_ne (tgt := 9) hx hb d_C_wake_4 (by decide) (fun c4t => ?_) (fun c4f => ?_)
  · skip
    have hv := Decidable.not_not.mp (fun z => c4t (ite10.mpr z))
    refine lv_aload_n hx hb d_C_wake_9 rfl (lv_at hl 0 rfl) ?_
    refine gC_strands Z hP d_C_wake_10 ?_
    refine lv_iload_n hx hb d_C_wake_13 rfl (lv_at hl 1 rfl) ?_
    refine lC_strands Z hP (in_of (b := 15) rfl hv) d_C_wake_14 ?_
    refine gS_woken Z hP (vp_lt (in_of (b := 15) rfl hv)) d_C_wake_15 ?_
    refine lv_istore_n (lv' := [(2, _), (0, _), (1, _)]) hx hb d_C_wake_18 rfl hl (by decide) rfl (fun ls hl => ?_)
    refine lv_aload_n hx hb d_C_wake_19 rfl (lv_at hl 1 rfl) ?_
    refine gC_strands Z hP d_C_wake_20 ?_
    refine lv_iload_n hx hb d_C_wake_23 rfl (lv_at hl 2 rfl) ?_
    refine lC_strands Z hP (in_of (b := 15) rfl hv) d_C_wake_24 ?_
    refine lv_iconst (v := 1) hx hb d_C_wake_25 (by decide) ?_
    refine pS_woken Z hP hO hS (by decide) (vp_lt (in_of (b := 15) rfl hv)) d_C_wake_26 (fun H locs hP hS => ?_)
    refine lv_iload_n hx hb d_C_wake_29 rfl (lv_at hl 0 rfl) ?_
    exact wrZ X hr hlk hS d_C_wake_30 (hb01 _) (if_pos hv).symm (by rw [oWake, if_pos hv]; exact hP)
  · skip
    have hv := ite10.mp c4f
    refine lv_iconst (v := 0) hx hb d_C_wake_7 (by decide) ?_
    exact wrZ X hr hlk hS d_C_wake_8 (by decide) (if_neg hv).symm (by rw [oWake, if_neg hv]; exact hP)
set_option maxRecDepth 100000 in
theorem c_M_wake (l : Launch) (D : va_G) {A : Nat → Prop} {md : Nat → Nat} {kd : Nat → ClassId} (hO : okM A md) (g : Sg) {rs af bs f1 f2 su sc : Int32} (hb01 : ∀ k, b01 (g.2 8 k)) (k : Int32) : Met l y_M_wake (Cond.code y_M_wake b_M_wake 3 (some .boolean) :: gW) (rmD 1) (va_Pc [.ref (md 0), .int k] (bS D (wMs md kd g rs af bs f1 f2 su sc) (tysM kd))) (qI (aWake k g) (fun H => va_P D classes (wMs md kd (oWake k g) rs af bs f1 f2 su sc) H) A) 0 0 A := by
  refine startM (by decide) (Nat.le_of_ble_eq_true rfl) ?_
  intro p e s m below meth c ls X hr hlk hnm hB hl
  replace X : CallFix p m c b_M_wake 3 s _ gW R_M := X
  obtain ⟨hx, hb, hml, hown, hts⟩ := id X
  obtain ⟨hP, hK, hN⟩ := hB
  have Z : cxM p m c _ _ s _ R_M D kd := ⟨X, hK, hN⟩
  replace hP : va_P D classes (wM md kd (g.1 0) (g.1 1) (g.1 2) (g.1 3) (g.1 4) (g.1 5) (g.1 6) (g.1 7) (g.1 8) (g.1 9) (g.1 10) (g.1 11) rs af bs f1 f2 su sc (g.2 0) (g.2 1) (g.2 2) (g.2 3) (g.2 4) (g.2 5) (g.2 6) (g.2 7) (g.2 8)) s.heap := hP
  have hS : va_S A s.heap s.heap [] := va_S.rf
  refine lv_iload_n hx hb d_M_wake_0 rfl (lv_at hl 1 rfl) ?_
  refine lv_bipush (v := 15) hx hb d_M_wake_1 (by decide) ?_
  refine callSt k_M_42 X (c_M_within l k 15) rfl rfl ⟨Nat.le_of_ble_eq_true rfl, Nat.le_of_ble_eq_true rfl⟩ ⟨Nat.zero_le _, Nat.zero_le _⟩ hl.1 rfl rfl (Nat.le_of_ble_eq_true rfl) d_M_wake_3 ?_
  refine lv_if_ne (tgt := 11) hx hb d_M_wake_6 (by decide) (fun c6t => ?_) (fun c6f => ?_)
  · skip
    have hv := Decidable.not_not.mp (fun z => c6t (ite10.mpr z))
    refine lv_aload_n hx hb d_M_wake_11 rfl (lv_at hl 0 rfl) ?_
    refine gM_lines Z hP d_M_wake_12 ?_
    refine lv_iload_n hx hb d_M_wake_15 rfl (lv_at hl 1 rfl) ?_
    refine lM_lines Z hP (in_of (b := 15) rfl hv) d_M_wake_16 ?_
    refine lv_istore_n (lv' := [(2, _), (0, _), (1, _)]) hx hb d_M_wake_17 rfl hl (by decide) rfl (fun ls hl => ?_)
    refine lv_aload_n hx hb d_M_wake_18 rfl (lv_at hl 1 rfl) ?_
    refine gM_lines Z hP d_M_wake_19 ?_
    refine lv_iload_n hx hb d_M_wake_22 rfl (lv_at hl 2 rfl) ?_
    refine lv_iconst (v := 1) hx hb d_M_wake_23 (by decide) ?_
    refine sM_lines Z hP hO hS (by decide) (in_of (b := 15) rfl hv) d_M_wake_24 (fun H locs hP hS => ?_)
    refine lv_iload_n hx hb d_M_wake_25 rfl (lv_at hl 0 rfl) ?_
    exact wrZ X hr hlk hS d_M_wake_26 (hb01 _) (if_pos hv).symm (by rw [oWake, if_pos hv]; exact hP)
  · skip
    have hv := ite10.mp c6f
    refine lv_iconst (v := 0) hx hb d_M_wake_9 (by decide) ?_
    exact wrZ X hr hlk hS d_M_wake_10 (by decide) (if_neg hv).symm (by rw [oWake, if_neg hv]; exact hP)
set_option maxRecDepth 100000 in
theorem c_C_start (l : Launch) (D : va_G) {A : Nat → Prop} {ad am sm : Nat → Nat} {kc : Nat → ClassId} (hO : okC A ad am sm) (g : Sg) {bu sh al ac : Int32} (k v : Int32) : Met l y_C_start (Cond.code y_C_start b_C_start 3 (some .boolean) :: gW) (rmD 2) (va_Pc [.ref (ad 0), .int k, .int v] (bS D (wCs ad kc am sm g bu sh al ac) (tysC kc))) (qI (if (0 ≤ k ∧ k ≤ 15) ∧ (0 ≤ v ∧ v ≤ 1023) then 1 else 0) (fun H => va_P D classes (wCs ad kc am sm (oStart k v g) bu sh al ac) H) A) 0 0 A := by
  refine startM (by decide) (Nat.le_of_ble_eq_true rfl) ?_
  intro p e s m below meth c ls X hr hlk hnm hB hl
  replace X : CallFix p m c b_C_start 3 s _ gW R_C := X
  obtain ⟨hx, hb, hml, hown, hts⟩ := id X
  obtain ⟨hP, hK, hN⟩ := hB
  have Z : cxC p m c _ _ s _ R_C D kc := ⟨X, hK, hN⟩
  replace hP : va_P D classes (wC ad kc am sm (g.1 0) (g.1 1) (g.1 2) (g.1 3) (g.1 4) (g.1 5) (g.1 6) (g.1 7) (g.1 8) (g.1 9) (g.1 10) (g.1 11) bu sh al ac (g.2 0) (g.2 1) (g.2 2) (g.2 3) (g.2 4) (g.2 5) (g.2 6) (g.2 7) (g.2 8)) s.heap := hP
  have hS : va_S A s.heap s.heap [] := va_S.rf
  refine lv_iload_n hx hb d_C_start_0 rfl (lv_at hl 1 rfl) ?_
  refine callSt k_C_64 X (c_C_isTask l k) rfl rfl ⟨Nat.le_of_ble_eq_true rfl, Nat.le_of_ble_eq_true rfl⟩ ⟨Nat.zero_le _, Nat.zero_le _⟩ hl.1 rfl rfl (Nat.le_of_ble_eq_true rfl) d_C_start_1 ?_
  refine lv_if_eq (tgt := 19) hx hb d_C_start_4 (by decide) (fun c4t => ?_) (fun c4f => ?_)
  · skip
    have hv := ite10.mp c4t
    refine lv_iconst (v := 0) hx hb d_C_start_19 (by decide) ?_
    exact wrZ X hr hlk hS d_C_start_20 (by decide) (if_neg (fun z => hv z.1)).symm (by rw [oStart, if_neg (fun z => hv z.1)]; exact hP)
  · skip
    have hv := Decidable.not_not.mp (fun z => c4f (ite10.mpr z))
    refine lv_iload_n hx hb d_C_start_7 rfl (lv_at hl 2 rfl) ?_
    refine lv_i2l hx hb d_C_start_8 rfl ?_
    refine lv_lconst (v := 0) hx hb d_C_start_9 (by decide) ?_
    refine lv_ldc2 hx hb hown (hts _ q_146) d_C_start_10 ?_
    refine callSt k_C_46 X (c_C_wn l v 0 1023 (by decide) (by decide)) rfl rfl ⟨Nat.le_of_ble_eq_true rfl, Nat.le_of_ble_eq_true rfl⟩ ⟨Nat.zero_le _, Nat.zero_le _⟩ hl.1 rfl rfl (Nat.le_of_ble_eq_true rfl) d_C_start_13 ?_
    refine lv_if_ne (tgt := 21) hx hb d_C_start_16 (by decide) (fun c16t => ?_) (fun c16f => ?_)
    · skip
      have hv2 := Decidable.not_not.mp (fun z => c16t (ite10.mpr z))
      refine lv_aload_n hx hb d_C_start_21 rfl (lv_at hl 0 rfl) ?_
      refine gC_strands Z hP d_C_start_22 ?_
      refine lv_iload_n hx hb d_C_start_25 rfl (lv_at hl 1 rfl) ?_
      refine lC_strands Z hP (in_of (b := 15) rfl hv) d_C_start_26 ?_
      refine lv_iload_n hx hb d_C_start_27 rfl (lv_at hl 2 rfl) ?_
      refine pS_place Z hP hO hS (vp_lt (in_of (b := 15) rfl hv)) d_C_start_28 (fun H locs hP hS => ?_)
      refine lv_aload_n hx hb d_C_start_31 rfl (lv_at hl 0 rfl) ?_
      refine gC_strands Z hP d_C_start_32 ?_
      refine lv_iload_n hx hb d_C_start_35 rfl (lv_at hl 1 rfl) ?_
      refine lC_strands Z hP (in_of (b := 15) rfl hv) d_C_start_36 ?_
      refine lv_iconst (v := 0) hx hb d_C_start_37 (by decide) ?_
      refine pS_change Z hP hO hS (vp_lt (in_of (b := 15) rfl hv)) d_C_start_38 (fun H locs hP hS => ?_)
      refine lv_iconst (v := 1) hx hb d_C_start_41 (by decide) ?_
      exact wrZ X hr hlk hS d_C_start_42 (by decide) (if_pos ⟨hv, hv2⟩).symm (by rw [oStart, if_pos ⟨hv, hv2⟩]; exact hP)
    · skip
      have hv2 := ite10.mp c16f
      refine lv_iconst (v := 0) hx hb d_C_start_19 (by decide) ?_
      exact wrZ X hr hlk hS d_C_start_20 (by decide) (if_neg (fun z => hv2 z.2)).symm (by rw [oStart, if_neg (fun z => hv2 z.2)]; exact hP)
set_option maxRecDepth 100000 in
theorem c_M_start (l : Launch) (D : va_G) {A : Nat → Prop} {md : Nat → Nat} {kd : Nat → ClassId} (hO : okM A md) (g : Sg) {rs af bs f1 f2 su sc : Int32} (k v : Int32) : Met l y_M_start (Cond.code y_M_start b_M_start 3 (some .boolean) :: gW) (rmD 1) (va_Pc [.ref (md 0), .int k, .int v] (bS D (wMs md kd g rs af bs f1 f2 su sc) (tysM kd))) (qI (if (0 ≤ k ∧ k ≤ 15) ∧ (0 ≤ v ∧ v ≤ 1023) then 1 else 0) (fun H => va_P D classes (wMs md kd (oStart k v g) rs af bs f1 f2 su sc) H) A) 0 0 A := by
  refine startM (by decide) (Nat.le_of_ble_eq_true rfl) ?_
  intro p e s m below meth c ls X hr hlk hnm hB hl
  replace X : CallFix p m c b_M_start 3 s _ gW R_M := X
  obtain ⟨hx, hb, hml, hown, hts⟩ := id X
  obtain ⟨hP, hK, hN⟩ := hB
  have Z : cxM p m c _ _ s _ R_M D kd := ⟨X, hK, hN⟩
  replace hP : va_P D classes (wM md kd (g.1 0) (g.1 1) (g.1 2) (g.1 3) (g.1 4) (g.1 5) (g.1 6) (g.1 7) (g.1 8) (g.1 9) (g.1 10) (g.1 11) rs af bs f1 f2 su sc (g.2 0) (g.2 1) (g.2 2) (g.2 3) (g.2 4) (g.2 5) (g.2 6) (g.2 7) (g.2 8)) s.heap := hP
  have hS : va_S A s.heap s.heap [] := va_S.rf
  refine lv_iload_n hx hb d_M_start_0 rfl (lv_at hl 1 rfl) ?_
  refine lv_bipush (v := 15) hx hb d_M_start_1 (by decide) ?_
  refine callSt k_M_42 X (c_M_within l k 15) rfl rfl ⟨Nat.le_of_ble_eq_true rfl, Nat.le_of_ble_eq_true rfl⟩ ⟨Nat.zero_le _, Nat.zero_le _⟩ hl.1 rfl rfl (Nat.le_of_ble_eq_true rfl) d_M_start_3 ?_
  refine lv_if_eq (tgt := 19) hx hb d_M_start_6 (by decide) (fun c6t => ?_) (fun c6f => ?_)
  · skip
    have hv := ite10.mp c6t
    refine lv_iconst (v := 0) hx hb d_M_start_19 (by decide) ?_
    exact wrZ X hr hlk hS d_M_start_20 (by decide) (if_neg (fun z => hv z.1)).symm (by rw [oStart, if_neg (fun z => hv z.1)]; exact hP)
  · skip
    have hv := Decidable.not_not.mp (fun z => c6f (ite10.mpr z))
    refine lv_iload_n hx hb d_M_start_9 rfl (lv_at hl 2 rfl) ?_
    refine lv_sipush (v := 1023) hx hb d_M_start_10 (by decide) ?_
    refine callSt k_M_42 X (c_M_within l v 1023) rfl rfl ⟨Nat.le_of_ble_eq_true rfl, Nat.le_of_ble_eq_true rfl⟩ ⟨Nat.zero_le _, Nat.zero_le _⟩ hl.1 rfl rfl (Nat.le_of_ble_eq_true rfl) d_M_start_13 ?_
    refine lv_if_ne (tgt := 21) hx hb d_M_start_16 (by decide) (fun c16t => ?_) (fun c16f => ?_)
    · skip
      have hv2 := Decidable.not_not.mp (fun z => c16t (ite10.mpr z))
      refine lv_aload_n hx hb d_M_start_21 rfl (lv_at hl 0 rfl) ?_
      refine gM_places Z hP d_M_start_22 ?_
      refine lv_iload_n hx hb d_M_start_25 rfl (lv_at hl 1 rfl) ?_
      refine lv_iload_n hx hb d_M_start_26 rfl (lv_at hl 2 rfl) ?_
      refine sM_places Z hP hO hS (in_of (b := 15) rfl hv) d_M_start_27 (fun H locs hP hS => ?_)
      refine lv_aload_n hx hb d_M_start_28 rfl (lv_at hl 0 rfl) ?_
      refine gM_changes Z hP d_M_start_29 ?_
      refine lv_iload_n hx hb d_M_start_32 rfl (lv_at hl 1 rfl) ?_
      refine lv_iconst (v := 0) hx hb d_M_start_33 (by decide) ?_
      refine sM_changes Z hP hO hS (in_of (b := 15) rfl hv) d_M_start_34 (fun H locs hP hS => ?_)
      refine lv_iconst (v := 1) hx hb d_M_start_35 (by decide) ?_
      exact wrZ X hr hlk hS d_M_start_36 (by decide) (if_pos ⟨hv, hv2⟩).symm (by rw [oStart, if_pos ⟨hv, hv2⟩]; exact hP)
    · skip
      have hv2 := ite10.mp c16f
      refine lv_iconst (v := 0) hx hb d_M_start_19 (by decide) ?_
      exact wrZ X hr hlk hS d_M_start_20 (by decide) (if_neg (fun z => hv2 z.2)).symm (by rw [oStart, if_neg (fun z => hv2 z.2)]; exact hP)
set_option maxRecDepth 100000 in
theorem c_C_register (l : Launch) (D : va_G) {ad am sm : Nat → Nat} {kc : Nat → ClassId} (g : Sg) {bu sh al ac : Int32} (k : Int32) : Met l y_C_register (Cond.code y_C_register b_C_register 2 (some .int) :: gW) (rmD 1) (va_Pc [.ref (ad 0), .int k] (bS D (wCs ad kc am sm g bu sh al ac) (tysC kc))) (QcRead (aReg k g)) 0 0 (fun _ => False) := by
  refine startM (by decide) (Nat.le_of_ble_eq_true rfl) ?_
  intro p e s m below meth c ls X hr hlk hnm hB hl
  replace X : CallFix p m c b_C_register 2 s _ gW R_C := X
  obtain ⟨hx, hb, hml, hown, hts⟩ := id X
  obtain ⟨hP, hK, hN⟩ := hB
  have Z : cxC p m c _ _ s _ R_C D kc := ⟨X, hK, hN⟩
  replace hP : va_P D classes (wC ad kc am sm (g.1 0) (g.1 1) (g.1 2) (g.1 3) (g.1 4) (g.1 5) (g.1 6) (g.1 7) (g.1 8) (g.1 9) (g.1 10) (g.1 11) bu sh al ac (g.2 0) (g.2 1) (g.2 2) (g.2 3) (g.2 4) (g.2 5) (g.2 6) (g.2 7) (g.2 8)) s.heap := hP
  refine lv_iload_n hx hb d_C_register_0 rfl (lv_at hl 1 rfl) ?_
  by_cases c1_32 : k = 32
  · refine lv_tableIn (off := 31) (tgt := 32) hx hb d_C_register_1 (by rw [c1_32]; decide) (by rw [c1_32]; decide) (by rw [c1_32]; rfl) (by decide) ?_
    refine lv_aload_n hx hb d_C_register_32 rfl (lv_at hl 0 rfl) ?_
    refine gC_t Z hP d_C_register_33 ?_
    exact rdI X hr hlk d_C_register_36 (by subst c1_32; rfl)
  by_cases c1_33 : k = 33
  · refine lv_tableIn (off := 36) (tgt := 37) hx hb d_C_register_1 (by rw [c1_33]; decide) (by rw [c1_33]; decide) (by rw [c1_33]; rfl) (by decide) ?_
    refine lv_aload_n hx hb d_C_register_37 rfl (lv_at hl 0 rfl) ?_
    refine gC_l Z hP d_C_register_38 ?_
    exact rdI X hr hlk d_C_register_41 (by subst c1_33; rfl)
  by_cases c1_34 : k = 34
  · refine lv_tableIn (off := 41) (tgt := 42) hx hb d_C_register_1 (by rw [c1_34]; decide) (by rw [c1_34]; decide) (by rw [c1_34]; rfl) (by decide) ?_
    refine lv_aload_n hx hb d_C_register_42 rfl (lv_at hl 0 rfl) ?_
    refine gC_carry Z hP d_C_register_43 ?_
    exact rdI X hr hlk d_C_register_46 (by subst c1_34; rfl)
  by_cases c1_35 : k = 35
  · refine lv_tableIn (off := 46) (tgt := 47) hx hb d_C_register_1 (by rw [c1_35]; decide) (by rw [c1_35]; decide) (by rw [c1_35]; rfl) (by decide) ?_
    refine lv_aload_n hx hb d_C_register_47 rfl (lv_at hl 0 rfl) ?_
    refine gC_mar Z hP d_C_register_48 ?_
    exact rdI X hr hlk d_C_register_51 (by subst c1_35; rfl)
  refine lv_tableOut (tgt := 52) hx hb d_C_register_1 (sw_out 32 4 (fun k hk => by match k, hk with | 0, _ => exact c1_32 | 1, _ => exact c1_33 | 2, _ => exact c1_34 | 3, _ => exact c1_35)) (by decide) ?_
  refine lv_iload_n hx hb d_C_register_52 rfl (lv_at hl 1 rfl) ?_
  refine lv_i2l hx hb d_C_register_53 rfl ?_
  refine lv_lconst (v := 0) hx hb d_C_register_54 (by decide) ?_
  refine lv_ldc2 hx hb hown (hts _ q_168) d_C_register_55 ?_
  refine callSt k_C_46 X (c_C_wn l k 0 31 (by decide) (by decide)) rfl rfl ⟨Nat.le_of_ble_eq_true rfl, Nat.le_of_ble_eq_true rfl⟩ ⟨Nat.zero_le _, Nat.zero_le _⟩ hl.1 rfl rfl (Nat.le_of_ble_eq_true rfl) d_C_register_58 ?_
  refine lv_if_eq (tgt := 73) hx hb d_C_register_61 (by decide) (fun c61t => ?_) (fun c61f => ?_)
  · skip
    have hv := ite10.mp c61t
    refine lv_iconst (v := (-1)) hx hb d_C_register_73 (by decide) ?_
    exact rdI X hr hlk d_C_register_74 (by simp only [aReg, if_neg hv, if_neg c1_32, if_neg c1_33, if_neg c1_34, if_neg c1_35])
  · skip
    have hv := Decidable.not_not.mp (fun z => c61f (ite10.mpr z))
    refine lv_aload_n hx hb d_C_register_64 rfl (lv_at hl 0 rfl) ?_
    refine gC_registers Z hP d_C_register_65 ?_
    refine lv_iload_n hx hb d_C_register_68 rfl (lv_at hl 1 rfl) ?_
    refine lC_registers Z hP (in_of (b := 31) rfl hv) d_C_register_69 ?_
    refine lv_goto (tgt := 74) hx hb d_C_register_70 (by decide) ?_
    exact rdI X hr hlk d_C_register_74 (by simp only [aReg, if_pos hv])
set_option maxRecDepth 100000 in
theorem c_M_register (l : Launch) (D : va_G) {md : Nat → Nat} {kd : Nat → ClassId} (g : Sg) {rs af bs f1 f2 su sc : Int32} (k : Int32) : Met l y_M_register (Cond.code y_M_register b_M_register 2 (some .int) :: gW) (rmD 1) (va_Pc [.ref (md 0), .int k] (bS D (wMs md kd g rs af bs f1 f2 su sc) (tysM kd))) (QcRead (aReg k g)) 0 0 (fun _ => False) := by
  refine startM (by decide) (Nat.le_of_ble_eq_true rfl) ?_
  intro p e s m below meth c ls X hr hlk hnm hB hl
  replace X : CallFix p m c b_M_register 2 s _ gW R_M := X
  obtain ⟨hx, hb, hml, hown, hts⟩ := id X
  obtain ⟨hP, hK, hN⟩ := hB
  have Z : cxM p m c _ _ s _ R_M D kd := ⟨X, hK, hN⟩
  replace hP : va_P D classes (wM md kd (g.1 0) (g.1 1) (g.1 2) (g.1 3) (g.1 4) (g.1 5) (g.1 6) (g.1 7) (g.1 8) (g.1 9) (g.1 10) (g.1 11) rs af bs f1 f2 su sc (g.2 0) (g.2 1) (g.2 2) (g.2 3) (g.2 4) (g.2 5) (g.2 6) (g.2 7) (g.2 8)) s.heap := hP
  refine lv_iload_n hx hb d_M_register_0 rfl (lv_at hl 1 rfl) ?_
  refine lv_bipush (v := 31) hx hb d_M_register_1 (by decide) ?_
  refine callSt k_M_42 X (c_M_within l k 31) rfl rfl ⟨Nat.le_of_ble_eq_true rfl, Nat.le_of_ble_eq_true rfl⟩ ⟨Nat.zero_le _, Nat.zero_le _⟩ hl.1 rfl rfl (Nat.le_of_ble_eq_true rfl) d_M_register_3 ?_
  refine lv_if_eq (tgt := 18) hx hb d_M_register_6 (by decide) (fun c6t => ?_) (fun c6f => ?_)
  · skip
    have hv := ite10.mp c6t
    refine lv_iload_n hx hb d_M_register_18 rfl (lv_at hl 1 rfl) ?_
    refine lv_bipush (v := 32) hx hb d_M_register_19 (by decide) ?_
    refine lv_icmp_ne (tgt := 31) hx hb d_M_register_21 (by decide) (fun c21t => ?_) (fun c21f => ?_)
    · skip
      refine lv_iload_n hx hb d_M_register_31 rfl (lv_at hl 1 rfl) ?_
      refine lv_bipush (v := 33) hx hb d_M_register_32 (by decide) ?_
      refine lv_icmp_ne (tgt := 44) hx hb d_M_register_34 (by decide) (fun c34t => ?_) (fun c34f => ?_)
      · skip
        refine lv_iload_n hx hb d_M_register_44 rfl (lv_at hl 1 rfl) ?_
        refine lv_bipush (v := 34) hx hb d_M_register_45 (by decide) ?_
        refine lv_icmp_ne (tgt := 57) hx hb d_M_register_47 (by decide) (fun c47t => ?_) (fun c47f => ?_)
        · skip
          refine lv_iload_n hx hb d_M_register_57 rfl (lv_at hl 1 rfl) ?_
          refine lv_bipush (v := 35) hx hb d_M_register_58 (by decide) ?_
          refine lv_icmp_ne (tgt := 70) hx hb d_M_register_60 (by decide) (fun c60t => ?_) (fun c60f => ?_)
          · skip
            refine lv_iconst (v := (-1)) hx hb d_M_register_70 (by decide) ?_
            exact rdI X hr hlk d_M_register_71 (by simp only [aReg, if_neg hv, if_neg c21t, if_neg c34t, if_neg c47t, if_neg c60t])
          · skip
            refine lv_aload_n hx hb d_M_register_63 rfl (lv_at hl 0 rfl) ?_
            refine gM_mar Z hP d_M_register_64 ?_
            refine lv_goto (tgt := 71) hx hb d_M_register_67 (by decide) ?_
            exact rdI X hr hlk d_M_register_71 (by simp only [aReg, if_neg hv, if_neg c21t, if_neg c34t, if_neg c47t, if_pos c60f])
        · skip
          refine lv_aload_n hx hb d_M_register_50 rfl (lv_at hl 0 rfl) ?_
          refine gM_carry Z hP d_M_register_51 ?_
          refine lv_goto (tgt := 71) hx hb d_M_register_54 (by decide) ?_
          exact rdI X hr hlk d_M_register_71 (by simp only [aReg, if_neg hv, if_neg c21t, if_neg c34t, if_pos c47f])
      · skip
        refine lv_aload_n hx hb d_M_register_37 rfl (lv_at hl 0 rfl) ?_
        refine gM_l Z hP d_M_register_38 ?_
        refine lv_goto (tgt := 71) hx hb d_M_register_41 (by decide) ?_
        exact rdI X hr hlk d_M_register_71 (by simp only [aReg, if_neg hv, if_neg c21t, if_pos c34f])
    · skip
      refine lv_aload_n hx hb d_M_register_24 rfl (lv_at hl 0 rfl) ?_
      refine gM_t Z hP d_M_register_25 ?_
      refine lv_goto (tgt := 71) hx hb d_M_register_28 (by decide) ?_
      exact rdI X hr hlk d_M_register_71 (by simp only [aReg, if_neg hv, if_pos c21f])
  · skip
    have hv := Decidable.not_not.mp (fun z => c6f (ite10.mpr z))
    refine lv_aload_n hx hb d_M_register_9 rfl (lv_at hl 0 rfl) ?_
    refine gM_registers Z hP d_M_register_10 ?_
    refine lv_iload_n hx hb d_M_register_13 rfl (lv_at hl 1 rfl) ?_
    refine lM_registers Z hP (in_of (b := 31) rfl hv) d_M_register_14 ?_
    refine lv_goto (tgt := 71) hx hb d_M_register_15 (by decide) ?_
    exact rdI X hr hlk d_M_register_71 (by simp only [aReg, if_pos hv])
set_option maxRecDepth 100000 in
theorem c_C_peek (l : Launch) (D : va_G) {ad am sm : Nat → Nat} {kc : Nat → ClassId} (g : Sg) {bu sh al ac : Int32} (k : Int32) : Met l y_C_peek (Cond.code y_C_peek b_C_peek 2 (some .int) :: gW) (rmD 1) (va_Pc [.ref (ad 0), .int k] (bS D (wCs ad kc am sm g bu sh al ac) (tysC kc))) (QcRead (aPeek k g)) 0 0 (fun _ => False) := by
  refine startM (by decide) (Nat.le_of_ble_eq_true rfl) ?_
  intro p e s m below meth c ls X hr hlk hnm hB hl
  replace X : CallFix p m c b_C_peek 2 s _ gW R_C := X
  obtain ⟨hx, hb, hml, hown, hts⟩ := id X
  obtain ⟨hP, hK, hN⟩ := hB
  have Z : cxC p m c _ _ s _ R_C D kc := ⟨X, hK, hN⟩
  replace hP : va_P D classes (wC ad kc am sm (g.1 0) (g.1 1) (g.1 2) (g.1 3) (g.1 4) (g.1 5) (g.1 6) (g.1 7) (g.1 8) (g.1 9) (g.1 10) (g.1 11) bu sh al ac (g.2 0) (g.2 1) (g.2 2) (g.2 3) (g.2 4) (g.2 5) (g.2 6) (g.2 7) (g.2 8)) s.heap := hP
  refine lv_iload_n hx hb d_C_peek_0 rfl (lv_at hl 1 rfl) ?_
  refine lv_i2l hx hb d_C_peek_1 rfl ?_
  refine lv_lconst (v := 0) hx hb d_C_peek_2 (by decide) ?_
  refine lv_ldc2 hx hb hown (hts _ q_146) d_C_peek_3 ?_
  refine callSt k_C_46 X (c_C_wn l k 0 1023 (by decide) (by decide)) rfl rfl ⟨Nat.le_of_ble_eq_true rfl, Nat.le_of_ble_eq_true rfl⟩ ⟨Nat.zero_le _, Nat.zero_le _⟩ hl.1 rfl rfl (Nat.le_of_ble_eq_true rfl) d_C_peek_6 ?_
  refine lv_if_eq (tgt := 21) hx hb d_C_peek_9 (by decide) (fun c9t => ?_) (fun c9f => ?_)
  · skip
    have hv := ite10.mp c9t
    refine lv_iconst (v := (-1)) hx hb d_C_peek_21 (by decide) ?_
    exact rdI X hr hlk d_C_peek_22 (if_neg hv).symm
  · skip
    have hv := Decidable.not_not.mp (fun z => c9f (ite10.mpr z))
    refine lv_aload_n hx hb d_C_peek_12 rfl (lv_at hl 0 rfl) ?_
    refine gC_memory Z hP d_C_peek_13 ?_
    refine lv_iload_n hx hb d_C_peek_16 rfl (lv_at hl 1 rfl) ?_
    refine lC_memory Z hP (in_of (b := 1023) rfl hv) d_C_peek_17 ?_
    refine lv_goto (tgt := 22) hx hb d_C_peek_18 (by decide) ?_
    exact rdI X hr hlk d_C_peek_22 (if_pos hv).symm
set_option maxRecDepth 100000 in
theorem c_M_peek (l : Launch) (D : va_G) {md : Nat → Nat} {kd : Nat → ClassId} (g : Sg) {rs af bs f1 f2 su sc : Int32} (k : Int32) : Met l y_M_peek (Cond.code y_M_peek b_M_peek 2 (some .int) :: gW) (rmD 1) (va_Pc [.ref (md 0), .int k] (bS D (wMs md kd g rs af bs f1 f2 su sc) (tysM kd))) (QcRead (aPeek k g)) 0 0 (fun _ => False) := by
  refine startM (by decide) (Nat.le_of_ble_eq_true rfl) ?_
  intro p e s m below meth c ls X hr hlk hnm hB hl
  replace X : CallFix p m c b_M_peek 2 s _ gW R_M := X
  obtain ⟨hx, hb, hml, hown, hts⟩ := id X
  obtain ⟨hP, hK, hN⟩ := hB
  have Z : cxM p m c _ _ s _ R_M D kd := ⟨X, hK, hN⟩
  replace hP : va_P D classes (wM md kd (g.1 0) (g.1 1) (g.1 2) (g.1 3) (g.1 4) (g.1 5) (g.1 6) (g.1 7) (g.1 8) (g.1 9) (g.1 10) (g.1 11) rs af bs f1 f2 su sc (g.2 0) (g.2 1) (g.2 2) (g.2 3) (g.2 4) (g.2 5) (g.2 6) (g.2 7) (g.2 8)) s.heap := hP
  refine lv_iload_n hx hb d_M_peek_0 rfl (lv_at hl 1 rfl) ?_
  refine lv_sipush (v := 1023) hx hb d_M_peek_1 (by decide) ?_
  refine callSt k_M_42 X (c_M_within l k 1023) rfl rfl ⟨Nat.le_of_ble_eq_true rfl, Nat.le_of_ble_eq_true rfl⟩ ⟨Nat.zero_le _, Nat.zero_le _⟩ hl.1 rfl rfl (Nat.le_of_ble_eq_true rfl) d_M_peek_4 ?_
  refine lv_if_eq (tgt := 19) hx hb d_M_peek_7 (by decide) (fun c7t => ?_) (fun c7f => ?_)
  · skip
    have hv := ite10.mp c7t
    refine lv_iconst (v := (-1)) hx hb d_M_peek_19 (by decide) ?_
    exact rdI X hr hlk d_M_peek_20 (if_neg hv).symm
  · skip
    have hv := Decidable.not_not.mp (fun z => c7f (ite10.mpr z))
    refine lv_aload_n hx hb d_M_peek_10 rfl (lv_at hl 0 rfl) ?_
    refine gM_memory Z hP d_M_peek_11 ?_
    refine lv_iload_n hx hb d_M_peek_14 rfl (lv_at hl 1 rfl) ?_
    refine lM_memory Z hP (in_of (b := 1023) rfl hv) d_M_peek_15 ?_
    refine lv_goto (tgt := 20) hx hb d_M_peek_16 (by decide) ?_
    exact rdI X hr hlk d_M_peek_20 (if_pos hv).symm
theorem t3_no {v : Int32} (h : 0 ≤ v ∧ v ≤ 3) (h0 : ¬ v = 0) (h1 : ¬ v = 1) (h2 : ¬ v = 2) (h3 : ¬ v = 3) : False := by
  obtain ⟨j, hj, rfl⟩ := nI_of2 (M := 3) (n := 3) (by decide) ((l32 _ _).mpr h.1) h.2
  have : j = 0 ∨ j = 1 ∨ j = 2 ∨ j = 3 := by omega
  rcases this with rfl | rfl | rfl | rfl
  · exact h0 rfl
  · exact h1 rfl
  · exact h2 rfl
  · exact h3 rfl
set_option maxRecDepth 100000 in
theorem c_C_task (l : Launch) (D : va_G) {ad am sm : Nat → Nat} {kc : Nat → ClassId} (g : Sg) {bu sh al ac : Int32} (k v : Int32) : Met l y_C_task (Cond.code y_C_task b_C_task 4 (some .int) :: gW) (rmD 2) (va_Pc [.ref (ad 0), .int k, .int v] (bS D (wCs ad kc am sm g bu sh al ac) (tysC kc))) (QcRead (aTask k v g)) 0 0 (fun _ => False) := by
  refine startM (by decide) (Nat.le_of_ble_eq_true rfl) ?_
  intro p e s m below meth c ls X hr hlk hnm hB hl
  replace X : CallFix p m c b_C_task 4 s _ gW R_C := X
  obtain ⟨hx, hb, hml, hown, hts⟩ := id X
  obtain ⟨hP, hK, hN⟩ := hB
  have Z : cxC p m c _ _ s _ R_C D kc := ⟨X, hK, hN⟩
  replace hP : va_P D classes (wC ad kc am sm (g.1 0) (g.1 1) (g.1 2) (g.1 3) (g.1 4) (g.1 5) (g.1 6) (g.1 7) (g.1 8) (g.1 9) (g.1 10) (g.1 11) bu sh al ac (g.2 0) (g.2 1) (g.2 2) (g.2 3) (g.2 4) (g.2 5) (g.2 6) (g.2 7) (g.2 8)) s.heap := hP
  refine lv_iload_n hx hb d_C_task_0 rfl (lv_at hl 1 rfl) ?_
  refine callSt k_C_64 X (c_C_isTask l k) rfl rfl ⟨Nat.le_of_ble_eq_true rfl, Nat.le_of_ble_eq_true rfl⟩ ⟨Nat.zero_le _, Nat.zero_le _⟩ hl.1 rfl rfl (Nat.le_of_ble_eq_true rfl) d_C_task_1 ?_
  refine lv_if_ne (tgt := 9) hx hb d_C_task_4 (by decide) (fun c4t => ?_) (fun c4f => ?_)
  · skip
    have hv := Decidable.not_not.mp (fun z => c4t (ite10.mpr z))
    refine lv_aload_n hx hb d_C_task_9 rfl (lv_at hl 0 rfl) ?_
    refine gC_strands Z hP d_C_task_10 ?_
    refine lv_iload_n hx hb d_C_task_13 rfl (lv_at hl 1 rfl) ?_
    refine lC_strands Z hP (in_of (b := 15) rfl hv) d_C_task_14 ?_
    refine lv_astore_n (lv' := [(3, _), (0, _), (1, _), (2, _)]) hx hb d_C_task_15 rfl hl (by decide) rfl (fun ls hl => ?_)
    refine lv_iload_n hx hb d_C_task_16 rfl (lv_at hl 3 rfl) ?_
    by_cases c17_0 : v = 0
    · refine lv_tableIn (off := 31) (tgt := 48) hx hb d_C_task_17 (by rw [c17_0]; decide) (by rw [c17_0]; decide) (by rw [c17_0]; rfl) (by decide) ?_
      refine lv_aload_n hx hb d_C_task_48 rfl (lv_at hl 0 rfl) ?_
      refine gS_place Z hP (vp_lt (in_of (b := 15) rfl hv)) d_C_task_49 ?_
      exact rdI X hr hlk d_C_task_52 (by simp only [aTask, if_pos (And.intro hv (show 0 ≤ v ∧ v ≤ 3 from by rw [c17_0]; decide)), if_pos c17_0])
    by_cases c17_1 : v = 1
    · refine lv_tableIn (off := 36) (tgt := 53) hx hb d_C_task_17 (by rw [c17_1]; decide) (by rw [c17_1]; decide) (by rw [c17_1]; rfl) (by decide) ?_
      refine lv_aload_n hx hb d_C_task_53 rfl (lv_at hl 0 rfl) ?_
      refine gS_change Z hP (vp_lt (in_of (b := 15) rfl hv)) d_C_task_54 ?_
      exact rdI X hr hlk d_C_task_57 (by simp only [aTask, if_pos (And.intro hv (show 0 ≤ v ∧ v ≤ 3 from by rw [c17_1]; decide)), if_neg c17_0, if_pos c17_1])
    by_cases c17_2 : v = 2
    · refine lv_tableIn (off := 41) (tgt := 58) hx hb d_C_task_17 (by rw [c17_2]; decide) (by rw [c17_2]; decide) (by rw [c17_2]; rfl) (by decide) ?_
      refine lv_aload_n hx hb d_C_task_58 rfl (lv_at hl 0 rfl) ?_
      refine gS_woken Z hP (vp_lt (in_of (b := 15) rfl hv)) d_C_task_59 ?_
      refine lv_if_eq (tgt := 69) hx hb d_C_task_62 (by decide) (fun c62t => ?_) (fun c62f => ?_)
      · skip
        refine lv_iconst (v := 0) hx hb d_C_task_69 (by decide) ?_
        exact rdI X hr hlk d_C_task_70 (by simp only [aTask, if_pos (And.intro hv (show 0 ≤ v ∧ v ≤ 3 from by rw [c17_2]; decide)), if_neg c17_0, if_neg c17_1, if_pos c17_2, if_pos c62t])
      · skip
        refine lv_iconst (v := 1) hx hb d_C_task_65 (by decide) ?_
        refine lv_goto (tgt := 70) hx hb d_C_task_66 (by decide) ?_
        exact rdI X hr hlk d_C_task_70 (by simp only [aTask, if_pos (And.intro hv (show 0 ≤ v ∧ v ≤ 3 from by rw [c17_2]; decide)), if_neg c17_0, if_neg c17_1, if_pos c17_2, if_neg c62f])
    by_cases c17_3 : v = 3
    · refine lv_tableIn (off := 54) (tgt := 71) hx hb d_C_task_17 (by rw [c17_3]; decide) (by rw [c17_3]; decide) (by rw [c17_3]; rfl) (by decide) ?_
      refine lv_aload_n hx hb d_C_task_71 rfl (lv_at hl 0 rfl) ?_
      refine gS_done Z hP (vp_lt (in_of (b := 15) rfl hv)) d_C_task_72 ?_
      exact rdI X hr hlk d_C_task_75 (by simp only [aTask, if_pos (And.intro hv (show 0 ≤ v ∧ v ≤ 3 from by rw [c17_3]; decide)), if_neg c17_0, if_neg c17_1, if_neg c17_2])
    refine lv_tableOut (tgt := 76) hx hb d_C_task_17 (sw_out 0 4 (fun k hk => by match k, hk with | 0, _ => exact c17_0 | 1, _ => exact c17_1 | 2, _ => exact c17_2 | 3, _ => exact c17_3)) (by decide) ?_
    refine lv_iconst (v := (-1)) hx hb d_C_task_76 (by decide) ?_
    exact rdI X hr hlk d_C_task_77 (if_neg (fun z => t3_no z.2 c17_0 c17_1 c17_2 c17_3)).symm
  · skip
    have hv := ite10.mp c4f
    refine lv_iconst (v := (-1)) hx hb d_C_task_7 (by decide) ?_
    exact rdI X hr hlk d_C_task_8 (if_neg (fun z => hv z.1)).symm
set_option maxRecDepth 100000 in
theorem c_M_task (l : Launch) (D : va_G) {md : Nat → Nat} {kd : Nat → ClassId} (g : Sg) {rs af bs f1 f2 su sc : Int32} (k v : Int32) : Met l y_M_task (Cond.code y_M_task b_M_task 3 (some .int) :: gW) (rmD 1) (va_Pc [.ref (md 0), .int k, .int v] (bS D (wMs md kd g rs af bs f1 f2 su sc) (tysM kd))) (QcRead (aTask k v g)) 0 0 (fun _ => False) := by
  refine startM (by decide) (Nat.le_of_ble_eq_true rfl) ?_
  intro p e s m below meth c ls X hr hlk hnm hB hl
  replace X : CallFix p m c b_M_task 3 s _ gW R_M := X
  obtain ⟨hx, hb, hml, hown, hts⟩ := id X
  obtain ⟨hP, hK, hN⟩ := hB
  have Z : cxM p m c _ _ s _ R_M D kd := ⟨X, hK, hN⟩
  replace hP : va_P D classes (wM md kd (g.1 0) (g.1 1) (g.1 2) (g.1 3) (g.1 4) (g.1 5) (g.1 6) (g.1 7) (g.1 8) (g.1 9) (g.1 10) (g.1 11) rs af bs f1 f2 su sc (g.2 0) (g.2 1) (g.2 2) (g.2 3) (g.2 4) (g.2 5) (g.2 6) (g.2 7) (g.2 8)) s.heap := hP
  refine lv_iload_n hx hb d_M_task_0 rfl (lv_at hl 1 rfl) ?_
  refine lv_bipush (v := 15) hx hb d_M_task_1 (by decide) ?_
  refine callSt k_M_42 X (c_M_within l k 15) rfl rfl ⟨Nat.le_of_ble_eq_true rfl, Nat.le_of_ble_eq_true rfl⟩ ⟨Nat.zero_le _, Nat.zero_le _⟩ hl.1 rfl rfl (Nat.le_of_ble_eq_true rfl) d_M_task_3 ?_
  refine lv_if_eq (tgt := 17) hx hb d_M_task_6 (by decide) (fun c6t => ?_) (fun c6f => ?_)
  · skip
    have hv := ite10.mp c6t
    refine lv_iconst (v := (-1)) hx hb d_M_task_17 (by decide) ?_
    exact rdI X hr hlk d_M_task_18 (if_neg (fun z => hv z.1)).symm
  · skip
    have hv := Decidable.not_not.mp (fun z => c6f (ite10.mpr z))
    refine lv_iload_n hx hb d_M_task_9 rfl (lv_at hl 2 rfl) ?_
    refine lv_iconst (v := 3) hx hb d_M_task_10 (by decide) ?_
    refine callSt k_M_42 X (c_M_within l v 3) rfl rfl ⟨Nat.le_of_ble_eq_true rfl, Nat.le_of_ble_eq_true rfl⟩ ⟨Nat.zero_le _, Nat.zero_le _⟩ hl.1 rfl rfl (Nat.le_of_ble_eq_true rfl) d_M_task_11 ?_
    refine lv_if_ne (tgt := 19) hx hb d_M_task_14 (by decide) (fun c14t => ?_) (fun c14f => ?_)
    · skip
      have hv2 := Decidable.not_not.mp (fun z => c14t (ite10.mpr z))
      refine lv_iload_n hx hb d_M_task_19 rfl (lv_at hl 2 rfl) ?_
      refine lv_if_ne (tgt := 32) hx hb d_M_task_20 (by decide) (fun c20t => ?_) (fun c20f => ?_)
      · skip
        refine lv_iload_n hx hb d_M_task_32 rfl (lv_at hl 2 rfl) ?_
        refine lv_iconst (v := 1) hx hb d_M_task_33 (by decide) ?_
        refine lv_icmp_ne (tgt := 46) hx hb d_M_task_34 (by decide) (fun c34t => ?_) (fun c34f => ?_)
        · skip
          refine lv_iload_n hx hb d_M_task_46 rfl (lv_at hl 2 rfl) ?_
          refine lv_iconst (v := 2) hx hb d_M_task_47 (by decide) ?_
          refine lv_icmp_ne (tgt := 68) hx hb d_M_task_48 (by decide) (fun c48t => ?_) (fun c48f => ?_)
          · skip
            refine lv_aload_n hx hb d_M_task_68 rfl (lv_at hl 0 rfl) ?_
            refine gM_done Z hP d_M_task_69 ?_
            refine lv_iload_n hx hb d_M_task_72 rfl (lv_at hl 1 rfl) ?_
            refine lM_done Z hP (in_of (b := 15) rfl hv) d_M_task_73 ?_
            exact rdI X hr hlk d_M_task_74 (by simp only [aTask, if_pos (And.intro hv hv2), if_neg c20t, if_neg c34t, if_neg c48t])
          · skip
            refine lv_aload_n hx hb d_M_task_51 rfl (lv_at hl 0 rfl) ?_
            refine gM_lines Z hP d_M_task_52 ?_
            refine lv_iload_n hx hb d_M_task_55 rfl (lv_at hl 1 rfl) ?_
            refine lM_lines Z hP (in_of (b := 15) rfl hv) d_M_task_56 ?_
            refine lv_if_eq (tgt := 64) hx hb d_M_task_57 (by decide) (fun c57t => ?_) (fun c57f => ?_)
            · skip
              refine lv_iconst (v := 0) hx hb d_M_task_64 (by decide) ?_
              refine lv_goto (tgt := 74) hx hb d_M_task_65 (by decide) ?_
              exact rdI X hr hlk d_M_task_74 (by simp only [aTask, if_pos (And.intro hv hv2), if_neg c20t, if_neg c34t, if_pos c48f, if_pos c57t])
            · skip
              refine lv_iconst (v := 1) hx hb d_M_task_60 (by decide) ?_
              refine lv_goto (tgt := 74) hx hb d_M_task_61 (by decide) ?_
              exact rdI X hr hlk d_M_task_74 (by simp only [aTask, if_pos (And.intro hv hv2), if_neg c20t, if_neg c34t, if_pos c48f, if_neg c57f])
        · skip
          refine lv_aload_n hx hb d_M_task_37 rfl (lv_at hl 0 rfl) ?_
          refine gM_changes Z hP d_M_task_38 ?_
          refine lv_iload_n hx hb d_M_task_41 rfl (lv_at hl 1 rfl) ?_
          refine lM_changes Z hP (in_of (b := 15) rfl hv) d_M_task_42 ?_
          refine lv_goto (tgt := 74) hx hb d_M_task_43 (by decide) ?_
          exact rdI X hr hlk d_M_task_74 (by simp only [aTask, if_pos (And.intro hv hv2), if_neg c20t, if_pos c34f])
      · skip
        refine lv_aload_n hx hb d_M_task_23 rfl (lv_at hl 0 rfl) ?_
        refine gM_places Z hP d_M_task_24 ?_
        refine lv_iload_n hx hb d_M_task_27 rfl (lv_at hl 1 rfl) ?_
        refine lM_places Z hP (in_of (b := 15) rfl hv) d_M_task_28 ?_
        refine lv_goto (tgt := 74) hx hb d_M_task_29 (by decide) ?_
        exact rdI X hr hlk d_M_task_74 (by simp only [aTask, if_pos (And.intro hv hv2), if_pos c20f])
    · skip
      have hv2 := ite10.mp c14f
      refine lv_iconst (v := (-1)) hx hb d_M_task_17 (by decide) ?_
      exact rdI X hr hlk d_M_task_18 (if_neg (fun z => hv2 z.2)).symm
set_option maxRecDepth 100000 in
theorem c_C_now (l : Launch) (D : va_G) {ad am sm : Nat → Nat} {kc : Nat → ClassId} (g : Sg) {bu sh al ac : Int32} : Met l y_C_now (Cond.code y_C_now b_C_now 1 (some .int) :: gW) (rmD 0) (va_Pc [.ref (ad 0)] (bS D (wCs ad kc am sm g bu sh al ac) (tysC kc))) (QcRead (g.1 5)) 0 0 (fun _ => False) := by
  refine startM (by decide) (Nat.le_of_ble_eq_true rfl) ?_
  intro p e s m below meth c ls X hr hlk hnm hB hl
  replace X : CallFix p m c b_C_now 1 s _ gW R_C := X
  obtain ⟨hx, hb, hml, hown, hts⟩ := id X
  obtain ⟨hP, hK, hN⟩ := hB
  have Z : cxC p m c _ _ s _ R_C D kc := ⟨X, hK, hN⟩
  replace hP : va_P D classes (wC ad kc am sm (g.1 0) (g.1 1) (g.1 2) (g.1 3) (g.1 4) (g.1 5) (g.1 6) (g.1 7) (g.1 8) (g.1 9) (g.1 10) (g.1 11) bu sh al ac (g.2 0) (g.2 1) (g.2 2) (g.2 3) (g.2 4) (g.2 5) (g.2 6) (g.2 7) (g.2 8)) s.heap := hP
  refine lv_aload_n hx hb d_C_now_0 rfl (lv_at hl 0 rfl) ?_
  refine gC_now Z hP d_C_now_1 ?_
  exact rdI X hr hlk d_C_now_4 rfl
set_option maxRecDepth 100000 in
theorem c_M_now (l : Launch) (D : va_G) {md : Nat → Nat} {kd : Nat → ClassId} (g : Sg) {rs af bs f1 f2 su sc : Int32} : Met l y_M_now (Cond.code y_M_now b_M_now 1 (some .int) :: gW) (rmD 0) (va_Pc [.ref (md 0)] (bS D (wMs md kd g rs af bs f1 f2 su sc) (tysM kd))) (QcRead (g.1 5)) 0 0 (fun _ => False) := by
  refine startM (by decide) (Nat.le_of_ble_eq_true rfl) ?_
  intro p e s m below meth c ls X hr hlk hnm hB hl
  replace X : CallFix p m c b_M_now 1 s _ gW R_M := X
  obtain ⟨hx, hb, hml, hown, hts⟩ := id X
  obtain ⟨hP, hK, hN⟩ := hB
  have Z : cxM p m c _ _ s _ R_M D kd := ⟨X, hK, hN⟩
  replace hP : va_P D classes (wM md kd (g.1 0) (g.1 1) (g.1 2) (g.1 3) (g.1 4) (g.1 5) (g.1 6) (g.1 7) (g.1 8) (g.1 9) (g.1 10) (g.1 11) rs af bs f1 f2 su sc (g.2 0) (g.2 1) (g.2 2) (g.2 3) (g.2 4) (g.2 5) (g.2 6) (g.2 7) (g.2 8)) s.heap := hP
  refine lv_aload_n hx hb d_M_now_0 rfl (lv_at hl 0 rfl) ?_
  refine gM_hand Z hP d_M_now_1 ?_
  exact rdI X hr hlk d_M_now_4 rfl
set_option maxRecDepth 100000 in
theorem c_C_out (l : Launch) (D : va_G) {ad am sm : Nat → Nat} {kc : Nat → ClassId} (g : Sg) {bu sh al ac : Int32} (ho : 0 ≤ g.1 10) (k : Int32) : Met l y_C_out (Cond.code y_C_out b_C_out 2 (some .int) :: gW) (rmD 1) (va_Pc [.ref (ad 0), .int k] (bS D (wCs ad kc am sm g bu sh al ac) (tysC kc))) (QcRead (aOut k g)) 0 0 (fun _ => False) := by
  refine startM (by decide) (Nat.le_of_ble_eq_true rfl) ?_
  intro p e s m below meth c ls X hr hlk hnm hB hl
  replace X : CallFix p m c b_C_out 2 s _ gW R_C := X
  obtain ⟨hx, hb, hml, hown, hts⟩ := id X
  obtain ⟨hP, hK, hN⟩ := hB
  have Z : cxC p m c _ _ s _ R_C D kc := ⟨X, hK, hN⟩
  replace hP : va_P D classes (wC ad kc am sm (g.1 0) (g.1 1) (g.1 2) (g.1 3) (g.1 4) (g.1 5) (g.1 6) (g.1 7) (g.1 8) (g.1 9) (g.1 10) (g.1 11) bu sh al ac (g.2 0) (g.2 1) (g.2 2) (g.2 3) (g.2 4) (g.2 5) (g.2 6) (g.2 7) (g.2 8)) s.heap := hP
  refine lv_iload_n hx hb d_C_out_0 rfl (lv_at hl 1 rfl) ?_
  refine lv_i2l hx hb d_C_out_1 rfl ?_
  refine lv_lconst (v := 0) hx hb d_C_out_2 (by decide) ?_
  refine lv_sipush (v := 500) hx hb d_C_out_3 (by decide) ?_
  refine lv_aload_n hx hb d_C_out_6 rfl (lv_at hl 0 rfl) ?_
  refine gC_out Z hP d_C_out_7 ?_
  refine va_mmin hx hb (by rw [hl.1, hml]) hown (hts _ q_260) (hts _ q_261) (hts _ q_5) (hts _ q_262) (Nat.le_of_ble_eq_true rfl) (Nat.le_of_ble_eq_true rfl) (Nat.zero_le _) (Nat.zero_le _) d_C_out_10 ?_
  refine lv_iconst (v := 1) hx hb d_C_out_13 (by decide) ?_
  refine lv_isub hx hb d_C_out_14 ?_
  refine lv_i2l hx hb d_C_out_15 rfl ?_
  refine callSt k_C_46 X (c_C_wn l k 0 ((if g.1 10 < 500 then g.1 10 else 500) - 1) (by decide) rfl) rfl rfl ⟨Nat.le_of_ble_eq_true rfl, Nat.le_of_ble_eq_true rfl⟩ ⟨Nat.zero_le _, Nat.zero_le _⟩ hl.1 rfl rfl (Nat.le_of_ble_eq_true rfl) d_C_out_16 ?_
  refine lv_if_eq (tgt := 31) hx hb d_C_out_19 (by decide) (fun c19t => ?_) (fun c19f => ?_)
  · skip
    have hv := ite10.mp c19t
    rw [out_iff ho] at hv
    refine lv_iconst (v := (-1)) hx hb d_C_out_31 (by decide) ?_
    exact rdI X hr hlk d_C_out_32 (if_neg hv).symm
  · skip
    have hv := Decidable.not_not.mp (fun z => c19f (ite10.mpr z))
    rw [out_iff ho] at hv
    refine lv_aload_n hx hb d_C_out_22 rfl (lv_at hl 0 rfl) ?_
    refine gC_outs Z hP d_C_out_23 ?_
    refine lv_iload_n hx hb d_C_out_26 rfl (lv_at hl 1 rfl) ?_
    refine lC_outs Z hP (in_lt (b := 500) rfl hv.1 ((l32' _ _).mpr hv.2.2)) d_C_out_27 ?_
    refine lv_goto (tgt := 32) hx hb d_C_out_28 (by decide) ?_
    exact rdI X hr hlk d_C_out_32 (if_pos hv).symm
set_option maxRecDepth 100000 in
theorem c_M_out (l : Launch) (D : va_G) {md : Nat → Nat} {kd : Nat → ClassId} (g : Sg) {rs af bs f1 f2 su sc : Int32} (k : Int32) : Met l y_M_out (Cond.code y_M_out b_M_out 2 (some .int) :: gW) (rmD 0) (va_Pc [.ref (md 0), .int k] (bS D (wMs md kd g rs af bs f1 f2 su sc) (tysM kd))) (QcRead (aOut k g)) 0 0 (fun _ => False) := by
  refine startM (by decide) (Nat.le_of_ble_eq_true rfl) ?_
  intro p e s m below meth c ls X hr hlk hnm hB hl
  replace X : CallFix p m c b_M_out 2 s _ gW R_M := X
  obtain ⟨hx, hb, hml, hown, hts⟩ := id X
  obtain ⟨hP, hK, hN⟩ := hB
  have Z : cxM p m c _ _ s _ R_M D kd := ⟨X, hK, hN⟩
  replace hP : va_P D classes (wM md kd (g.1 0) (g.1 1) (g.1 2) (g.1 3) (g.1 4) (g.1 5) (g.1 6) (g.1 7) (g.1 8) (g.1 9) (g.1 10) (g.1 11) rs af bs f1 f2 su sc (g.2 0) (g.2 1) (g.2 2) (g.2 3) (g.2 4) (g.2 5) (g.2 6) (g.2 7) (g.2 8)) s.heap := hP
  refine lv_iload_n hx hb d_M_out_0 rfl (lv_at hl 1 rfl) ?_
  refine lv_if_lt (tgt := 28) hx hb d_M_out_1 (by decide) (fun c1t => ?_) (fun c1f => ?_)
  · skip
    refine lv_iconst (v := (-1)) hx hb d_M_out_28 (by decide) ?_
    exact rdI X hr hlk d_M_out_29 (if_neg (fun z => (l32 _ _).mpr z.1 c1t)).symm
  · skip
    refine lv_iload_n hx hb d_M_out_4 rfl (lv_at hl 1 rfl) ?_
    refine lv_aload_n hx hb d_M_out_5 rfl (lv_at hl 0 rfl) ?_
    refine gM_outs Z hP d_M_out_6 ?_
    refine lv_icmp_ge (tgt := 28) hx hb d_M_out_9 (by decide) (fun c9t => ?_) (fun c9f => ?_)
    · skip
      refine lv_iconst (v := (-1)) hx hb d_M_out_28 (by decide) ?_
      exact rdI X hr hlk d_M_out_29 (if_neg (fun z => (l32' _ _).mpr z.2.1 c9t)).symm
    · skip
      refine lv_iload_n hx hb d_M_out_12 rfl (lv_at hl 1 rfl) ?_
      refine lv_sipush (v := 500) hx hb d_M_out_13 (by decide) ?_
      refine lv_icmp_ge (tgt := 28) hx hb d_M_out_16 (by decide) (fun c16t => ?_) (fun c16f => ?_)
      · skip
        refine lv_iconst (v := (-1)) hx hb d_M_out_28 (by decide) ?_
        exact rdI X hr hlk d_M_out_29 (if_neg (fun z => (l32' _ _).mpr z.2.2 c16t)).symm
      · skip
        refine lv_aload_n hx hb d_M_out_19 rfl (lv_at hl 0 rfl) ?_
        refine gM_out Z hP d_M_out_20 ?_
        refine lv_iload_n hx hb d_M_out_23 rfl (lv_at hl 1 rfl) ?_
        refine lM_out Z hP (in_lt (b := 500) rfl ((l32 _ _).mp c1f) c16f) d_M_out_24 ?_
        refine lv_goto (tgt := 29) hx hb d_M_out_25 (by decide) ?_
        exact rdI X hr hlk d_M_out_29 (if_pos ⟨(l32 _ _).mp c1f, (l32' _ _).mp c9f, (l32' _ _).mp c16f⟩).symm
set_option maxRecDepth 100000 in
theorem c_C_count (l : Launch) (D : va_G) {ad am sm : Nat → Nat} {kc : Nat → ClassId} (g : Sg) {bu sh al ac : Int32} (k : Int32) : Met l y_C_count (Cond.code y_C_count b_C_count 2 (some .int) :: gW) (rmD 0) (va_Pc [.ref (ad 0), .int k] (bS D (wCs ad kc am sm g bu sh al ac) (tysC kc))) (QcRead (aCnt k g)) 0 0 (fun _ => False) := by
  refine startM (by decide) (Nat.le_of_ble_eq_true rfl) ?_
  intro p e s m below meth c ls X hr hlk hnm hB hl
  replace X : CallFix p m c b_C_count 2 s _ gW R_C := X
  obtain ⟨hx, hb, hml, hown, hts⟩ := id X
  obtain ⟨hP, hK, hN⟩ := hB
  have Z : cxC p m c _ _ s _ R_C D kc := ⟨X, hK, hN⟩
  replace hP : va_P D classes (wC ad kc am sm (g.1 0) (g.1 1) (g.1 2) (g.1 3) (g.1 4) (g.1 5) (g.1 6) (g.1 7) (g.1 8) (g.1 9) (g.1 10) (g.1 11) bu sh al ac (g.2 0) (g.2 1) (g.2 2) (g.2 3) (g.2 4) (g.2 5) (g.2 6) (g.2 7) (g.2 8)) s.heap := hP
  refine lv_iload_n hx hb d_C_count_0 rfl (lv_at hl 1 rfl) ?_
  by_cases c1_0 : k = 0
  · refine lv_tableIn (off := 31) (tgt := 32) hx hb d_C_count_1 (by rw [c1_0]; decide) (by rw [c1_0]; decide) (by rw [c1_0]; rfl) (by decide) ?_
    refine lv_aload_n hx hb d_C_count_32 rfl (lv_at hl 0 rfl) ?_
    refine gC_cycle Z hP d_C_count_33 ?_
    exact rdI X hr hlk d_C_count_36 (by subst c1_0; rfl)
  by_cases c1_1 : k = 1
  · refine lv_tableIn (off := 36) (tgt := 37) hx hb d_C_count_1 (by rw [c1_1]; decide) (by rw [c1_1]; decide) (by rw [c1_1]; rfl) (by decide) ?_
    refine lv_aload_n hx hb d_C_count_37 rfl (lv_at hl 0 rfl) ?_
    refine gC_waited Z hP d_C_count_38 ?_
    exact rdI X hr hlk d_C_count_41 (by subst c1_1; rfl)
  by_cases c1_2 : k = 2
  · refine lv_tableIn (off := 41) (tgt := 42) hx hb d_C_count_1 (by rw [c1_2]; decide) (by rw [c1_2]; decide) (by rw [c1_2]; rfl) (by decide) ?_
    refine lv_aload_n hx hb d_C_count_42 rfl (lv_at hl 0 rfl) ?_
    refine gC_out Z hP d_C_count_43 ?_
    exact rdI X hr hlk d_C_count_46 (by subst c1_2; rfl)
  by_cases c1_3 : k = 3
  · refine lv_tableIn (off := 46) (tgt := 47) hx hb d_C_count_1 (by rw [c1_3]; decide) (by rw [c1_3]; decide) (by rw [c1_3]; rfl) (by decide) ?_
    refine lv_aload_n hx hb d_C_count_47 rfl (lv_at hl 0 rfl) ?_
    refine gC_switched Z hP d_C_count_48 ?_
    exact rdI X hr hlk d_C_count_51 (by subst c1_3; rfl)
  refine lv_tableOut (tgt := 52) hx hb d_C_count_1 (sw_out 0 4 (fun k hk => by match k, hk with | 0, _ => exact c1_0 | 1, _ => exact c1_1 | 2, _ => exact c1_2 | 3, _ => exact c1_3)) (by decide) ?_
  refine lv_iconst (v := (-1)) hx hb d_C_count_52 (by decide) ?_
  exact rdI X hr hlk d_C_count_53 (by simp only [aCnt, if_neg c1_0, if_neg c1_1, if_neg c1_2, if_neg c1_3])
set_option maxRecDepth 100000 in
theorem c_M_count (l : Launch) (D : va_G) {md : Nat → Nat} {kd : Nat → ClassId} (g : Sg) {rs af bs f1 f2 su sc : Int32} (k : Int32) : Met l y_M_count (Cond.code y_M_count b_M_count 2 (some .int) :: gW) (rmD 0) (va_Pc [.ref (md 0), .int k] (bS D (wMs md kd g rs af bs f1 f2 su sc) (tysM kd))) (QcRead (aCnt k g)) 0 0 (fun _ => False) := by
  refine startM (by decide) (Nat.le_of_ble_eq_true rfl) ?_
  intro p e s m below meth c ls X hr hlk hnm hB hl
  replace X : CallFix p m c b_M_count 2 s _ gW R_M := X
  obtain ⟨hx, hb, hml, hown, hts⟩ := id X
  obtain ⟨hP, hK, hN⟩ := hB
  have Z : cxM p m c _ _ s _ R_M D kd := ⟨X, hK, hN⟩
  replace hP : va_P D classes (wM md kd (g.1 0) (g.1 1) (g.1 2) (g.1 3) (g.1 4) (g.1 5) (g.1 6) (g.1 7) (g.1 8) (g.1 9) (g.1 10) (g.1 11) rs af bs f1 f2 su sc (g.2 0) (g.2 1) (g.2 2) (g.2 3) (g.2 4) (g.2 5) (g.2 6) (g.2 7) (g.2 8)) s.heap := hP
  refine lv_iload_n hx hb d_M_count_0 rfl (lv_at hl 1 rfl) ?_
  by_cases c1_0 : k = 0
  · refine lv_tableIn (off := 31) (tgt := 32) hx hb d_M_count_1 (by rw [c1_0]; decide) (by rw [c1_0]; decide) (by rw [c1_0]; rfl) (by decide) ?_
    refine lv_aload_n hx hb d_M_count_32 rfl (lv_at hl 0 rfl) ?_
    refine gM_cycles Z hP d_M_count_33 ?_
    exact rdI X hr hlk d_M_count_36 (by subst c1_0; rfl)
  by_cases c1_1 : k = 1
  · refine lv_tableIn (off := 36) (tgt := 37) hx hb d_M_count_1 (by rw [c1_1]; decide) (by rw [c1_1]; decide) (by rw [c1_1]; rfl) (by decide) ?_
    refine lv_aload_n hx hb d_M_count_37 rfl (lv_at hl 0 rfl) ?_
    refine gM_waited Z hP d_M_count_38 ?_
    exact rdI X hr hlk d_M_count_41 (by subst c1_1; rfl)
  by_cases c1_2 : k = 2
  · refine lv_tableIn (off := 41) (tgt := 42) hx hb d_M_count_1 (by rw [c1_2]; decide) (by rw [c1_2]; decide) (by rw [c1_2]; rfl) (by decide) ?_
    refine lv_aload_n hx hb d_M_count_42 rfl (lv_at hl 0 rfl) ?_
    refine gM_outs Z hP d_M_count_43 ?_
    exact rdI X hr hlk d_M_count_46 (by subst c1_2; rfl)
  by_cases c1_3 : k = 3
  · refine lv_tableIn (off := 46) (tgt := 47) hx hb d_M_count_1 (by rw [c1_3]; decide) (by rw [c1_3]; decide) (by rw [c1_3]; rfl) (by decide) ?_
    refine lv_aload_n hx hb d_M_count_47 rfl (lv_at hl 0 rfl) ?_
    refine gM_switched Z hP d_M_count_48 ?_
    exact rdI X hr hlk d_M_count_51 (by subst c1_3; rfl)
  refine lv_tableOut (tgt := 52) hx hb d_M_count_1 (sw_out 0 4 (fun k hk => by match k, hk with | 0, _ => exact c1_0 | 1, _ => exact c1_1 | 2, _ => exact c1_2 | 3, _ => exact c1_3)) (by decide) ?_
  refine lv_iconst (v := (-1)) hx hb d_M_count_52 (by decide) ?_
  exact rdI X hr hlk d_M_count_53 (by simp only [aCnt, if_neg c1_0, if_neg c1_1, if_neg c1_2, if_neg c1_3])
end
section
/-- the state at the start -/
def g00 : Sg := mkS 0 0 0 0 0 0 0 0 (-100) 0 0 0 (fun _ => 0) (fun _ => 0) (fun _ => 0) (fun _ => 0) (fun _ => 0) (fun _ => 0) (fun _ => 0) (fun _ => 0) (upd (fun _ => 0) 0 1)
theorem Inv.zero : Inv 0 g00 := by
  refine ⟨u16_0, u16_0, Or.inl rfl, u16_0, u16_0, vp_in_nI (n := 0) (by decide) (by decide), Or.inl rfl, ⟨0, Nat.le_refl 0, rfl⟩, fun _ => u16_0, fun _ => u16_0, fun _ => u16_0, fun _ => u10_0, fun _ => u10_0, upd_all (fun _ => Or.inl rfl) (Or.inr rfl), (upd_at : upd (fun _ => 0) 0 1 0 = 1)⟩
def qN : Array Value → State → Outcome → State → Prop := fun _ st o t => o = .returned none ∧ t.heap = st.heap
def bN (D : va_G) (sz : Nat) (ws : va_W) (U : State) : Prop := U.heap.size = sz ∧ va_P D classes ws U.heap ∧ va_K D classes [] U ∧ nW U
theorem bN.blind {D : va_G} {sz : Nat} {ws : va_W} {av : List Value} : FrameBlind (va_Pc av (bN D sz ws)) := fun a U g mk q => ⟨q.1, q.2.1, q.2.2.1, va_K.moved (u := U) (U := U.calling g mk a) (Vm.Alike.refl U.vm) q.2.2.2.1, nW.same (s := U) (U := U.calling g mk a) rfl q.2.2.2.2⟩
theorem bN.at {D : va_G} {ws : va_W} {s U : State} {H : Heap} (hP : va_P D classes ws H) (hK : va_K D classes [] s) (hN : nW s) (hU : U.heap = H) (hW : s.WarmedH U.vm) : bN D H.size ws U := ⟨by rw [hU], by rw [hU]; exact hP, va_K.moved hW.alike hK, hN.warm hW⟩
theorem ok1h {A : Nat → Prop} {h : Nat} {e : va_E} (hA : A h) : va_D A [(h, e)] := (ok1 (q := h) (e := e)).weaken (fun _ _ _ (z : _ = h) => by rw [z]; exact hA)
theorem arrV_cg {c n : Nat} {f g : Nat → Value} (h : ∀ j, j < n → f j = g j) : arrV c n f = arrV c n g := by
  unfold arrV
  congr 1
  congr 1
  funext j
  exact h j.1 j.2
set_option maxRecDepth 100000 in
theorem c_K_init (l : Launch) (q : Nat) : Met l y_K_init (Cond.code y_K_init b_K_init 1 none :: gW) (rmD 1) (va_Pc [.ref q] (fun _ => True)) qN 0 0 (fun _ => False) := by
  refine startM (by decide) (Nat.le_of_ble_eq_true rfl) ?_
  intro p e s m below meth c ls X hr hlk hnm hB hl
  replace X : CallFix p m c b_K_init 1 s _ gW R_K := X
  obtain ⟨hx, hb, hml, hown, hts⟩ := id X
  refine lv_aload_n hx hb d_K_init_0 rfl (lv_at hl 0 rfl) ?_
  refine W.objInit hx hb hown (hts _ q_22) (hts _ q_12) (hts _ q_13) rfl (by rw [hml]; exact hl.1) rfl d_K_init_1 (Nat.le_of_ble_eq_true rfl) (Nat.le_of_ble_eq_true rfl) ?_
  refine W.eq (g2 := F0 m 4 ls []) rfl ?_
  exact W.vret hx hb hr (fun t ht _ => ⟨rfl, ht⟩) (fun _ h => by cases h) d_K_init_4 hlk
set_option maxRecDepth 100000 in
theorem c_S_init (l : Launch) (q : Nat) : Met l y_S_init (Cond.code y_S_init b_S_init 1 none :: gW) (rmD 1) (va_Pc [.ref q] (fun _ => True)) qN 0 0 (fun _ => False) := by
  refine startM (by decide) (Nat.le_of_ble_eq_true rfl) ?_
  intro p e s m below meth c ls X hr hlk hnm hB hl
  replace X : CallFix p m c b_S_init 1 s _ gW R_S := X
  obtain ⟨hx, hb, hml, hown, hts⟩ := id X
  refine lv_aload_n hx hb d_S_init_0 rfl (lv_at hl 0 rfl) ?_
  refine W.objInit hx hb hown (hts _ q_61) (hts _ q_12) (hts _ q_13) rfl (by rw [hml]; exact hl.1) rfl d_S_init_1 (Nat.le_of_ble_eq_true rfl) (Nat.le_of_ble_eq_true rfl) ?_
  refine W.eq (g2 := F0 m 4 ls []) rfl ?_
  exact W.vret hx hb hr (fun t ht _ => ⟨rfl, ht⟩) (fun _ h => by cases h) d_S_init_4 hlk
section CI
variable {p : Program} {l : Launch} {e : Env} {R : Room} {s : State} {m : MethodId} {args : Array Value} {below : List Frame} {meth : Method} {c : Code} {H : Heap} {locs : List Loc} {cells slots : Nat} {Q : State → Prop} {cc : ByteArray} {nL pc q : Nat} {own : String} {ls : Array Slot} {rest : List Value}
/-- the constructor of a nest mate that does nothing -/
theorem callI0 {y : MethodName} {b : ByteArray} {idx : Nat} {host : String} (X : CallFix p m c cc nL s args gW own) (hM : Met l y (Cond.code y b 1 none :: gW) (rmD 1) (va_Pc [.ref q] (fun _ => True)) qN 0 0 (fun _ => False)) (hN : va_Nw (.methodLinkNest own idx y host) s) (h1 : Cond.initialized y.cls ∈ gW) (h2 : Cond.instanceMethod y ∈ gW) (h3 : Cond.code y b 1 none ∈ gW) (hy : y.name = "<init>")
    (hd1 : y.cls ≠ "java/lang/invoke/MethodHandle" ∧ y.cls ≠ "java/lang/invoke/VarHandle" ∧ (parseMethodDescriptor y.desc).map (fun d => d.parameters.length) = some 0) (hR : (rmD 1).frames + 1 ≤ R.frames ∧ 8 + (1 + 11) + (rmD 1).locals ≤ R.locals) (hf : cells ≤ R.cells ∧ slots ≤ R.slots) (hsz : ls.size = nL) (hW : (rest.map fun v => v.category).sum ≤ 8) (hd : decode cc pc = .ok (.invokespecial idx, 3))
    (kk : W p l e R s m args below meth c H locs cells slots Q (F0 m (pc + 3) ls rest)) : W p l e R s m args below meth c H locs cells slots Q (F0 m pc ls (.ref q :: rest)) := by
  have hr := va_runIN (g := F0 m pc ls (.ref q :: rest)) (As := []) (rest := rest) (H := H) (locs := locs) (cells := cells) (slots := slots) (e := e) (R := R) (below := below) (meth := meth) X hM ⟨va_cnB 0 X.2.2.2.2 (gW_call (ws := []) h3 (fun _ h => by cases h)) rfl rfl rfl hN (X.2.2.2.2 _ h1) hd1 hR, hy, X.2.2.2.2 _ h2⟩ ⟨fun _ _ _ _ z => z, fun U _ _ => ⟨rfl, trivial⟩⟩ rfl rfl hsz rfl (lv_room hW) hd hf
  intro T hT X1
  obtain ⟨v, st₀, t, T', L, h0, X', hL, e1, e2, ⟨hv, hh⟩, st⟩ := hr T hT X1
  cases hv
  obtain ⟨t2, a1, b1⟩ := kk T' (by rw [e1, hh, h0]) (Stand.forget X' (fun q h => (hL q h).elim))
  exact ⟨t2, st t2 a1, b1⟩
end CI
def dM : List Value := [.null, .null, .null, .null, .int 0, .int 0, .int 0, .int 0, .int 0, .null, .null, .null, .null, .int 0, .int 0, .int 0, .int 0, .int 0, .int 0, .int 0, .null, .int 0, .int 0, .int 0, .int 0, .int 0, .int 0, .int 0]
set_option maxHeartbeats 4000000 in
set_option maxRecDepth 100000 in
theorem c_M_init (l : Launch) (D : va_G) (h sz : Nat) : Met l y_M_init (Cond.code y_M_init b_M_init 1 none :: gW) ({ frames := 1, cells := 9, slots := 2900, locals := 12 }) (va_Pc [.ref h] (bN D sz [(h, .inr (3, dM))])) (va_Qv (fun _ : Unit => True) (fun _ t => ∃ (md : Nat → Nat) (kd : Nat → ClassId), md 0 = h ∧ va_P D classes (wMs md kd g00 0 0 0 0 0 0 0) t.heap ∧ va_K D classes (tysM kd) t ∧ okM (fun q => q = h ∨ sz ≤ q) md) (fun q => q = h ∨ sz ≤ q)) 9 2900 (fun q => q = h ∨ sz ≤ q) := by
  refine startM (by decide) (Nat.le_of_ble_eq_true rfl) ?_
  intro p e s m below meth c ls X hr hlk hnm hB hl
  replace X : CallFix p m c b_M_init 1 s _ gW R_M := X
  obtain ⟨hx, hb, hml, hown, hts⟩ := id X
  obtain ⟨hsz, hP, hK, hN⟩ := hB
  subst hsz
  have hD : va_D (fun q => q = h ∨ s.heap.size ≤ q) [(h, .inr (3, dM))] := ok1h (Or.inl rfl)
  generalize hAe : (fun q => q = h ∨ s.heap.size ≤ q) = A at hD ⊢
  have hA : ∀ q : Nat, s.heap.size ≤ q → A q := fun q z => by rw [← hAe]; exact Or.inr z
  have hS : va_S A s.heap s.heap [] := va_S.rf
  refine lv_aload_n hx hb d_M_init_0 rfl (lv_at hl 0 rfl) ?_
  refine W.objInit hx hb hown (hts _ q_272) (hts _ q_12) (hts _ q_13) rfl (by rw [hml]; exact hl.1) rfl d_M_init_1 (Nat.le_of_ble_eq_true rfl) (Nat.le_of_ble_eq_true rfl) ?_
  refine W.eq (g2 := F0 m 4 ls []) rfl ?_
  replace hP : va_P D classes [(h, .inr (3, [.null, .null, .null, .null, .int 0, .int 0, .int 0, .int 0, .int 0, .null, .null, .null, .null, .int 0, .int 0, .int 0, .int 0, .int 0, .int 0, .int 0, .null, .int 0, .int 0, .int 0, .int 0, .int 0, .int 0, .int 0]))] s.heap := hP
  replace hD : va_D A [(h, .inr (3, [.null, .null, .null, .null, .int 0, .int 0, .int 0, .int 0, .int 0, .null, .null, .null, .null, .int 0, .int 0, .int 0, .int 0, .int 0, .int 0, .int 0, .null, .int 0, .int 0, .int 0, .int 0, .int 0, .int 0, .int 0]))] := hD
  refine lv_aload_n hx hb d_M_init_4 rfl (lv_at hl 0 rfl) ?_
  refine lv_sipush (v := 1024) hx hb d_M_init_5 (by decide) ?_
  refine va_newa (atype := .int) (a0 := (1024, .inl (fun _ => 0))) hx hb (hts _ q_56) (ty := .int) rfl hK hP hD hS hA (fun _ => rfl) (by decide) (by decide) (N' := 1024) (by decide) (Nat.le_of_ble_eq_true rfl) (Nat.le_of_ble_eq_true rfl) d_M_init_8 (fun q1 k1 H hK hP hD hS => ?_)
  replace hP : va_P D classes [(h, .inr (3, [.null, .null, .null, .null, .int 0, .int 0, .int 0, .int 0, .int 0, .null, .null, .null, .null, .int 0, .int 0, .int 0, .int 0, .int 0, .int 0, .int 0, .null, .int 0, .int 0, .int 0, .int 0, .int 0, .int 0, .int 0])), (q1, .inl (k1, 1024, .inl (fun _ => 0)))] H := hP
  replace hD : va_D A [(h, .inr (3, [.null, .null, .null, .null, .int 0, .int 0, .int 0, .int 0, .int 0, .null, .null, .null, .null, .int 0, .int 0, .int 0, .int 0, .int 0, .int 0, .int 0, .null, .int 0, .int 0, .int 0, .int 0, .int 0, .int 0, .int 0])), (q1, .inl (k1, 1024, .inl (fun _ => 0)))] := hD
  replace hK : va_K D classes [(k1, .int)] s := hK
  refine va_putF (D := D) (ci := 3) (v := .ref q1) (ty := .array .int) (C := R_M) (T := F_M) (N := 28) hx hb hts i_M t_M t_M_ok n_M hown hK hP hD hS 0 rfl rfl 0 (by decide) (hts _ q_273) (fun _ h9 => h9) rfl hnm rfl (by decide +kernel) rfl rfl (Nat.le_of_ble_eq_true rfl) d_M_init_10 (fun H locs hP hD hS => ?_)
  replace hP : va_P D classes [(h, .inr (3, [.ref q1, .null, .null, .null, .int 0, .int 0, .int 0, .int 0, .int 0, .null, .null, .null, .null, .int 0, .int 0, .int 0, .int 0, .int 0, .int 0, .int 0, .null, .int 0, .int 0, .int 0, .int 0, .int 0, .int 0, .int 0])), (q1, .inl (k1, 1024, .inl (fun _ => 0)))] H := hP
  replace hD : va_D A [(h, .inr (3, [.ref q1, .null, .null, .null, .int 0, .int 0, .int 0, .int 0, .int 0, .null, .null, .null, .null, .int 0, .int 0, .int 0, .int 0, .int 0, .int 0, .int 0, .null, .int 0, .int 0, .int 0, .int 0, .int 0, .int 0, .int 0])), (q1, .inl (k1, 1024, .inl (fun _ => 0)))] := hD
  refine lv_aload_n hx hb d_M_init_13 rfl (lv_at hl 0 rfl) ?_
  refine lv_sipush (v := 256) hx hb d_M_init_14 (by decide) ?_
  refine va_newa (atype := .int) (a0 := (256, .inl (fun _ => 0))) hx hb (hts _ q_56) (ty := .int) rfl hK hP hD hS hA (fun _ => rfl) (by decide) (by decide) (N' := 256) (by decide) (Nat.le_of_ble_eq_true rfl) (Nat.le_of_ble_eq_true rfl) d_M_init_17 (fun q2 k2 H hK hP hD hS => ?_)
  replace hP : va_P D classes [(h, .inr (3, [.ref q1, .null, .null, .null, .int 0, .int 0, .int 0, .int 0, .int 0, .null, .null, .null, .null, .int 0, .int 0, .int 0, .int 0, .int 0, .int 0, .int 0, .null, .int 0, .int 0, .int 0, .int 0, .int 0, .int 0, .int 0])), (q1, .inl (k1, 1024, .inl (fun _ => 0))), (q2, .inl (k2, 256, .inl (fun _ => 0)))] H := hP
  replace hD : va_D A [(h, .inr (3, [.ref q1, .null, .null, .null, .int 0, .int 0, .int 0, .int 0, .int 0, .null, .null, .null, .null, .int 0, .int 0, .int 0, .int 0, .int 0, .int 0, .int 0, .null, .int 0, .int 0, .int 0, .int 0, .int 0, .int 0, .int 0])), (q1, .inl (k1, 1024, .inl (fun _ => 0))), (q2, .inl (k2, 256, .inl (fun _ => 0)))] := hD
  replace hK : va_K D classes [(k1, .int), (k2, .int)] s := hK
  refine va_putF (D := D) (ci := 3) (v := .ref q2) (ty := .array .int) (C := R_M) (T := F_M) (N := 28) hx hb hts i_M t_M t_M_ok n_M hown hK hP hD hS 0 rfl rfl 1 (by decide) (hts _ q_274) (fun _ h9 => h9) rfl hnm rfl (by decide +kernel) rfl rfl (Nat.le_of_ble_eq_true rfl) d_M_init_19 (fun H locs hP hD hS => ?_)
  replace hP : va_P D classes [(h, .inr (3, [.ref q1, .ref q2, .null, .null, .int 0, .int 0, .int 0, .int 0, .int 0, .null, .null, .null, .null, .int 0, .int 0, .int 0, .int 0, .int 0, .int 0, .int 0, .null, .int 0, .int 0, .int 0, .int 0, .int 0, .int 0, .int 0])), (q1, .inl (k1, 1024, .inl (fun _ => 0))), (q2, .inl (k2, 256, .inl (fun _ => 0)))] H := hP
  replace hD : va_D A [(h, .inr (3, [.ref q1, .ref q2, .null, .null, .int 0, .int 0, .int 0, .int 0, .int 0, .null, .null, .null, .null, .int 0, .int 0, .int 0, .int 0, .int 0, .int 0, .int 0, .null, .int 0, .int 0, .int 0, .int 0, .int 0, .int 0, .int 0])), (q1, .inl (k1, 1024, .inl (fun _ => 0))), (q2, .inl (k2, 256, .inl (fun _ => 0)))] := hD
  refine lv_aload_n hx hb d_M_init_22 rfl (lv_at hl 0 rfl) ?_
  refine lv_sipush (v := 1024) hx hb d_M_init_23 (by decide) ?_
  refine va_newa (atype := .int) (a0 := (1024, .inl (fun _ => 0))) hx hb (hts _ q_56) (ty := .int) rfl hK hP hD hS hA (fun _ => rfl) (by decide) (by decide) (N' := 1024) (by decide) (Nat.le_of_ble_eq_true rfl) (Nat.le_of_ble_eq_true rfl) d_M_init_26 (fun q3 k3 H hK hP hD hS => ?_)
  replace hP : va_P D classes [(h, .inr (3, [.ref q1, .ref q2, .null, .null, .int 0, .int 0, .int 0, .int 0, .int 0, .null, .null, .null, .null, .int 0, .int 0, .int 0, .int 0, .int 0, .int 0, .int 0, .null, .int 0, .int 0, .int 0, .int 0, .int 0, .int 0, .int 0])), (q1, .inl (k1, 1024, .inl (fun _ => 0))), (q2, .inl (k2, 256, .inl (fun _ => 0))), (q3, .inl (k3, 1024, .inl (fun _ => 0)))] H := hP
  replace hD : va_D A [(h, .inr (3, [.ref q1, .ref q2, .null, .null, .int 0, .int 0, .int 0, .int 0, .int 0, .null, .null, .null, .null, .int 0, .int 0, .int 0, .int 0, .int 0, .int 0, .int 0, .null, .int 0, .int 0, .int 0, .int 0, .int 0, .int 0, .int 0])), (q1, .inl (k1, 1024, .inl (fun _ => 0))), (q2, .inl (k2, 256, .inl (fun _ => 0))), (q3, .inl (k3, 1024, .inl (fun _ => 0)))] := hD
  replace hK : va_K D classes [(k1, .int), (k2, .int), (k3, .int)] s := hK
  refine va_putF (D := D) (ci := 3) (v := .ref q3) (ty := .array .int) (C := R_M) (T := F_M) (N := 28) hx hb hts i_M t_M t_M_ok n_M hown hK hP hD hS 0 rfl rfl 2 (by decide) (hts _ q_275) (fun _ h9 => h9) rfl hnm rfl (by decide +kernel) rfl rfl (Nat.le_of_ble_eq_true rfl) d_M_init_28 (fun H locs hP hD hS => ?_)
  replace hP : va_P D classes [(h, .inr (3, [.ref q1, .ref q2, .ref q3, .null, .int 0, .int 0, .int 0, .int 0, .int 0, .null, .null, .null, .null, .int 0, .int 0, .int 0, .int 0, .int 0, .int 0, .int 0, .null, .int 0, .int 0, .int 0, .int 0, .int 0, .int 0, .int 0])), (q1, .inl (k1, 1024, .inl (fun _ => 0))), (q2, .inl (k2, 256, .inl (fun _ => 0))), (q3, .inl (k3, 1024, .inl (fun _ => 0)))] H := hP
  replace hD : va_D A [(h, .inr (3, [.ref q1, .ref q2, .ref q3, .null, .int 0, .int 0, .int 0, .int 0, .int 0, .null, .null, .null, .null, .int 0, .int 0, .int 0, .int 0, .int 0, .int 0, .int 0, .null, .int 0, .int 0, .int 0, .int 0, .int 0, .int 0, .int 0])), (q1, .inl (k1, 1024, .inl (fun _ => 0))), (q2, .inl (k2, 256, .inl (fun _ => 0))), (q3, .inl (k3, 1024, .inl (fun _ => 0)))] := hD
  refine lv_aload_n hx hb d_M_init_31 rfl (lv_at hl 0 rfl) ?_
  refine lv_bipush (v := 32) hx hb d_M_init_32 (by decide) ?_
  refine va_newa (atype := .int) (a0 := (32, .inl (fun _ => 0))) hx hb (hts _ q_56) (ty := .int) rfl hK hP hD hS hA (fun _ => rfl) (by decide) (by decide) (N' := 32) (by decide) (Nat.le_of_ble_eq_true rfl) (Nat.le_of_ble_eq_true rfl) d_M_init_34 (fun q4 k4 H hK hP hD hS => ?_)
  replace hP : va_P D classes [(h, .inr (3, [.ref q1, .ref q2, .ref q3, .null, .int 0, .int 0, .int 0, .int 0, .int 0, .null, .null, .null, .null, .int 0, .int 0, .int 0, .int 0, .int 0, .int 0, .int 0, .null, .int 0, .int 0, .int 0, .int 0, .int 0, .int 0, .int 0])), (q1, .inl (k1, 1024, .inl (fun _ => 0))), (q2, .inl (k2, 256, .inl (fun _ => 0))), (q3, .inl (k3, 1024, .inl (fun _ => 0))), (q4, .inl (k4, 32, .inl (fun _ => 0)))] H := hP
  replace hD : va_D A [(h, .inr (3, [.ref q1, .ref q2, .ref q3, .null, .int 0, .int 0, .int 0, .int 0, .int 0, .null, .null, .null, .null, .int 0, .int 0, .int 0, .int 0, .int 0, .int 0, .int 0, .null, .int 0, .int 0, .int 0, .int 0, .int 0, .int 0, .int 0])), (q1, .inl (k1, 1024, .inl (fun _ => 0))), (q2, .inl (k2, 256, .inl (fun _ => 0))), (q3, .inl (k3, 1024, .inl (fun _ => 0))), (q4, .inl (k4, 32, .inl (fun _ => 0)))] := hD
  replace hK : va_K D classes [(k1, .int), (k2, .int), (k3, .int), (k4, .int)] s := hK
  refine va_putF (D := D) (ci := 3) (v := .ref q4) (ty := .array .int) (C := R_M) (T := F_M) (N := 28) hx hb hts i_M t_M t_M_ok n_M hown hK hP hD hS 0 rfl rfl 3 (by decide) (hts _ q_276) (fun _ h9 => h9) rfl hnm rfl (by decide +kernel) rfl rfl (Nat.le_of_ble_eq_true rfl) d_M_init_36 (fun H locs hP hD hS => ?_)
  replace hP : va_P D classes [(h, .inr (3, [.ref q1, .ref q2, .ref q3, .ref q4, .int 0, .int 0, .int 0, .int 0, .int 0, .null, .null, .null, .null, .int 0, .int 0, .int 0, .int 0, .int 0, .int 0, .int 0, .null, .int 0, .int 0, .int 0, .int 0, .int 0, .int 0, .int 0])), (q1, .inl (k1, 1024, .inl (fun _ => 0))), (q2, .inl (k2, 256, .inl (fun _ => 0))), (q3, .inl (k3, 1024, .inl (fun _ => 0))), (q4, .inl (k4, 32, .inl (fun _ => 0)))] H := hP
  replace hD : va_D A [(h, .inr (3, [.ref q1, .ref q2, .ref q3, .ref q4, .int 0, .int 0, .int 0, .int 0, .int 0, .null, .null, .null, .null, .int 0, .int 0, .int 0, .int 0, .int 0, .int 0, .int 0, .null, .int 0, .int 0, .int 0, .int 0, .int 0, .int 0, .int 0])), (q1, .inl (k1, 1024, .inl (fun _ => 0))), (q2, .inl (k2, 256, .inl (fun _ => 0))), (q3, .inl (k3, 1024, .inl (fun _ => 0))), (q4, .inl (k4, 32, .inl (fun _ => 0)))] := hD
  refine lv_aload_n hx hb d_M_init_39 rfl (lv_at hl 0 rfl) ?_
  refine lv_bipush (v := 16) hx hb d_M_init_40 (by decide) ?_
  refine va_newa (atype := .int) (a0 := (16, .inl (fun _ => 0))) hx hb (hts _ q_56) (ty := .int) rfl hK hP hD hS hA (fun _ => rfl) (by decide) (by decide) (N' := 16) (by decide) (Nat.le_of_ble_eq_true rfl) (Nat.le_of_ble_eq_true rfl) d_M_init_42 (fun q5 k5 H hK hP hD hS => ?_)
  replace hP : va_P D classes [(h, .inr (3, [.ref q1, .ref q2, .ref q3, .ref q4, .int 0, .int 0, .int 0, .int 0, .int 0, .null, .null, .null, .null, .int 0, .int 0, .int 0, .int 0, .int 0, .int 0, .int 0, .null, .int 0, .int 0, .int 0, .int 0, .int 0, .int 0, .int 0])), (q1, .inl (k1, 1024, .inl (fun _ => 0))), (q2, .inl (k2, 256, .inl (fun _ => 0))), (q3, .inl (k3, 1024, .inl (fun _ => 0))), (q4, .inl (k4, 32, .inl (fun _ => 0))), (q5, .inl (k5, 16, .inl (fun _ => 0)))] H := hP
  replace hD : va_D A [(h, .inr (3, [.ref q1, .ref q2, .ref q3, .ref q4, .int 0, .int 0, .int 0, .int 0, .int 0, .null, .null, .null, .null, .int 0, .int 0, .int 0, .int 0, .int 0, .int 0, .int 0, .null, .int 0, .int 0, .int 0, .int 0, .int 0, .int 0, .int 0])), (q1, .inl (k1, 1024, .inl (fun _ => 0))), (q2, .inl (k2, 256, .inl (fun _ => 0))), (q3, .inl (k3, 1024, .inl (fun _ => 0))), (q4, .inl (k4, 32, .inl (fun _ => 0))), (q5, .inl (k5, 16, .inl (fun _ => 0)))] := hD
  replace hK : va_K D classes [(k1, .int), (k2, .int), (k3, .int), (k4, .int), (k5, .int)] s := hK
  refine va_putF (D := D) (ci := 3) (v := .ref q5) (ty := .array .int) (C := R_M) (T := F_M) (N := 28) hx hb hts i_M t_M t_M_ok n_M hown hK hP hD hS 0 rfl rfl 9 (by decide) (hts _ q_282) (fun _ h9 => h9) rfl hnm rfl (by decide +kernel) rfl rfl (Nat.le_of_ble_eq_true rfl) d_M_init_44 (fun H locs hP hD hS => ?_)
  replace hP : va_P D classes [(h, .inr (3, [.ref q1, .ref q2, .ref q3, .ref q4, .int 0, .int 0, .int 0, .int 0, .int 0, .ref q5, .null, .null, .null, .int 0, .int 0, .int 0, .int 0, .int 0, .int 0, .int 0, .null, .int 0, .int 0, .int 0, .int 0, .int 0, .int 0, .int 0])), (q1, .inl (k1, 1024, .inl (fun _ => 0))), (q2, .inl (k2, 256, .inl (fun _ => 0))), (q3, .inl (k3, 1024, .inl (fun _ => 0))), (q4, .inl (k4, 32, .inl (fun _ => 0))), (q5, .inl (k5, 16, .inl (fun _ => 0)))] H := hP
  replace hD : va_D A [(h, .inr (3, [.ref q1, .ref q2, .ref q3, .ref q4, .int 0, .int 0, .int 0, .int 0, .int 0, .ref q5, .null, .null, .null, .int 0, .int 0, .int 0, .int 0, .int 0, .int 0, .int 0, .null, .int 0, .int 0, .int 0, .int 0, .int 0, .int 0, .int 0])), (q1, .inl (k1, 1024, .inl (fun _ => 0))), (q2, .inl (k2, 256, .inl (fun _ => 0))), (q3, .inl (k3, 1024, .inl (fun _ => 0))), (q4, .inl (k4, 32, .inl (fun _ => 0))), (q5, .inl (k5, 16, .inl (fun _ => 0)))] := hD
  refine lv_aload_n hx hb d_M_init_47 rfl (lv_at hl 0 rfl) ?_
  refine lv_bipush (v := 16) hx hb d_M_init_48 (by decide) ?_
  refine va_newa (atype := .int) (a0 := (16, .inl (fun _ => 0))) hx hb (hts _ q_56) (ty := .int) rfl hK hP hD hS hA (fun _ => rfl) (by decide) (by decide) (N' := 16) (by decide) (Nat.le_of_ble_eq_true rfl) (Nat.le_of_ble_eq_true rfl) d_M_init_50 (fun q6 k6 H hK hP hD hS => ?_)
  replace hP : va_P D classes [(h, .inr (3, [.ref q1, .ref q2, .ref q3, .ref q4, .int 0, .int 0, .int 0, .int 0, .int 0, .ref q5, .null, .null, .null, .int 0, .int 0, .int 0, .int 0, .int 0, .int 0, .int 0, .null, .int 0, .int 0, .int 0, .int 0, .int 0, .int 0, .int 0])), (q1, .inl (k1, 1024, .inl (fun _ => 0))), (q2, .inl (k2, 256, .inl (fun _ => 0))), (q3, .inl (k3, 1024, .inl (fun _ => 0))), (q4, .inl (k4, 32, .inl (fun _ => 0))), (q5, .inl (k5, 16, .inl (fun _ => 0))), (q6, .inl (k6, 16, .inl (fun _ => 0)))] H := hP
  replace hD : va_D A [(h, .inr (3, [.ref q1, .ref q2, .ref q3, .ref q4, .int 0, .int 0, .int 0, .int 0, .int 0, .ref q5, .null, .null, .null, .int 0, .int 0, .int 0, .int 0, .int 0, .int 0, .int 0, .null, .int 0, .int 0, .int 0, .int 0, .int 0, .int 0, .int 0])), (q1, .inl (k1, 1024, .inl (fun _ => 0))), (q2, .inl (k2, 256, .inl (fun _ => 0))), (q3, .inl (k3, 1024, .inl (fun _ => 0))), (q4, .inl (k4, 32, .inl (fun _ => 0))), (q5, .inl (k5, 16, .inl (fun _ => 0))), (q6, .inl (k6, 16, .inl (fun _ => 0)))] := hD
  replace hK : va_K D classes [(k1, .int), (k2, .int), (k3, .int), (k4, .int), (k5, .int), (k6, .int)] s := hK
  refine va_putF (D := D) (ci := 3) (v := .ref q6) (ty := .array .int) (C := R_M) (T := F_M) (N := 28) hx hb hts i_M t_M t_M_ok n_M hown hK hP hD hS 0 rfl rfl 10 (by decide) (hts _ q_283) (fun _ h9 => h9) rfl hnm rfl (by decide +kernel) rfl rfl (Nat.le_of_ble_eq_true rfl) d_M_init_52 (fun H locs hP hD hS => ?_)
  replace hP : va_P D classes [(h, .inr (3, [.ref q1, .ref q2, .ref q3, .ref q4, .int 0, .int 0, .int 0, .int 0, .int 0, .ref q5, .ref q6, .null, .null, .int 0, .int 0, .int 0, .int 0, .int 0, .int 0, .int 0, .null, .int 0, .int 0, .int 0, .int 0, .int 0, .int 0, .int 0])), (q1, .inl (k1, 1024, .inl (fun _ => 0))), (q2, .inl (k2, 256, .inl (fun _ => 0))), (q3, .inl (k3, 1024, .inl (fun _ => 0))), (q4, .inl (k4, 32, .inl (fun _ => 0))), (q5, .inl (k5, 16, .inl (fun _ => 0))), (q6, .inl (k6, 16, .inl (fun _ => 0)))] H := hP
  replace hD : va_D A [(h, .inr (3, [.ref q1, .ref q2, .ref q3, .ref q4, .int 0, .int 0, .int 0, .int 0, .int 0, .ref q5, .ref q6, .null, .null, .int 0, .int 0, .int 0, .int 0, .int 0, .int 0, .int 0, .null, .int 0, .int 0, .int 0, .int 0, .int 0, .int 0, .int 0])), (q1, .inl (k1, 1024, .inl (fun _ => 0))), (q2, .inl (k2, 256, .inl (fun _ => 0))), (q3, .inl (k3, 1024, .inl (fun _ => 0))), (q4, .inl (k4, 32, .inl (fun _ => 0))), (q5, .inl (k5, 16, .inl (fun _ => 0))), (q6, .inl (k6, 16, .inl (fun _ => 0)))] := hD
  refine lv_aload_n hx hb d_M_init_55 rfl (lv_at hl 0 rfl) ?_
  refine lv_bipush (v := 16) hx hb d_M_init_56 (by decide) ?_
  refine va_newa (atype := .boolean) (a0 := (16, .inl (fun _ => 0))) hx hb (hts _ q_358) (ty := .boolean) rfl hK hP hD hS hA (fun _ => rfl) (by decide) (by decide) (N' := 16) (by decide) (Nat.le_of_ble_eq_true rfl) (Nat.le_of_ble_eq_true rfl) d_M_init_58 (fun q7 k7 H hK hP hD hS => ?_)
  replace hP : va_P D classes [(h, .inr (3, [.ref q1, .ref q2, .ref q3, .ref q4, .int 0, .int 0, .int 0, .int 0, .int 0, .ref q5, .ref q6, .null, .null, .int 0, .int 0, .int 0, .int 0, .int 0, .int 0, .int 0, .null, .int 0, .int 0, .int 0, .int 0, .int 0, .int 0, .int 0])), (q1, .inl (k1, 1024, .inl (fun _ => 0))), (q2, .inl (k2, 256, .inl (fun _ => 0))), (q3, .inl (k3, 1024, .inl (fun _ => 0))), (q4, .inl (k4, 32, .inl (fun _ => 0))), (q5, .inl (k5, 16, .inl (fun _ => 0))), (q6, .inl (k6, 16, .inl (fun _ => 0))), (q7, .inl (k7, 16, .inl (fun _ => 0)))] H := hP
  replace hD : va_D A [(h, .inr (3, [.ref q1, .ref q2, .ref q3, .ref q4, .int 0, .int 0, .int 0, .int 0, .int 0, .ref q5, .ref q6, .null, .null, .int 0, .int 0, .int 0, .int 0, .int 0, .int 0, .int 0, .null, .int 0, .int 0, .int 0, .int 0, .int 0, .int 0, .int 0])), (q1, .inl (k1, 1024, .inl (fun _ => 0))), (q2, .inl (k2, 256, .inl (fun _ => 0))), (q3, .inl (k3, 1024, .inl (fun _ => 0))), (q4, .inl (k4, 32, .inl (fun _ => 0))), (q5, .inl (k5, 16, .inl (fun _ => 0))), (q6, .inl (k6, 16, .inl (fun _ => 0))), (q7, .inl (k7, 16, .inl (fun _ => 0)))] := hD
  replace hK : va_K D classes [(k1, .int), (k2, .int), (k3, .int), (k4, .int), (k5, .int), (k6, .int), (k7, .boolean)] s := hK
  refine va_putF (D := D) (ci := 3) (v := .ref q7) (ty := .array .boolean) (C := R_M) (T := F_M) (N := 28) hx hb hts i_M t_M t_M_ok n_M hown hK hP hD hS 0 rfl rfl 11 (by decide) (hts _ q_284) (fun _ h9 => h9) rfl hnm rfl (by decide +kernel) rfl rfl (Nat.le_of_ble_eq_true rfl) d_M_init_60 (fun H locs hP hD hS => ?_)
  replace hP : va_P D classes [(h, .inr (3, [.ref q1, .ref q2, .ref q3, .ref q4, .int 0, .int 0, .int 0, .int 0, .int 0, .ref q5, .ref q6, .ref q7, .null, .int 0, .int 0, .int 0, .int 0, .int 0, .int 0, .int 0, .null, .int 0, .int 0, .int 0, .int 0, .int 0, .int 0, .int 0])), (q1, .inl (k1, 1024, .inl (fun _ => 0))), (q2, .inl (k2, 256, .inl (fun _ => 0))), (q3, .inl (k3, 1024, .inl (fun _ => 0))), (q4, .inl (k4, 32, .inl (fun _ => 0))), (q5, .inl (k5, 16, .inl (fun _ => 0))), (q6, .inl (k6, 16, .inl (fun _ => 0))), (q7, .inl (k7, 16, .inl (fun _ => 0)))] H := hP
  replace hD : va_D A [(h, .inr (3, [.ref q1, .ref q2, .ref q3, .ref q4, .int 0, .int 0, .int 0, .int 0, .int 0, .ref q5, .ref q6, .ref q7, .null, .int 0, .int 0, .int 0, .int 0, .int 0, .int 0, .int 0, .null, .int 0, .int 0, .int 0, .int 0, .int 0, .int 0, .int 0])), (q1, .inl (k1, 1024, .inl (fun _ => 0))), (q2, .inl (k2, 256, .inl (fun _ => 0))), (q3, .inl (k3, 1024, .inl (fun _ => 0))), (q4, .inl (k4, 32, .inl (fun _ => 0))), (q5, .inl (k5, 16, .inl (fun _ => 0))), (q6, .inl (k6, 16, .inl (fun _ => 0))), (q7, .inl (k7, 16, .inl (fun _ => 0)))] := hD
  refine lv_aload_n hx hb d_M_init_63 rfl (lv_at hl 0 rfl) ?_
  refine lv_bipush (v := 16) hx hb d_M_init_64 (by decide) ?_
  refine va_newa (atype := .int) (a0 := (16, .inl (fun _ => 0))) hx hb (hts _ q_56) (ty := .int) rfl hK hP hD hS hA (fun _ => rfl) (by decide) (by decide) (N' := 16) (by decide) (Nat.le_of_ble_eq_true rfl) (Nat.le_of_ble_eq_true rfl) d_M_init_66 (fun q8 k8 H hK hP hD hS => ?_)
  replace hP : va_P D classes [(h, .inr (3, [.ref q1, .ref q2, .ref q3, .ref q4, .int 0, .int 0, .int 0, .int 0, .int 0, .ref q5, .ref q6, .ref q7, .null, .int 0, .int 0, .int 0, .int 0, .int 0, .int 0, .int 0, .null, .int 0, .int 0, .int 0, .int 0, .int 0, .int 0, .int 0])), (q1, .inl (k1, 1024, .inl (fun _ => 0))), (q2, .inl (k2, 256, .inl (fun _ => 0))), (q3, .inl (k3, 1024, .inl (fun _ => 0))), (q4, .inl (k4, 32, .inl (fun _ => 0))), (q5, .inl (k5, 16, .inl (fun _ => 0))), (q6, .inl (k6, 16, .inl (fun _ => 0))), (q7, .inl (k7, 16, .inl (fun _ => 0))), (q8, .inl (k8, 16, .inl (fun _ => 0)))] H := hP
  replace hD : va_D A [(h, .inr (3, [.ref q1, .ref q2, .ref q3, .ref q4, .int 0, .int 0, .int 0, .int 0, .int 0, .ref q5, .ref q6, .ref q7, .null, .int 0, .int 0, .int 0, .int 0, .int 0, .int 0, .int 0, .null, .int 0, .int 0, .int 0, .int 0, .int 0, .int 0, .int 0])), (q1, .inl (k1, 1024, .inl (fun _ => 0))), (q2, .inl (k2, 256, .inl (fun _ => 0))), (q3, .inl (k3, 1024, .inl (fun _ => 0))), (q4, .inl (k4, 32, .inl (fun _ => 0))), (q5, .inl (k5, 16, .inl (fun _ => 0))), (q6, .inl (k6, 16, .inl (fun _ => 0))), (q7, .inl (k7, 16, .inl (fun _ => 0))), (q8, .inl (k8, 16, .inl (fun _ => 0)))] := hD
  replace hK : va_K D classes [(k1, .int), (k2, .int), (k3, .int), (k4, .int), (k5, .int), (k6, .int), (k7, .boolean), (k8, .int)] s := hK
  refine va_putF (D := D) (ci := 3) (v := .ref q8) (ty := .array .int) (C := R_M) (T := F_M) (N := 28) hx hb hts i_M t_M t_M_ok n_M hown hK hP hD hS 0 rfl rfl 12 (by decide) (hts _ q_285) (fun _ h9 => h9) rfl hnm rfl (by decide +kernel) rfl rfl (Nat.le_of_ble_eq_true rfl) d_M_init_68 (fun H locs hP hD hS => ?_)
  replace hP : va_P D classes [(h, .inr (3, [.ref q1, .ref q2, .ref q3, .ref q4, .int 0, .int 0, .int 0, .int 0, .int 0, .ref q5, .ref q6, .ref q7, .ref q8, .int 0, .int 0, .int 0, .int 0, .int 0, .int 0, .int 0, .null, .int 0, .int 0, .int 0, .int 0, .int 0, .int 0, .int 0])), (q1, .inl (k1, 1024, .inl (fun _ => 0))), (q2, .inl (k2, 256, .inl (fun _ => 0))), (q3, .inl (k3, 1024, .inl (fun _ => 0))), (q4, .inl (k4, 32, .inl (fun _ => 0))), (q5, .inl (k5, 16, .inl (fun _ => 0))), (q6, .inl (k6, 16, .inl (fun _ => 0))), (q7, .inl (k7, 16, .inl (fun _ => 0))), (q8, .inl (k8, 16, .inl (fun _ => 0)))] H := hP
  replace hD : va_D A [(h, .inr (3, [.ref q1, .ref q2, .ref q3, .ref q4, .int 0, .int 0, .int 0, .int 0, .int 0, .ref q5, .ref q6, .ref q7, .ref q8, .int 0, .int 0, .int 0, .int 0, .int 0, .int 0, .int 0, .null, .int 0, .int 0, .int 0, .int 0, .int 0, .int 0, .int 0])), (q1, .inl (k1, 1024, .inl (fun _ => 0))), (q2, .inl (k2, 256, .inl (fun _ => 0))), (q3, .inl (k3, 1024, .inl (fun _ => 0))), (q4, .inl (k4, 32, .inl (fun _ => 0))), (q5, .inl (k5, 16, .inl (fun _ => 0))), (q6, .inl (k6, 16, .inl (fun _ => 0))), (q7, .inl (k7, 16, .inl (fun _ => 0))), (q8, .inl (k8, 16, .inl (fun _ => 0)))] := hD
  refine lv_aload_n hx hb d_M_init_71 rfl (lv_at hl 0 rfl) ?_
  refine lv_bipush (v := (-100)) hx hb d_M_init_72 (by decide) ?_
  refine va_put (D := D) (ci := 3) (v := .int (-100)) (ty := .int) (C := R_M) (T := F_M) (N := 28) hx hb hts i_M t_M t_M_ok n_M hown hK hP hD hS 0 rfl rfl 18 (by decide) (hts _ q_291) (fun _ h9 => h9) rfl (by decide +kernel) rfl rfl (Nat.le_of_ble_eq_true rfl) d_M_init_74 (fun H locs hP hD hS => ?_)
  replace hP : va_P D classes [(h, .inr (3, [.ref q1, .ref q2, .ref q3, .ref q4, .int 0, .int 0, .int 0, .int 0, .int 0, .ref q5, .ref q6, .ref q7, .ref q8, .int 0, .int 0, .int 0, .int 0, .int 0, .int (-100), .int 0, .null, .int 0, .int 0, .int 0, .int 0, .int 0, .int 0, .int 0])), (q1, .inl (k1, 1024, .inl (fun _ => 0))), (q2, .inl (k2, 256, .inl (fun _ => 0))), (q3, .inl (k3, 1024, .inl (fun _ => 0))), (q4, .inl (k4, 32, .inl (fun _ => 0))), (q5, .inl (k5, 16, .inl (fun _ => 0))), (q6, .inl (k6, 16, .inl (fun _ => 0))), (q7, .inl (k7, 16, .inl (fun _ => 0))), (q8, .inl (k8, 16, .inl (fun _ => 0)))] H := hP
  replace hD : va_D A [(h, .inr (3, [.ref q1, .ref q2, .ref q3, .ref q4, .int 0, .int 0, .int 0, .int 0, .int 0, .ref q5, .ref q6, .ref q7, .ref q8, .int 0, .int 0, .int 0, .int 0, .int 0, .int (-100), .int 0, .null, .int 0, .int 0, .int 0, .int 0, .int 0, .int 0, .int 0])), (q1, .inl (k1, 1024, .inl (fun _ => 0))), (q2, .inl (k2, 256, .inl (fun _ => 0))), (q3, .inl (k3, 1024, .inl (fun _ => 0))), (q4, .inl (k4, 32, .inl (fun _ => 0))), (q5, .inl (k5, 16, .inl (fun _ => 0))), (q6, .inl (k6, 16, .inl (fun _ => 0))), (q7, .inl (k7, 16, .inl (fun _ => 0))), (q8, .inl (k8, 16, .inl (fun _ => 0)))] := hD
  refine lv_aload_n hx hb d_M_init_77 rfl (lv_at hl 0 rfl) ?_
  refine lv_sipush (v := 500) hx hb d_M_init_78 (by decide) ?_
  refine va_newa (atype := .int) (a0 := (500, .inl (fun _ => 0))) hx hb (hts _ q_56) (ty := .int) rfl hK hP hD hS hA (fun _ => rfl) (by decide) (by decide) (N' := 500) (by decide) (Nat.le_of_ble_eq_true rfl) (Nat.le_of_ble_eq_true rfl) d_M_init_81 (fun q9 k9 H hK hP hD hS => ?_)
  replace hP : va_P D classes [(h, .inr (3, [.ref q1, .ref q2, .ref q3, .ref q4, .int 0, .int 0, .int 0, .int 0, .int 0, .ref q5, .ref q6, .ref q7, .ref q8, .int 0, .int 0, .int 0, .int 0, .int 0, .int (-100), .int 0, .null, .int 0, .int 0, .int 0, .int 0, .int 0, .int 0, .int 0])), (q1, .inl (k1, 1024, .inl (fun _ => 0))), (q2, .inl (k2, 256, .inl (fun _ => 0))), (q3, .inl (k3, 1024, .inl (fun _ => 0))), (q4, .inl (k4, 32, .inl (fun _ => 0))), (q5, .inl (k5, 16, .inl (fun _ => 0))), (q6, .inl (k6, 16, .inl (fun _ => 0))), (q7, .inl (k7, 16, .inl (fun _ => 0))), (q8, .inl (k8, 16, .inl (fun _ => 0))), (q9, .inl (k9, 500, .inl (fun _ => 0)))] H := hP
  replace hD : va_D A [(h, .inr (3, [.ref q1, .ref q2, .ref q3, .ref q4, .int 0, .int 0, .int 0, .int 0, .int 0, .ref q5, .ref q6, .ref q7, .ref q8, .int 0, .int 0, .int 0, .int 0, .int 0, .int (-100), .int 0, .null, .int 0, .int 0, .int 0, .int 0, .int 0, .int 0, .int 0])), (q1, .inl (k1, 1024, .inl (fun _ => 0))), (q2, .inl (k2, 256, .inl (fun _ => 0))), (q3, .inl (k3, 1024, .inl (fun _ => 0))), (q4, .inl (k4, 32, .inl (fun _ => 0))), (q5, .inl (k5, 16, .inl (fun _ => 0))), (q6, .inl (k6, 16, .inl (fun _ => 0))), (q7, .inl (k7, 16, .inl (fun _ => 0))), (q8, .inl (k8, 16, .inl (fun _ => 0))), (q9, .inl (k9, 500, .inl (fun _ => 0)))] := hD
  replace hK : va_K D classes [(k1, .int), (k2, .int), (k3, .int), (k4, .int), (k5, .int), (k6, .int), (k7, .boolean), (k8, .int), (k9, .int)] s := hK
  refine va_putF (D := D) (ci := 3) (v := .ref q9) (ty := .array .int) (C := R_M) (T := F_M) (N := 28) hx hb hts i_M t_M t_M_ok n_M hown hK hP hD hS 0 rfl rfl 20 (by decide) (hts _ q_293) (fun _ h9 => h9) rfl hnm rfl (by decide +kernel) rfl rfl (Nat.le_of_ble_eq_true rfl) d_M_init_83 (fun H locs hP hD hS => ?_)
  replace hP : va_P D classes [(h, .inr (3, [.ref q1, .ref q2, .ref q3, .ref q4, .int 0, .int 0, .int 0, .int 0, .int 0, .ref q5, .ref q6, .ref q7, .ref q8, .int 0, .int 0, .int 0, .int 0, .int 0, .int (-100), .int 0, .ref q9, .int 0, .int 0, .int 0, .int 0, .int 0, .int 0, .int 0])), (q1, .inl (k1, 1024, .inl (fun _ => 0))), (q2, .inl (k2, 256, .inl (fun _ => 0))), (q3, .inl (k3, 1024, .inl (fun _ => 0))), (q4, .inl (k4, 32, .inl (fun _ => 0))), (q5, .inl (k5, 16, .inl (fun _ => 0))), (q6, .inl (k6, 16, .inl (fun _ => 0))), (q7, .inl (k7, 16, .inl (fun _ => 0))), (q8, .inl (k8, 16, .inl (fun _ => 0))), (q9, .inl (k9, 500, .inl (fun _ => 0)))] H := hP
  replace hD : va_D A [(h, .inr (3, [.ref q1, .ref q2, .ref q3, .ref q4, .int 0, .int 0, .int 0, .int 0, .int 0, .ref q5, .ref q6, .ref q7, .ref q8, .int 0, .int 0, .int 0, .int 0, .int 0, .int (-100), .int 0, .ref q9, .int 0, .int 0, .int 0, .int 0, .int 0, .int 0, .int 0])), (q1, .inl (k1, 1024, .inl (fun _ => 0))), (q2, .inl (k2, 256, .inl (fun _ => 0))), (q3, .inl (k3, 1024, .inl (fun _ => 0))), (q4, .inl (k4, 32, .inl (fun _ => 0))), (q5, .inl (k5, 16, .inl (fun _ => 0))), (q6, .inl (k6, 16, .inl (fun _ => 0))), (q7, .inl (k7, 16, .inl (fun _ => 0))), (q8, .inl (k8, 16, .inl (fun _ => 0))), (q9, .inl (k9, 500, .inl (fun _ => 0)))] := hD
  replace hP : va_P D classes (wM (fun k => match k with | 0 => h | 1 => q1 | 2 => q2 | 3 => q3 | 4 => q4 | 5 => q5 | 6 => q6 | 7 => q7 | 8 => q8 | _ => q9) (fun k => match k with | 0 => k1 | 1 => k2 | 2 => k3 | 3 => k4 | 4 => k5 | 5 => k6 | 6 => k7 | 7 => k8 | _ => k9) 0 0 0 0 0 0 0 0 (-100) 0 0 0 0 0 0 0 0 0 0 (fun _ => 0) (fun _ => 0) (fun _ => 0) (fun _ => 0) (fun _ => 0) (fun _ => 0) (fun _ => 0) (fun _ => 0) (fun _ => 0)) H := hP
  replace hD : va_D A (wM (fun k => match k with | 0 => h | 1 => q1 | 2 => q2 | 3 => q3 | 4 => q4 | 5 => q5 | 6 => q6 | 7 => q7 | 8 => q8 | _ => q9) (fun k => match k with | 0 => k1 | 1 => k2 | 2 => k3 | 3 => k4 | 4 => k5 | 5 => k6 | 6 => k7 | 7 => k8 | _ => k9) 0 0 0 0 0 0 0 0 (-100) 0 0 0 0 0 0 0 0 0 0 (fun _ => 0) (fun _ => 0) (fun _ => 0) (fun _ => 0) (fun _ => 0) (fun _ => 0) (fun _ => 0) (fun _ => 0) (fun _ => 0)) := hD
  replace hK : va_K D classes (tysM (fun k => match k with | 0 => k1 | 1 => k2 | 2 => k3 | 3 => k4 | 4 => k5 | 5 => k6 | 6 => k7 | 7 => k8 | _ => k9)) s := hK
  have hO : okM A (fun k => match k with | 0 => h | 1 => q1 | 2 => q2 | 3 => q3 | 4 => q4 | 5 => q5 | 6 => q6 | 7 => q7 | 8 => q8 | _ => q9) := okM.of hD
  have Z : cxM p m c _ _ s _ R_M D (fun k => match k with | 0 => k1 | 1 => k2 | 2 => k3 | 3 => k4 | 4 => k5 | 5 => k6 | 6 => k7 | 7 => k8 | _ => k9) := ⟨X, hK, hN⟩
  refine lv_aload_n hx hb d_M_init_86 rfl (lv_at hl 0 rfl) ?_
  refine gM_lines (md := (fun k => match k with | 0 => h | 1 => q1 | 2 => q2 | 3 => q3 | 4 => q4 | 5 => q5 | 6 => q6 | 7 => q7 | 8 => q8 | _ => q9)) Z hP d_M_init_87 ?_
  refine lv_iconst (v := 0) hx hb d_M_init_90 (by decide) ?_
  refine lv_iconst (v := 1) hx hb d_M_init_91 (by decide) ?_
  refine sM_lines (md := (fun k => match k with | 0 => h | 1 => q1 | 2 => q2 | 3 => q3 | 4 => q4 | 5 => q5 | 6 => q6 | 7 => q7 | 8 => q8 | _ => q9)) Z hP hO hS (by decide) (vp_in_nI (n := 0) (N := 16) (by decide) (by decide)) d_M_init_92 (fun H locs hP hS => ?_)
  subst hAe
  refine W.widen (k := 9) (n := 2900) (Nat.le_of_ble_eq_true rfl) (Nat.le_of_ble_eq_true rfl) ?_
  exact W.vret hx hb hr (fun t ht hW => ⟨⟨(), rfl, trivial, (fun k => match k with | 0 => h | 1 => q1 | 2 => q2 | 3 => q3 | 4 => q4 | 5 => q5 | 6 => q6 | 7 => q7 | 8 => q8 | _ => q9), (fun k => match k with | 0 => k1 | 1 => k2 | 2 => k3 | 3 => k4 | 4 => k5 | 5 => k6 | 6 => k7 | 7 => k8 | _ => k9), rfl, by rw [ht]; exact hP, va_K.moved hW.alike hK, hO⟩, hS.F ht⟩) hS.2.2 d_M_init_93 hlk
end
section
def rQ (f : Nat → Option Nat) : (Nat → Int32) ⊕ (Nat → Int64) ⊕ (Nat → UInt32) ⊕ (Nat → UInt64) ⊕ (Nat → Option Nat) := .inr (.inr (.inr (.inr f)))
/-- the component while it is made -/
def fC (ad : Nat → Nat) (kc : Nat → ClassId) (fs gs : Nat → Option Nat) : va_W :=
  [(ad 0, .inr (0, [.ref (ad 1), .ref (ad 2), .ref (ad 3), .ref (ad 4), .ref (ad 5), .ref (ad 6), .int 0, .int 0, .int 0, .int 0, .int 0, .int 0, .int 0, .int 0, .int (-100), .int 0, .int 0, .int 0, .int 0, .int 0, .int 0, .int 0])),
   (ad 1, .inl (kc 0, 1024, rQ fs)), (ad 2, .inl (kc 1, 256, .inl (fun _ => 0))), (ad 3, .inl (kc 2, 1024, .inl (fun _ => 0))), (ad 4, .inl (kc 3, 32, .inl (fun _ => 0))), (ad 5, .inl (kc 4, 16, rQ gs)), (ad 6, .inl (kc 5, 500, .inl (fun _ => 0)))]
def eK : va_E := .inr (1, mf 0)
def eS : va_E := .inr (2, [.int 0, .int 0, .int 0, .int 0])
theorem mf_0 : mf 0 = [.int 0, .int 0, .int 0, .int 0, .int 0, .int 0, .int 0, .int 0] := by decide +kernel
theorem dK : ∀ j, j < 8 → defaultValue (t_K j) = vp_V (mf 0) j := by
  rw [mf_0]
  intro j hj
  rcases (show j = 0 ∨ j = 1 ∨ j = 2 ∨ j = 3 ∨ j = 4 ∨ j = 5 ∨ j = 6 ∨ j = 7 by omega) with rfl | rfl | rfl | rfl | rfl | rfl | rfl | rfl <;> rfl
theorem dS : ∀ j, j < 4 → defaultValue (t_S j) = vp_V [.int 0, .int 0, .int 0, .int 0] j := by
  intro j hj
  rcases (show j = 0 ∨ j = 1 ∨ j = 2 ∨ j = 3 by omega) with rfl | rfl | rfl | rfl <;> rfl
theorem pl_up {k q : Nat} {am : Nat → Nat} {e : va_E} : (List.range k).map (fun i => (am i, e)) ++ [(q, e)] = (List.range (k + 1)).map (fun i => (va_up am k q i, e)) := by
  rw [List.range_succ, List.map_append]
  congr 1
  · apply List.map_congr_left
    intro i hi
    have h1 := List.mem_range.mp hi
    rw [va_up_ne _ _ (by omega)]
  · simp [va_up_self]
theorem pl_p1 {F : va_W} {k q : Nat} {am : Nat → Nat} {e : va_E} : (F ++ (List.range k).map (fun i => (am i, e))) ++ [(q, e)] = F ++ (List.range (k + 1)).map (fun i => (va_up am k q i, e)) := by
  rw [List.append_assoc, pl_up]
theorem pl_p2 {F M : va_W} {k q : Nat} {am : Nat → Nat} {e : va_E} : (F ++ (M ++ (List.range k).map (fun i => (am i, e)))) ++ [(q, e)] = F ++ (M ++ (List.range (k + 1)).map (fun i => (va_up am k q i, e))) := by
  rw [List.append_assoc, List.append_assoc, pl_up]
theorem pl_g1 {F : va_W} {n k q : Nat} {am : Nat → Nat} {e : va_E} (hF : F.length = n) : (F ++ (List.range (k + 1)).map (fun i => (va_up am k q i, e)))[n + k]? = some (q, e) := by
  subst hF
  rw [List.getElem?_append_right (by omega), Nat.add_sub_cancel_left, List.getElem?_map, List.getElem?_range (by omega)]
  simp [va_up_self]
theorem pl_g2 {F M : va_W} {n k q : Nat} {am : Nat → Nat} {e : va_E} (hF : F.length + M.length = n) : (F ++ (M ++ (List.range (k + 1)).map (fun i => (va_up am k q i, e))))[n + k]? = some (q, e) := by
  rw [← List.append_assoc]
  exact pl_g1 (by rw [List.length_append]; exact hF)
theorem up_in {fs : Nat → Option Nat} {am : Nat → Nat} {k q : Nat} (h : ∀ i, i < k → fs i = some (am i)) : ∀ i, i < k + 1 → va_up fs k (some q) i = some (va_up am k q i) := by
  intro i hi
  by_cases hk : i = k
  · subst hk; rw [va_up_self, va_up_self]
  · rw [va_up_ne _ _ hk, va_up_ne _ _ hk]; exact h i (by omega)
theorem cell_q {c n : Nat} {f g : Nat → Option Nat} (h : ∀ j, j < n → f j = g j) : vp_cell c (n, rQ f) = vp_cell c (n, rQ g) := by
  show arrV c n (fun j => va_rf (f j)) = arrV c n (fun j => va_rf (g j))
  exact arrV_cg (fun j hj => by rw [h j hj])
theorem fC_to {D : va_G} {ad am sm : Nat → Nat} {kc : Nat → ClassId} {fs gs : Nat → Option Nat} {X : va_W} {H : Heap} (h : va_P D classes (fC ad kc fs gs ++ X) H) (h1 : ∀ i, i < 1024 → fs i = some (am i)) (h2 : ∀ i, i < 16 → gs i = some (sm i)) : va_P D classes (fC ad kc (fun i => some (am i)) (fun i => some (sm i)) ++ X) H := by
  intro k q hk
  match k, hk with
  | 0, hk => exact h 0 q hk
  | 1, hk =>
    cases hk
    have h9 : H[ad 1]? = some (vp_cell (kc 0) (1024, rQ fs)) := h 1 _ rfl
    show H[ad 1]? = some (vp_cell (kc 0) (1024, rQ (fun i => some (am i))))
    rw [h9]
    rw [cell_q h1]
  | 2, hk => exact h 2 q hk
  | 3, hk => exact h 3 q hk
  | 4, hk => exact h 4 q hk
  | 5, hk =>
    cases hk
    have h9 : H[ad 5]? = some (vp_cell (kc 4) (16, rQ gs)) := h 5 _ rfl
    show H[ad 5]? = some (vp_cell (kc 4) (16, rQ (fun i => some (sm i))))
    rw [h9]
    rw [cell_q h2]
  | 6, hk => exact h 6 q hk
  | k + 7, hk => exact h (k + 7) q hk
section CINIT
variable {p : Program} {l : Launch} {e : Env} {s : State} {m : MethodId} {args : Array Value} {below : List Frame} {meth : Method} {c : Code} {D : va_G} {A : Nat → Prop} {ad : Nat → Nat} {kc : Nat → ClassId} {h : Nat}
set_option maxHeartbeats 4000000 in
set_option maxRecDepth 100000 in
theorem initC_2 (X : CallFix p m c b_C_init 2 s args gW R_C) (hr : meth.sig.returnType = none) (hlk : meth.locks = false) (h0 : ad 0 = h) (hK : va_K D classes (tysC kc) s) (hN : nW s) (hA : ∀ q : Nat, s.heap.size ≤ q → A q) {am : Nat → Nat} {fs : Nat → Option Nat} (hfs : ∀ i, i < 1024 → fs i = some (am i)) :
    ∀ (n k : Nat), k + n = 16 → ∀ (sm : Nat → Nat) (gs : Nat → Option Nat) (H : Heap) (locs : List Loc) (ls : Array Slot), (∀ i, i < k → gs i = some (sm i)) → va_P D classes (fC ad kc fs gs ++ ((List.range 1024).map (fun i => (am i, eK)) ++ (List.range k).map (fun i => (sm i, eS)))) H → va_D A (fC ad kc fs gs ++ ((List.range 1024).map (fun i => (am i, eK)) ++ (List.range k).map (fun i => (sm i, eS)))) → va_S A s.heap H locs → lv_has ls 2 [(1, .int (nI k)), (0, .ref (ad 0))] → W p l e ({ frames := 2, cells := 1046, slots := 11108, locals := 47 } : Room) s m args below meth c H locs (1030 + k) (11044 + 4 * k) (MQ below (va_Qv (fun _ : Unit => True) (fun _ t => ∃ (ad : Nat → Nat) (kc : Nat → ClassId) (am sm : Nat → Nat), ad 0 = h ∧ va_P D classes (wCs ad kc am sm g00 0 0 0 0) t.heap ∧ va_K D classes (tysC kc) t ∧ okC A ad am sm) A) args s 1046 11108 A) (F0 m 94 ls []) := by
  obtain ⟨hx, hb, hml, hown, hts⟩ := id X
  intro n
  induction n with
  | zero =>
    intro k hk sm gs H locs ls hgs hP hD hS hl
    have hk2 : k = 16 := by omega
    subst hk2
    refine lv_iload_n hx hb d_C_init_94 rfl (lv_at hl 0 rfl) ?_
    refine lv_bipush (v := 16) hx hb d_C_init_95 (by decide) ?_
    refine lv_icmp_ge (tgt := 119) hx hb d_C_init_97 (by decide) (fun c97t => ?_) (fun c97f => absurd (by decide) c97f)
    replace hP := fC_to hP hfs hgs
    replace hP : va_P D classes (wC ad kc am sm 0 0 0 0 0 0 0 0 (-100) 0 0 0 0 0 0 0 (fun _ => 0) (fun _ => 0) (fun _ => 0) (fun _ => 0) (fun _ => 0) (fun _ => 0) (fun _ => 0) (fun _ => 0) (fun _ => 0)) H := hP
    have hD2 : va_D A (wC ad kc am sm 0 0 0 0 0 0 0 0 (-100) 0 0 0 0 0 0 0 (fun _ => 0) (fun _ => 0) (fun _ => 0) (fun _ => 0) (fun _ => 0) (fun _ => 0) (fun _ => 0) (fun _ => 0) (fun _ => 0)) := by
      refine hD.fst ?_
      simp only [fC, wC, List.map_append, List.map_map, List.map_cons, List.map_nil]
      rfl
    have hO : okC A ad am sm := okC.of hD2
    have Z : cxC p m c _ _ s _ R_C D kc := ⟨X, hK, hN⟩
    refine lv_aload_n hx hb d_C_init_119 rfl (lv_at hl 1 rfl) ?_
    refine gC_strands Z hP d_C_init_120 ?_
    refine lv_iconst (v := 0) hx hb d_C_init_123 (by decide) ?_
    refine lC_strands Z hP (vp_in_nI (n := 0) (N := 16) (by decide) (by decide)) d_C_init_124 ?_
    refine lv_iconst (v := 1) hx hb d_C_init_125 (by decide) ?_
    refine pS_woken Z hP hO hS (by decide) (vp_lt (vp_in_nI (n := 0) (N := 16) (by decide) (by decide))) d_C_init_126 (fun H locs hP hS => ?_)
    refine W.widen (k := 1046) (n := 11108) (Nat.le_of_ble_eq_true rfl) (Nat.le_of_ble_eq_true rfl) ?_
    exact W.vret hx hb hr (fun t ht hW => ⟨⟨(), rfl, trivial, ad, kc, am, sm, h0, by rw [ht]; exact hP, va_K.moved hW.alike hK, hO⟩, hS.F ht⟩) hS.2.2 d_C_init_129 hlk
  | succ n ih =>
    intro k hk sm gs H locs ls hgs hP hD hS hl
    refine lv_iload_n hx hb d_C_init_94 rfl (lv_at hl 0 rfl) ?_
    refine lv_bipush (v := 16) hx hb d_C_init_95 (by decide) ?_
    refine lv_icmp_ge (tgt := 119) hx hb d_C_init_97 (by decide) (fun c97t => absurd c97t (nI_ge (b := 16) (by omega) (by decide))) (fun c97f => ?_)
    refine lv_aload_n hx hb d_C_init_100 rfl (lv_at hl 1 rfl) ?_
    refine va_get (D := D) (ci := 0) (v := .ref (ad 5)) (C := R_C) (T := F_C) (N := 22) hx hb hts i_C hown hK hP 0 rfl rfl 4 (by decide) (hts _ q_79) (fun _ h9 => h9) rfl d_C_init_101 ?_
    refine lv_iload_n hx hb d_C_init_104 rfl (lv_at hl 0 rfl) ?_
    have hc1 : 1030 + k + 1 ≤ 1046 := by omega
    have hs1 : 11044 + 4 * k + 4 ≤ 11108 := by omega
    refine va_new (ci := 2) (fs := [.int 0, .int 0, .int 0, .int 0]) (C := R_S) (T := F_S) (N := 4) hx hb hts i_S t_S t_S_ok hown (hts _ q_16) (hts _ q_57) (hts _ q_3) hK hP hD hS hA rfl dS hc1 hs1 d_C_init_105 (fun q H hP hD hS => ?_)
    rw [show (Sum.inr (2, [Value.int 0, .int 0, .int 0, .int 0]) : va_E) = eS from rfl, pl_p2] at hP hD
    refine lv_dup hx hb d_C_init_108 rfl ?_
    refine callI0 X (c_S_init l q) (hN.1 _ q_58) q_3 q_59 q_60 rfl (by decide +kernel) ⟨Nat.le_of_ble_eq_true rfl, Nat.le_of_ble_eq_true rfl⟩ ⟨hc1, hs1⟩ hl.1 (Nat.le_of_ble_eq_true rfl) d_C_init_109 ?_
    refine va_astq hx hb hK hP hD hS 5 4 (1031 + k) 2 (r := (R_S, F_S, 4)) (vs := [.int 0, .int 0, .int 0, .int 0]) rfl rfl (pl_g2 (by rw [List.length_map, List.length_range]; rfl)) rfl (vp_in_nI (n := k) (N := 16) (by omega) (by decide)) d_C_init_112 (fun H locs hP hD hS => ?_)
    rw [nI_clamp (n := k) (by omega)] at hP hD
    refine lv_iinc (lv' := [(1, _), (0, _)]) hx hb d_C_init_113 hl (k := 0) rfl rfl (by decide) rfl (fun ls hl => ?_)
    refine lv_goto (tgt := 94) hx hb d_C_init_116 (by decide) ?_
    rw [show nI k + Int32.ofInt 1 = nI (k + 1) from nI_1 k] at hl
    exact ih (k + 1) (by omega) (va_up sm k q) (va_up gs k (some q)) H locs ls (up_in hgs) hP hD hS hl
set_option maxHeartbeats 4000000 in
set_option maxRecDepth 100000 in
theorem initC_1 (X : CallFix p m c b_C_init 2 s args gW R_C) (hr : meth.sig.returnType = none) (hlk : meth.locks = false) (h0 : ad 0 = h) (hK : va_K D classes (tysC kc) s) (hN : nW s) (hA : ∀ q : Nat, s.heap.size ≤ q → A q) :
    ∀ (n k : Nat), k + n = 1024 → ∀ (am : Nat → Nat) (fs : Nat → Option Nat) (H : Heap) (locs : List Loc) (ls : Array Slot), (∀ i, i < k → fs i = some (am i)) → va_P D classes (fC ad kc fs (fun _ => none) ++ (List.range k).map (fun i => (am i, eK))) H → va_D A (fC ad kc fs (fun _ => none) ++ (List.range k).map (fun i => (am i, eK))) → va_S A s.heap H locs → lv_has ls 2 [(1, .int (nI k)), (0, .ref (ad 0))] → W p l e ({ frames := 2, cells := 1046, slots := 11108, locals := 47 } : Room) s m args below meth c H locs (6 + k) (2852 + 8 * k) (MQ below (va_Qv (fun _ : Unit => True) (fun _ t => ∃ (ad : Nat → Nat) (kc : Nat → ClassId) (am sm : Nat → Nat), ad 0 = h ∧ va_P D classes (wCs ad kc am sm g00 0 0 0 0) t.heap ∧ va_K D classes (tysC kc) t ∧ okC A ad am sm) A) args s 1046 11108 A) (F0 m 66 ls []) := by
  obtain ⟨hx, hb, hml, hown, hts⟩ := id X
  intro n
  induction n with
  | zero =>
    intro k hk am fs H locs ls hfs hP hD hS hl
    have hk2 : k = 1024 := by omega
    subst hk2
    refine lv_iload_n hx hb d_C_init_66 rfl (lv_at hl 0 rfl) ?_
    refine lv_sipush (v := 1024) hx hb d_C_init_67 (by decide) ?_
    refine lv_icmp_ge (tgt := 92) hx hb d_C_init_70 (by decide) (fun c70t => ?_) (fun c70f => absurd (by decide) c70f)
    refine lv_iconst (v := 0) hx hb d_C_init_92 (by decide) ?_
    refine lv_istore_n (lv' := [(1, _), (0, _)]) hx hb d_C_init_93 rfl hl (by decide) rfl (fun ls hl => ?_)
    exact initC_2 X hr hlk h0 hK hN hA hfs 16 0 (by decide) (fun _ => 0) (fun _ => none) H locs ls (fun i hi => absurd hi (Nat.not_lt_zero i)) (by rw [List.range_zero, List.map_nil, List.append_nil]; exact hP) (by rw [List.range_zero, List.map_nil, List.append_nil]; exact hD) hS hl
  | succ n ih =>
    intro k hk am fs H locs ls hfs hP hD hS hl
    refine lv_iload_n hx hb d_C_init_66 rfl (lv_at hl 0 rfl) ?_
    refine lv_sipush (v := 1024) hx hb d_C_init_67 (by decide) ?_
    refine lv_icmp_ge (tgt := 92) hx hb d_C_init_70 (by decide) (fun c70t => absurd c70t (nI_ge (b := 1024) (by omega) (by decide))) (fun c70f => ?_)
    refine lv_aload_n hx hb d_C_init_73 rfl (lv_at hl 1 rfl) ?_
    refine va_get (D := D) (ci := 0) (v := .ref (ad 1)) (C := R_C) (T := F_C) (N := 22) hx hb hts i_C hown hK hP 0 rfl rfl 0 (by decide) (hts _ q_75) (fun _ h9 => h9) rfl d_C_init_74 ?_
    refine lv_iload_n hx hb d_C_init_77 rfl (lv_at hl 0 rfl) ?_
    have hc1 : 6 + k + 1 ≤ 1046 := by omega
    have hs1 : 2852 + 8 * k + 8 ≤ 11108 := by omega
    refine va_new (ci := 1) (fs := mf 0) (C := R_K) (T := F_K) (N := 8) hx hb hts i_K t_K t_K_ok hown (hts _ q_14) (hts _ q_18) (hts _ q_2) hK hP hD hS hA rfl dK hc1 hs1 d_C_init_78 (fun q H hP hD hS => ?_)
    rw [show (Sum.inr (1, mf 0) : va_E) = eK from rfl, pl_p1] at hP hD
    refine lv_dup hx hb d_C_init_81 rfl ?_
    refine callI0 X (c_K_init l q) (hN.1 _ q_19) q_2 q_20 q_21 rfl (by decide +kernel) ⟨Nat.le_of_ble_eq_true rfl, Nat.le_of_ble_eq_true rfl⟩ ⟨hc1, hs1⟩ hl.1 (Nat.le_of_ble_eq_true rfl) d_C_init_82 ?_
    refine va_astq hx hb hK hP hD hS 1 0 (7 + k) 1 (r := (R_K, F_K, 8)) (vs := mf 0) rfl rfl (pl_g1 rfl) rfl (vp_in_nI (n := k) (N := 1024) (by omega) (by decide)) d_C_init_85 (fun H locs hP hD hS => ?_)
    rw [nI_clamp (n := k) (by omega)] at hP hD
    refine lv_iinc (lv' := [(1, _), (0, _)]) hx hb d_C_init_86 hl (k := 0) rfl rfl (by decide) rfl (fun ls hl => ?_)
    refine lv_goto (tgt := 66) hx hb d_C_init_89 (by decide) ?_
    rw [show nI k + Int32.ofInt 1 = nI (k + 1) from nI_1 k] at hl
    exact ih (k + 1) (by omega) (va_up am k q) (va_up fs k (some q)) H locs ls (up_in hfs) hP hD hS hl
end CINIT
def dC0 : List Value := [.null, .null, .null, .null, .null, .null, .int 0, .int 0, .int 0, .int 0, .int 0, .int 0, .int 0, .int 0, .int 0, .int 0, .int 0, .int 0, .int 0, .int 0, .int 0, .int 0]
set_option maxHeartbeats 4000000 in
set_option maxRecDepth 100000 in
theorem c_C_init (l : Launch) (D : va_G) (h sz : Nat) : Met l y_C_init (Cond.code y_C_init b_C_init 2 none :: gW) ({ frames := 2, cells := 1046, slots := 11108, locals := 47 } : Room) (va_Pc [.ref h] (bN D sz [(h, .inr (0, dC0))])) (va_Qv (fun _ : Unit => True) (fun _ t => ∃ (ad : Nat → Nat) (kc : Nat → ClassId) (am sm : Nat → Nat), ad 0 = h ∧ va_P D classes (wCs ad kc am sm g00 0 0 0 0) t.heap ∧ va_K D classes (tysC kc) t ∧ okC (fun q => q = h ∨ sz ≤ q) ad am sm) (fun q => q = h ∨ sz ≤ q)) 1046 11108 (fun q => q = h ∨ sz ≤ q) := by
  refine startM (by decide) (Nat.le_of_ble_eq_true rfl) ?_
  intro p e s m below meth c ls X hr hlk hnm hB hl
  replace X : CallFix p m c b_C_init 2 s _ gW R_C := X
  obtain ⟨hx, hb, hml, hown, hts⟩ := id X
  obtain ⟨hsz, hP, hK, hN⟩ := hB
  subst hsz
  have hD : va_D (fun q => q = h ∨ s.heap.size ≤ q) [(h, .inr (0, dC0))] := ok1h (Or.inl rfl)
  generalize hAe : (fun q => q = h ∨ s.heap.size ≤ q) = A at hD ⊢
  have hA : ∀ q : Nat, s.heap.size ≤ q → A q := fun q z => by rw [← hAe]; exact Or.inr z
  have hS : va_S A s.heap s.heap [] := va_S.rf
  refine lv_aload_n hx hb d_C_init_0 rfl (lv_at hl 0 rfl) ?_
  refine W.objInit hx hb hown (hts _ q_11) (hts _ q_12) (hts _ q_13) rfl (by rw [hml]; exact hl.1) rfl d_C_init_1 (Nat.le_of_ble_eq_true rfl) (Nat.le_of_ble_eq_true rfl) ?_
  refine W.eq (g2 := F0 m 4 ls []) rfl ?_
  replace hP : va_P D classes [(h, .inr (0, [.null, .null, .null, .null, .null, .null, .int 0, .int 0, .int 0, .int 0, .int 0, .int 0, .int 0, .int 0, .int 0, .int 0, .int 0, .int 0, .int 0, .int 0, .int 0, .int 0]))] s.heap := hP
  replace hD : va_D A [(h, .inr (0, [.null, .null, .null, .null, .null, .null, .int 0, .int 0, .int 0, .int 0, .int 0, .int 0, .int 0, .int 0, .int 0, .int 0, .int 0, .int 0, .int 0, .int 0, .int 0, .int 0]))] := hD
  refine lv_aload_n hx hb d_C_init_4 rfl (lv_at hl 0 rfl) ?_
  refine lv_sipush (v := 1024) hx hb d_C_init_5 (by decide) ?_
  refine va_newq hx hb hown (hts _ q_14) hN.2.1 hK hP hD hS hA (N' := 1024) (by decide) (by decide) (by decide) (Nat.le_of_ble_eq_true rfl) (Nat.le_of_ble_eq_true rfl) d_C_init_8 (fun q1 k1 H hK hP hD hS => ?_)
  replace hP : va_P D classes [(h, .inr (0, [.null, .null, .null, .null, .null, .null, .int 0, .int 0, .int 0, .int 0, .int 0, .int 0, .int 0, .int 0, .int 0, .int 0, .int 0, .int 0, .int 0, .int 0, .int 0, .int 0])), (q1, .inl (k1, 1024, rQ (fun _ => none)))] H := hP
  replace hD : va_D A [(h, .inr (0, [.null, .null, .null, .null, .null, .null, .int 0, .int 0, .int 0, .int 0, .int 0, .int 0, .int 0, .int 0, .int 0, .int 0, .int 0, .int 0, .int 0, .int 0, .int 0, .int 0])), (q1, .inl (k1, 1024, rQ (fun _ => none)))] := hD
  replace hK : va_K D classes [(k1, .object R_K)] s := hK
  refine va_putF (D := D) (ci := 0) (v := .ref q1) (ty := .array (.object "MicroTasks$Micro")) (C := R_C) (T := F_C) (N := 22) hx hb hts i_C t_C t_C_ok n_C hown hK hP hD hS 0 rfl rfl 0 (by decide) (hts _ q_75) (fun _ h9 => h9) rfl hnm rfl (by decide +kernel) rfl rfl (Nat.le_of_ble_eq_true rfl) d_C_init_11 (fun H locs hP hD hS => ?_)
  replace hP : va_P D classes [(h, .inr (0, [.ref q1, .null, .null, .null, .null, .null, .int 0, .int 0, .int 0, .int 0, .int 0, .int 0, .int 0, .int 0, .int 0, .int 0, .int 0, .int 0, .int 0, .int 0, .int 0, .int 0])), (q1, .inl (k1, 1024, rQ (fun _ => none)))] H := hP
  replace hD : va_D A [(h, .inr (0, [.ref q1, .null, .null, .null, .null, .null, .int 0, .int 0, .int 0, .int 0, .int 0, .int 0, .int 0, .int 0, .int 0, .int 0, .int 0, .int 0, .int 0, .int 0, .int 0, .int 0])), (q1, .inl (k1, 1024, rQ (fun _ => none)))] := hD
  refine lv_aload_n hx hb d_C_init_14 rfl (lv_at hl 0 rfl) ?_
  refine lv_sipush (v := 256) hx hb d_C_init_15 (by decide) ?_
  refine va_newa (atype := .int) (a0 := (256, .inl (fun _ => 0))) hx hb (hts _ q_56) (ty := .int) rfl hK hP hD hS hA (fun _ => rfl) (by decide) (by decide) (N' := 256) (by decide) (Nat.le_of_ble_eq_true rfl) (Nat.le_of_ble_eq_true rfl) d_C_init_18 (fun q2 k2 H hK hP hD hS => ?_)
  replace hP : va_P D classes [(h, .inr (0, [.ref q1, .null, .null, .null, .null, .null, .int 0, .int 0, .int 0, .int 0, .int 0, .int 0, .int 0, .int 0, .int 0, .int 0, .int 0, .int 0, .int 0, .int 0, .int 0, .int 0])), (q1, .inl (k1, 1024, rQ (fun _ => none))), (q2, .inl (k2, 256, .inl (fun _ => 0)))] H := hP
  replace hD : va_D A [(h, .inr (0, [.ref q1, .null, .null, .null, .null, .null, .int 0, .int 0, .int 0, .int 0, .int 0, .int 0, .int 0, .int 0, .int 0, .int 0, .int 0, .int 0, .int 0, .int 0, .int 0, .int 0])), (q1, .inl (k1, 1024, rQ (fun _ => none))), (q2, .inl (k2, 256, .inl (fun _ => 0)))] := hD
  replace hK : va_K D classes [(k1, .object R_K), (k2, .int)] s := hK
  refine va_putF (D := D) (ci := 0) (v := .ref q2) (ty := .array .int) (C := R_C) (T := F_C) (N := 22) hx hb hts i_C t_C t_C_ok n_C hown hK hP hD hS 0 rfl rfl 1 (by decide) (hts _ q_76) (fun _ h9 => h9) rfl hnm rfl (by decide +kernel) rfl rfl (Nat.le_of_ble_eq_true rfl) d_C_init_20 (fun H locs hP hD hS => ?_)
  replace hP : va_P D classes [(h, .inr (0, [.ref q1, .ref q2, .null, .null, .null, .null, .int 0, .int 0, .int 0, .int 0, .int 0, .int 0, .int 0, .int 0, .int 0, .int 0, .int 0, .int 0, .int 0, .int 0, .int 0, .int 0])), (q1, .inl (k1, 1024, rQ (fun _ => none))), (q2, .inl (k2, 256, .inl (fun _ => 0)))] H := hP
  replace hD : va_D A [(h, .inr (0, [.ref q1, .ref q2, .null, .null, .null, .null, .int 0, .int 0, .int 0, .int 0, .int 0, .int 0, .int 0, .int 0, .int 0, .int 0, .int 0, .int 0, .int 0, .int 0, .int 0, .int 0])), (q1, .inl (k1, 1024, rQ (fun _ => none))), (q2, .inl (k2, 256, .inl (fun _ => 0)))] := hD
  refine lv_aload_n hx hb d_C_init_23 rfl (lv_at hl 0 rfl) ?_
  refine lv_sipush (v := 1024) hx hb d_C_init_24 (by decide) ?_
  refine va_newa (atype := .int) (a0 := (1024, .inl (fun _ => 0))) hx hb (hts _ q_56) (ty := .int) rfl hK hP hD hS hA (fun _ => rfl) (by decide) (by decide) (N' := 1024) (by decide) (Nat.le_of_ble_eq_true rfl) (Nat.le_of_ble_eq_true rfl) d_C_init_27 (fun q3 k3 H hK hP hD hS => ?_)
  replace hP : va_P D classes [(h, .inr (0, [.ref q1, .ref q2, .null, .null, .null, .null, .int 0, .int 0, .int 0, .int 0, .int 0, .int 0, .int 0, .int 0, .int 0, .int 0, .int 0, .int 0, .int 0, .int 0, .int 0, .int 0])), (q1, .inl (k1, 1024, rQ (fun _ => none))), (q2, .inl (k2, 256, .inl (fun _ => 0))), (q3, .inl (k3, 1024, .inl (fun _ => 0)))] H := hP
  replace hD : va_D A [(h, .inr (0, [.ref q1, .ref q2, .null, .null, .null, .null, .int 0, .int 0, .int 0, .int 0, .int 0, .int 0, .int 0, .int 0, .int 0, .int 0, .int 0, .int 0, .int 0, .int 0, .int 0, .int 0])), (q1, .inl (k1, 1024, rQ (fun _ => none))), (q2, .inl (k2, 256, .inl (fun _ => 0))), (q3, .inl (k3, 1024, .inl (fun _ => 0)))] := hD
  replace hK : va_K D classes [(k1, .object R_K), (k2, .int), (k3, .int)] s := hK
  refine va_putF (D := D) (ci := 0) (v := .ref q3) (ty := .array .int) (C := R_C) (T := F_C) (N := 22) hx hb hts i_C t_C t_C_ok n_C hown hK hP hD hS 0 rfl rfl 2 (by decide) (hts _ q_77) (fun _ h9 => h9) rfl hnm rfl (by decide +kernel) rfl rfl (Nat.le_of_ble_eq_true rfl) d_C_init_29 (fun H locs hP hD hS => ?_)
  replace hP : va_P D classes [(h, .inr (0, [.ref q1, .ref q2, .ref q3, .null, .null, .null, .int 0, .int 0, .int 0, .int 0, .int 0, .int 0, .int 0, .int 0, .int 0, .int 0, .int 0, .int 0, .int 0, .int 0, .int 0, .int 0])), (q1, .inl (k1, 1024, rQ (fun _ => none))), (q2, .inl (k2, 256, .inl (fun _ => 0))), (q3, .inl (k3, 1024, .inl (fun _ => 0)))] H := hP
  replace hD : va_D A [(h, .inr (0, [.ref q1, .ref q2, .ref q3, .null, .null, .null, .int 0, .int 0, .int 0, .int 0, .int 0, .int 0, .int 0, .int 0, .int 0, .int 0, .int 0, .int 0, .int 0, .int 0, .int 0, .int 0])), (q1, .inl (k1, 1024, rQ (fun _ => none))), (q2, .inl (k2, 256, .inl (fun _ => 0))), (q3, .inl (k3, 1024, .inl (fun _ => 0)))] := hD
  refine lv_aload_n hx hb d_C_init_32 rfl (lv_at hl 0 rfl) ?_
  refine lv_bipush (v := 32) hx hb d_C_init_33 (by decide) ?_
  refine va_newa (atype := .int) (a0 := (32, .inl (fun _ => 0))) hx hb (hts _ q_56) (ty := .int) rfl hK hP hD hS hA (fun _ => rfl) (by decide) (by decide) (N' := 32) (by decide) (Nat.le_of_ble_eq_true rfl) (Nat.le_of_ble_eq_true rfl) d_C_init_35 (fun q4 k4 H hK hP hD hS => ?_)
  replace hP : va_P D classes [(h, .inr (0, [.ref q1, .ref q2, .ref q3, .null, .null, .null, .int 0, .int 0, .int 0, .int 0, .int 0, .int 0, .int 0, .int 0, .int 0, .int 0, .int 0, .int 0, .int 0, .int 0, .int 0, .int 0])), (q1, .inl (k1, 1024, rQ (fun _ => none))), (q2, .inl (k2, 256, .inl (fun _ => 0))), (q3, .inl (k3, 1024, .inl (fun _ => 0))), (q4, .inl (k4, 32, .inl (fun _ => 0)))] H := hP
  replace hD : va_D A [(h, .inr (0, [.ref q1, .ref q2, .ref q3, .null, .null, .null, .int 0, .int 0, .int 0, .int 0, .int 0, .int 0, .int 0, .int 0, .int 0, .int 0, .int 0, .int 0, .int 0, .int 0, .int 0, .int 0])), (q1, .inl (k1, 1024, rQ (fun _ => none))), (q2, .inl (k2, 256, .inl (fun _ => 0))), (q3, .inl (k3, 1024, .inl (fun _ => 0))), (q4, .inl (k4, 32, .inl (fun _ => 0)))] := hD
  replace hK : va_K D classes [(k1, .object R_K), (k2, .int), (k3, .int), (k4, .int)] s := hK
  refine va_putF (D := D) (ci := 0) (v := .ref q4) (ty := .array .int) (C := R_C) (T := F_C) (N := 22) hx hb hts i_C t_C t_C_ok n_C hown hK hP hD hS 0 rfl rfl 3 (by decide) (hts _ q_78) (fun _ h9 => h9) rfl hnm rfl (by decide +kernel) rfl rfl (Nat.le_of_ble_eq_true rfl) d_C_init_37 (fun H locs hP hD hS => ?_)
  replace hP : va_P D classes [(h, .inr (0, [.ref q1, .ref q2, .ref q3, .ref q4, .null, .null, .int 0, .int 0, .int 0, .int 0, .int 0, .int 0, .int 0, .int 0, .int 0, .int 0, .int 0, .int 0, .int 0, .int 0, .int 0, .int 0])), (q1, .inl (k1, 1024, rQ (fun _ => none))), (q2, .inl (k2, 256, .inl (fun _ => 0))), (q3, .inl (k3, 1024, .inl (fun _ => 0))), (q4, .inl (k4, 32, .inl (fun _ => 0)))] H := hP
  replace hD : va_D A [(h, .inr (0, [.ref q1, .ref q2, .ref q3, .ref q4, .null, .null, .int 0, .int 0, .int 0, .int 0, .int 0, .int 0, .int 0, .int 0, .int 0, .int 0, .int 0, .int 0, .int 0, .int 0, .int 0, .int 0])), (q1, .inl (k1, 1024, rQ (fun _ => none))), (q2, .inl (k2, 256, .inl (fun _ => 0))), (q3, .inl (k3, 1024, .inl (fun _ => 0))), (q4, .inl (k4, 32, .inl (fun _ => 0)))] := hD
  refine lv_aload_n hx hb d_C_init_40 rfl (lv_at hl 0 rfl) ?_
  refine lv_bipush (v := 16) hx hb d_C_init_41 (by decide) ?_
  refine va_newq hx hb hown (hts _ q_16) hN.2.2 hK hP hD hS hA (N' := 16) (by decide) (by decide) (by decide) (Nat.le_of_ble_eq_true rfl) (Nat.le_of_ble_eq_true rfl) d_C_init_43 (fun q5 k5 H hK hP hD hS => ?_)
  replace hP : va_P D classes [(h, .inr (0, [.ref q1, .ref q2, .ref q3, .ref q4, .null, .null, .int 0, .int 0, .int 0, .int 0, .int 0, .int 0, .int 0, .int 0, .int 0, .int 0, .int 0, .int 0, .int 0, .int 0, .int 0, .int 0])), (q1, .inl (k1, 1024, rQ (fun _ => none))), (q2, .inl (k2, 256, .inl (fun _ => 0))), (q3, .inl (k3, 1024, .inl (fun _ => 0))), (q4, .inl (k4, 32, .inl (fun _ => 0))), (q5, .inl (k5, 16, rQ (fun _ => none)))] H := hP
  replace hD : va_D A [(h, .inr (0, [.ref q1, .ref q2, .ref q3, .ref q4, .null, .null, .int 0, .int 0, .int 0, .int 0, .int 0, .int 0, .int 0, .int 0, .int 0, .int 0, .int 0, .int 0, .int 0, .int 0, .int 0, .int 0])), (q1, .inl (k1, 1024, rQ (fun _ => none))), (q2, .inl (k2, 256, .inl (fun _ => 0))), (q3, .inl (k3, 1024, .inl (fun _ => 0))), (q4, .inl (k4, 32, .inl (fun _ => 0))), (q5, .inl (k5, 16, rQ (fun _ => none)))] := hD
  replace hK : va_K D classes [(k1, .object R_K), (k2, .int), (k3, .int), (k4, .int), (k5, .object R_S)] s := hK
  refine va_putF (D := D) (ci := 0) (v := .ref q5) (ty := .array (.object "MicroTasks$Strand")) (C := R_C) (T := F_C) (N := 22) hx hb hts i_C t_C t_C_ok n_C hown hK hP hD hS 0 rfl rfl 4 (by decide) (hts _ q_79) (fun _ h9 => h9) rfl hnm rfl (by decide +kernel) rfl rfl (Nat.le_of_ble_eq_true rfl) d_C_init_46 (fun H locs hP hD hS => ?_)
  replace hP : va_P D classes [(h, .inr (0, [.ref q1, .ref q2, .ref q3, .ref q4, .ref q5, .null, .int 0, .int 0, .int 0, .int 0, .int 0, .int 0, .int 0, .int 0, .int 0, .int 0, .int 0, .int 0, .int 0, .int 0, .int 0, .int 0])), (q1, .inl (k1, 1024, rQ (fun _ => none))), (q2, .inl (k2, 256, .inl (fun _ => 0))), (q3, .inl (k3, 1024, .inl (fun _ => 0))), (q4, .inl (k4, 32, .inl (fun _ => 0))), (q5, .inl (k5, 16, rQ (fun _ => none)))] H := hP
  replace hD : va_D A [(h, .inr (0, [.ref q1, .ref q2, .ref q3, .ref q4, .ref q5, .null, .int 0, .int 0, .int 0, .int 0, .int 0, .int 0, .int 0, .int 0, .int 0, .int 0, .int 0, .int 0, .int 0, .int 0, .int 0, .int 0])), (q1, .inl (k1, 1024, rQ (fun _ => none))), (q2, .inl (k2, 256, .inl (fun _ => 0))), (q3, .inl (k3, 1024, .inl (fun _ => 0))), (q4, .inl (k4, 32, .inl (fun _ => 0))), (q5, .inl (k5, 16, rQ (fun _ => none)))] := hD
  refine lv_aload_n hx hb d_C_init_49 rfl (lv_at hl 0 rfl) ?_
  refine lv_sipush (v := 500) hx hb d_C_init_50 (by decide) ?_
  refine va_newa (atype := .int) (a0 := (500, .inl (fun _ => 0))) hx hb (hts _ q_56) (ty := .int) rfl hK hP hD hS hA (fun _ => rfl) (by decide) (by decide) (N' := 500) (by decide) (Nat.le_of_ble_eq_true rfl) (Nat.le_of_ble_eq_true rfl) d_C_init_53 (fun q6 k6 H hK hP hD hS => ?_)
  replace hP : va_P D classes [(h, .inr (0, [.ref q1, .ref q2, .ref q3, .ref q4, .ref q5, .null, .int 0, .int 0, .int 0, .int 0, .int 0, .int 0, .int 0, .int 0, .int 0, .int 0, .int 0, .int 0, .int 0, .int 0, .int 0, .int 0])), (q1, .inl (k1, 1024, rQ (fun _ => none))), (q2, .inl (k2, 256, .inl (fun _ => 0))), (q3, .inl (k3, 1024, .inl (fun _ => 0))), (q4, .inl (k4, 32, .inl (fun _ => 0))), (q5, .inl (k5, 16, rQ (fun _ => none))), (q6, .inl (k6, 500, .inl (fun _ => 0)))] H := hP
  replace hD : va_D A [(h, .inr (0, [.ref q1, .ref q2, .ref q3, .ref q4, .ref q5, .null, .int 0, .int 0, .int 0, .int 0, .int 0, .int 0, .int 0, .int 0, .int 0, .int 0, .int 0, .int 0, .int 0, .int 0, .int 0, .int 0])), (q1, .inl (k1, 1024, rQ (fun _ => none))), (q2, .inl (k2, 256, .inl (fun _ => 0))), (q3, .inl (k3, 1024, .inl (fun _ => 0))), (q4, .inl (k4, 32, .inl (fun _ => 0))), (q5, .inl (k5, 16, rQ (fun _ => none))), (q6, .inl (k6, 500, .inl (fun _ => 0)))] := hD
  replace hK : va_K D classes [(k1, .object R_K), (k2, .int), (k3, .int), (k4, .int), (k5, .object R_S), (k6, .int)] s := hK
  refine va_putF (D := D) (ci := 0) (v := .ref q6) (ty := .array .int) (C := R_C) (T := F_C) (N := 22) hx hb hts i_C t_C t_C_ok n_C hown hK hP hD hS 0 rfl rfl 5 (by decide) (hts _ q_80) (fun _ h9 => h9) rfl hnm rfl (by decide +kernel) rfl rfl (Nat.le_of_ble_eq_true rfl) d_C_init_55 (fun H locs hP hD hS => ?_)
  replace hP : va_P D classes [(h, .inr (0, [.ref q1, .ref q2, .ref q3, .ref q4, .ref q5, .ref q6, .int 0, .int 0, .int 0, .int 0, .int 0, .int 0, .int 0, .int 0, .int 0, .int 0, .int 0, .int 0, .int 0, .int 0, .int 0, .int 0])), (q1, .inl (k1, 1024, rQ (fun _ => none))), (q2, .inl (k2, 256, .inl (fun _ => 0))), (q3, .inl (k3, 1024, .inl (fun _ => 0))), (q4, .inl (k4, 32, .inl (fun _ => 0))), (q5, .inl (k5, 16, rQ (fun _ => none))), (q6, .inl (k6, 500, .inl (fun _ => 0)))] H := hP
  replace hD : va_D A [(h, .inr (0, [.ref q1, .ref q2, .ref q3, .ref q4, .ref q5, .ref q6, .int 0, .int 0, .int 0, .int 0, .int 0, .int 0, .int 0, .int 0, .int 0, .int 0, .int 0, .int 0, .int 0, .int 0, .int 0, .int 0])), (q1, .inl (k1, 1024, rQ (fun _ => none))), (q2, .inl (k2, 256, .inl (fun _ => 0))), (q3, .inl (k3, 1024, .inl (fun _ => 0))), (q4, .inl (k4, 32, .inl (fun _ => 0))), (q5, .inl (k5, 16, rQ (fun _ => none))), (q6, .inl (k6, 500, .inl (fun _ => 0)))] := hD
  refine lv_aload_n hx hb d_C_init_58 rfl (lv_at hl 0 rfl) ?_
  refine lv_bipush (v := (-100)) hx hb d_C_init_59 (by decide) ?_
  refine va_put (D := D) (ci := 0) (v := .int (-100)) (ty := .int) (C := R_C) (T := F_C) (N := 22) hx hb hts i_C t_C t_C_ok n_C hown hK hP hD hS 0 rfl rfl 14 (by decide) (hts _ q_89) (fun _ h9 => h9) rfl (by decide +kernel) rfl rfl (Nat.le_of_ble_eq_true rfl) d_C_init_61 (fun H locs hP hD hS => ?_)
  replace hP : va_P D classes [(h, .inr (0, [.ref q1, .ref q2, .ref q3, .ref q4, .ref q5, .ref q6, .int 0, .int 0, .int 0, .int 0, .int 0, .int 0, .int 0, .int 0, .int (-100), .int 0, .int 0, .int 0, .int 0, .int 0, .int 0, .int 0])), (q1, .inl (k1, 1024, rQ (fun _ => none))), (q2, .inl (k2, 256, .inl (fun _ => 0))), (q3, .inl (k3, 1024, .inl (fun _ => 0))), (q4, .inl (k4, 32, .inl (fun _ => 0))), (q5, .inl (k5, 16, rQ (fun _ => none))), (q6, .inl (k6, 500, .inl (fun _ => 0)))] H := hP
  replace hD : va_D A [(h, .inr (0, [.ref q1, .ref q2, .ref q3, .ref q4, .ref q5, .ref q6, .int 0, .int 0, .int 0, .int 0, .int 0, .int 0, .int 0, .int 0, .int (-100), .int 0, .int 0, .int 0, .int 0, .int 0, .int 0, .int 0])), (q1, .inl (k1, 1024, rQ (fun _ => none))), (q2, .inl (k2, 256, .inl (fun _ => 0))), (q3, .inl (k3, 1024, .inl (fun _ => 0))), (q4, .inl (k4, 32, .inl (fun _ => 0))), (q5, .inl (k5, 16, rQ (fun _ => none))), (q6, .inl (k6, 500, .inl (fun _ => 0)))] := hD
  subst hAe
  refine lv_iconst (v := 0) hx hb d_C_init_64 (by decide) ?_
  refine lv_istore_n (lv' := [(1, _), (0, _)]) hx hb d_C_init_65 rfl hl (by decide) rfl (fun ls hl => ?_)
  refine W.cs (cells' := 6 + 0) (slots' := 2852 + 8 * 0) rfl rfl ?_
  exact initC_1 (ad := (fun k => match k with | 0 => h | 1 => q1 | 2 => q2 | 3 => q3 | 4 => q4 | 5 => q5 | _ => q6)) (kc := (fun k => match k with | 0 => k1 | 1 => k2 | 2 => k3 | 3 => k4 | 4 => k5 | _ => k6)) X hr hlk rfl hK hN hA 1024 0 (by decide) (fun _ => 0) (fun _ => none) H locs ls (fun i hi => absurd hi (Nat.not_lt_zero i)) (by rw [List.range_zero, List.map_nil, List.append_nil]; exact hP) (by rw [List.range_zero, List.map_nil, List.append_nil]; exact hD) hS hl
end
section
/-! THE CLAIM OUT OF ONE WALK OF THE LAW'S BODY. Your part is whole_start (and what it stands on); all else here is the same for every law, but numbers. -/
def R_law : String := "MicroTasksLaw"
def lw_P (b : Addr) (xs : List Int32) (args : Array Value) (s : State) : Prop := args = #[.ref b] ∧ s.IntsAt b xs ∧ xs.length ≤ 1536 ∧ (Jvm.Cond.and given_1 narrow_1).before args s = true
def lw_Q (_ : Array Value) (s : State) (o : Outcome) (t : State) : Prop := o = .returned (some (.int 1)) ∧ Framed s o t [] 600000 7302250
def lw_Z (below : List Frame) (a : Array Value) (s : State) : State → Prop := fun t => ∃ o, t.status = .running ∧ Ended t below o ∧ lw_Q a s o t
/-- the law's own end, with 1 on the stack, nothing written that was there before, its room as the claim has it -/
theorem lw_ret {p : Program} {l : Launch} {e : Env} {s : State} {m : MethodId} {below : List Frame} {meth : Method} {c : Code} {b : Nat} (hx : p.tables.exec = Jvm.exec) (hb : c.code = code) (hr : meth.sig.returnType = ret) (hlocks : meth.locks = false) {pc : Nat} {H : Heap} {ls : Array Slot} (hdg : decode code pc = .ok (.ireturn, 1)) : W p l e room_1 s m #[Value.ref b] below meth c H [] 600000 7302250 (lw_Z below #[Value.ref b] s) (F0 m pc ls [.int 1]) := by
  intro T hT X
  obtain ⟨fs, hret, hrun, hended, hW, hframe⟩ := X.leave (v := some (.int 1)) (hlocks := hlocks) (fun h => by rw [hr] at h; cases h)
  have hmeth' : T.vm.method? m = some meth := X.method'
  refine ⟨T.setFrames fs, ?_, .returned (some (.int 1)), hrun, hended, rfl, ⟨_, rfl⟩, hW, hframe⟩
  jvm_step X.here [X.here.top, hx, hb, hdg, hmeth', hr, ret, narrow_b1]
  (try refine ⟨rfl, ?_⟩); (try refine ⟨rfl, ?_⟩)
  first | (intro acts; rw [hret _ acts rfl rfl rfl]) | rw [hret _ _ rfl rfl rfl]
  exact Steps.refl _
/-- what holds at the law's entry: the machine, the code, the tables' words (any of lw_tbl by 'hts w (by decide +kernel)'), the script of L ints xs at the cell b, what the Statement gives of the start (any of its parts by flat_of_before) -/
def lw_At (p : Program) (s : State) (m : MethodId) (meth : Method) (c : Code) (b L : Nat) (xs : Nat → Int32) : Prop :=
  p.tables.exec = Jvm.exec ∧ c.code = code ∧ meth.sig.returnType = ret ∧ c.maxLocals = 4 ∧ s.vm.findClass R_law = some m.cls ∧ (∀ w ∈ lw_tbl, w.before #[Value.ref b] s = true) ∧ va_X b L xs s s.heap ∧ b < s.heap.size ∧ meth.locks = false ∧ (Jvm.Cond.and given_1 narrow_1).before #[Value.ref b] s = true
section KEEP
variable {D : va_G} {ad am sm md : Nat → Nat} {kc kd : Nat → ClassId} {g : Sg} {bu sh al ac rs af bs f1 f2 su sc : Int32} {H H1 : Heap} {AC AM : Nat → Prop}
theorem keepM (hM : va_P D classes (wMs md kd g rs af bs f1 f2 su sc) H) (hOM : okM AM md) (hk : ∀ q : Nat, q < H.size → ¬ AC q → H1[q]? = H[q]?) (hd : ∀ q, AC q → AM q → False) : va_P D classes (wMs md kd g rs af bs f1 f2 su sc) H1 :=
  hM.kept (fun k q hq => hk q.1 (hM k q hq).lt (fun z => hd _ z ((hOM kd (g.1 0) (g.1 1) (g.1 2) (g.1 3) (g.1 4) (g.1 5) (g.1 6) (g.1 7) (g.1 8) (g.1 9) (g.1 10) (g.1 11) rs af bs f1 f2 su sc (g.2 0) (g.2 1) (g.2 2) (g.2 3) (g.2 4) (g.2 5) (g.2 6) (g.2 7) (g.2 8)).2 k q hq)))
theorem keepC (hC : va_P D classes (wCs ad kc am sm g bu sh al ac) H) (hOC : okC AC ad am sm) (hk : ∀ q : Nat, q < H.size → ¬ AM q → H1[q]? = H[q]?) (hd : ∀ q, AC q → AM q → False) : va_P D classes (wCs ad kc am sm g bu sh al ac) H1 :=
  hC.kept (fun k q hq => hk q.1 (hC k q hq).lt (fun z => hd _ ((hOC kc (g.1 0) (g.1 1) (g.1 2) (g.1 3) (g.1 4) (g.1 5) (g.1 6) (g.1 7) (g.1 8) (g.1 9) (g.1 10) (g.1 11) bu sh al ac (g.2 0) (g.2 1) (g.2 2) (g.2 3) (g.2 4) (g.2 5) (g.2 6) (g.2 7) (g.2 8)).2 k q hq) z))
theorem va_P.left {w1 w2 : va_W} (h : va_P D classes (w1 ++ w2) H) : va_P D classes w1 H := fun k q hk => h k q (by rw [List.getElem?_append_left (List.getElem?_eq_some_iff.mp hk).1]; exact hk)
theorem va_P.right {w1 w2 : va_W} (h : va_P D classes (w1 ++ w2) H) : va_P D classes w2 H := fun k q hk => h (w1.length + k) q (by rw [List.getElem?_append_right (by omega), Nat.add_sub_cancel_left]; exact hk)
theorem dCd : ∀ j, j < 22 → defaultValue (t_C j) = vp_V dC0 j := by decide +kernel
theorem dMd : ∀ j, j < 28 → defaultValue (t_M j) = vp_V dM j := by decide +kernel
end KEEP
set_option maxHeartbeats 8000000 in
set_option maxRecDepth 100000 in
/-- the law's loop: both objects picture one state -/
theorem law_loop {p : Program} {l : Launch} {e : Env} {s : State} {m : MethodId} {below : List Frame} {meth : Method} {c : Code} {b L : Nat} {xs : Nat → Int32} (hL : L ≤ 1536) (C0 : lw_At p s m meth c b L xs) {D : va_G} {ad am sm md : Nat → Nat} {kc kd : Nat → ClassId} {AC AM : Nat → Prop} (hOC : okC AC ad am sm) (hOM : okM AM md) (hdj : ∀ q, AC q → AM q → False) (hAC : ∀ q, AC q → s.heap.size ≤ q) (hAM : ∀ q, AM q → s.heap.size ≤ q) (hKC : va_K D classes (tysC kc) s) (hKM : va_K D classes (tysM kd) s) :
    ∀ (n i : Nat), i ≤ L → L + 1 ≤ i + n → ∀ (g : Sg) (bu sh al ac rs af bs f1 f2 su sc : Int32) (H : Heap) (locs : List Loc) (ls : Array Slot), Inv (5000 * i) g → va_P D classes (wCs ad kc am sm g bu sh al ac) H → va_P D classes (wMs md kd g rs af bs f1 f2 su sc) H → va_S (fun q : Nat => s.heap.size ≤ q) s.heap H locs → lv_has ls 4 [(3, .int (nI i)), (2, .ref (md 0)), (1, .ref (ad 0)), (0, .ref b)] → W p l e room_1 s m #[Value.ref b] below meth c H locs 600000 7302250 (lw_Z below #[Value.ref b] s) (F0 m 18 ls []) := by
  obtain ⟨hx, hb, hr, hml, hown0, hts0, hX, hbl, hlocks, hgv⟩ := C0
  have hown : s.vm.findClass R_L = some m.cls := hown0
  have hts := gW_tbl hts0
  have hN : nW s := nW.of hts0
  have X : CallFix p m c code 4 s #[Value.ref b] gW R_L := ⟨hx, hb, hml, hown, hts⟩
  have hbA : ¬ (fun q : Nat => s.heap.size ≤ q) b := Nat.not_le.mpr hbl
  intro n
  induction n with
  | zero =>
    intro i h1 h2
    exact absurd h2 (by omega)
  | succ n ih =>
    intro i h1 h2 g bu sh al ac rs af bs f1 f2 su sc H locs ls hI hC hM hS hl
    refine lv_iload_n hx hb d_L_law_18 rfl (lv_at hl 0 rfl) ?_
    refine lv_aload_n hx hb d_L_law_19 rfl (lv_at hl 3 rfl) ?_
    refine va_slen hx hb hX hbl hbA hS d_L_law_20 ?_
    refine lv_iconst (v := 3) hx hb d_L_law_21 (by decide) ?_
    refine lv_isub hx hb d_L_law_22 ?_
    refine lv_icmp_gt (tgt := 480) hx hb d_L_law_23 (by decide) (fun c23t => ?_) (fun c23f => ?_)
    · refine lv_iconst (v := 1) hx hb d_L_law_480 (by decide) ?_
      refine va_forget (fun q hq => hS.2.2 q hq) ?_
      exact lw_ret hx hb hr hlocks d_L_law_481
    · have hi : i + 3 ≤ L := by
        have e1 : (nI L - nI 3).toInt = (L : Int) - 3 := pk_sub_toInt (by omega) (by omega)
        have e2 : ¬ (nI L - nI 3).toInt < (nI i).toInt := fun z => c23f (Int32.lt_iff_toInt_lt.mpr z)
        rw [e1, nI_toInt (by omega)] at e2
        omega
      have i0 : vp_in (nI i) L := vp_in_nI (by omega) (by omega)
      have i1 : vp_in (nI i + 1) L := by rw [nI_1]; exact vp_in_nI (by omega) (by omega)
      have i2 : vp_in (nI i + 2) L := by rw [show nI i + 2 = nI (i + 2) from nI_add i 2]; exact vp_in_nI (by omega) (by omega)
      generalize e0 : xs (nI i).toNatClampNeg = a0
      generalize e1 : xs (nI i + 1).toNatClampNeg = a1
      generalize e2 : xs (nI i + 2).toNatClampNeg = a2
      have hBd : 5000 * i + 5000 < 2 ^ 31 := by omega
      have KK : ∀ (g : Sg) (bu sh al ac rs af bs f1 f2 su sc : Int32) (H : Heap) (locs : List Loc), Inv (5000 * i + 5000) g → va_P D classes (wCs ad kc am sm g bu sh al ac) H → va_P D classes (wMs md kd g rs af bs f1 f2 su sc) H → va_S (fun q : Nat => s.heap.size ≤ q) s.heap H locs → W p l e room_1 s m #[Value.ref b] below meth c H locs 600000 7302250 (lw_Z below #[Value.ref b] s) (F0 m 474 ls []) := by
        intro g bu sh al ac rs af bs f1 f2 su sc H locs hI hC hM hS
        refine lv_iinc (lv' := [(3, _), (2, _), (1, _), (0, _)]) hx hb d_L_law_474 hl (k := 0) rfl rfl (by decide) rfl (fun ls hl => ?_)
        refine lv_goto (tgt := 18) hx hb d_L_law_477 (by decide) ?_
        rw [show nI i + Int32.ofInt 3 = nI (i + 3) from nI_add i 3] at hl
        exact ih (i + 3) (by omega) (by omega) g bu sh al ac rs af bs f1 f2 su sc H locs ls (hI.mono (by omega)) hC hM hS hl
      refine lv_aload_n hx hb d_L_law_26 rfl (lv_at hl 3 rfl) ?_
      refine lv_iload_n hx hb d_L_law_27 rfl (lv_at hl 0 rfl) ?_
      refine va_sld hx hb hX hbl hbA hS i0 d_L_law_28 ?_
      rw [e0]
      refine lv_bipush (v := 15) hx hb d_L_law_29 (by decide) ?_
      refine lv_iand hx hb d_L_law_31 ?_
      by_cases c32_0 : a0 &&& 15 = 0
      · refine lv_tableIn (off := 72) (tgt := 104) hx hb d_L_law_32 (by rw [c32_0]; decide) (by rw [c32_0]; decide) (by rw [c32_0]; rfl) (by decide) ?_
        refine lv_aload_n hx hb d_L_law_104 rfl (lv_at hl 2 rfl) ?_
        refine lv_aload_n hx hb d_L_law_105 rfl (lv_at hl 3 rfl) ?_
        refine lv_iload_n hx hb d_L_law_106 rfl (lv_at hl 0 rfl) ?_
        refine lv_iconst (v := 1) hx hb d_L_law_107 (by decide) ?_
        refine lv_iadd hx hb d_L_law_108 ?_
        refine va_sld hx hb hX hbl hbA hS i1 d_L_law_109 ?_
        rw [e1]
        refine lv_aload_n hx hb d_L_law_110 rfl (lv_at hl 3 rfl) ?_
        refine lv_iload_n hx hb d_L_law_111 rfl (lv_at hl 0 rfl) ?_
        refine lv_iconst (v := 2) hx hb d_L_law_112 (by decide) ?_
        refine lv_iadd hx hb d_L_law_113 ?_
        refine va_sld hx hb hX hbl hbA hS i2 d_L_law_114 ?_
        rw [e2]
        refine callWi k_L_13 X (c_C_store l D hOC g a1 a2) hC hKC hN hS hAC (va_recv hKC hC (ci := 0) (q0 := 0) rfl rfl) rfl rfl ⟨Nat.le_of_ble_eq_true rfl, Nat.le_of_ble_eq_true rfl⟩ ⟨Nat.le_of_ble_eq_true rfl, Nat.le_of_ble_eq_true rfl⟩ hl.1 rfl rfl (Nat.le_of_ble_eq_true rfl) d_L_law_115 (fun H locs hC hk hS => ?_)
        replace hM := keepM hM hOM hk hdj
        refine lv_aload_n hx hb d_L_law_118 rfl (lv_at hl 1 rfl) ?_
        refine lv_aload_n hx hb d_L_law_119 rfl (lv_at hl 3 rfl) ?_
        refine lv_iload_n hx hb d_L_law_120 rfl (lv_at hl 0 rfl) ?_
        refine lv_iconst (v := 1) hx hb d_L_law_121 (by decide) ?_
        refine lv_iadd hx hb d_L_law_122 ?_
        refine va_sld hx hb hX hbl hbA hS i1 d_L_law_123 ?_
        rw [e1]
        refine lv_aload_n hx hb d_L_law_124 rfl (lv_at hl 3 rfl) ?_
        refine lv_iload_n hx hb d_L_law_125 rfl (lv_at hl 0 rfl) ?_
        refine lv_iconst (v := 2) hx hb d_L_law_126 (by decide) ?_
        refine lv_iadd hx hb d_L_law_127 ?_
        refine va_sld hx hb hX hbl hbA hS i2 d_L_law_128 ?_
        rw [e2]
        refine callWi k_L_17 X (c_M_store l D hOM g a1 a2) hM hKM hN hS hAM (va_recv hKM hM (ci := 3) (q0 := 0) rfl rfl) rfl rfl ⟨Nat.le_of_ble_eq_true rfl, Nat.le_of_ble_eq_true rfl⟩ ⟨Nat.le_of_ble_eq_true rfl, Nat.le_of_ble_eq_true rfl⟩ hl.1 rfl rfl (Nat.le_of_ble_eq_true rfl) d_L_law_129 (fun H locs hM hk hS => ?_)
        replace hC := keepC hC hOC hk hdj
        refine lv_icmp_eq (tgt := 474) hx hb d_L_law_132 (by decide) (fun _ => ?_) (fun z => absurd rfl z)
        exact KK _ _ _ _ _ _ _ _ _ _ _ _ H locs ((hI.store a1 a2).mono (by omega)) hC hM hS
      by_cases c32_1 : a0 &&& 15 = 1
      · refine lv_tableIn (off := 105) (tgt := 137) hx hb d_L_law_32 (by rw [c32_1]; decide) (by rw [c32_1]; decide) (by rw [c32_1]; rfl) (by decide) ?_
        refine lv_aload_n hx hb d_L_law_137 rfl (lv_at hl 2 rfl) ?_
        refine lv_aload_n hx hb d_L_law_138 rfl (lv_at hl 3 rfl) ?_
        refine lv_iload_n hx hb d_L_law_139 rfl (lv_at hl 0 rfl) ?_
        refine lv_iconst (v := 1) hx hb d_L_law_140 (by decide) ?_
        refine lv_iadd hx hb d_L_law_141 ?_
        refine va_sld hx hb hX hbl hbA hS i1 d_L_law_142 ?_
        rw [e1]
        refine lv_aload_n hx hb d_L_law_143 rfl (lv_at hl 3 rfl) ?_
        refine lv_iload_n hx hb d_L_law_144 rfl (lv_at hl 0 rfl) ?_
        refine lv_iconst (v := 2) hx hb d_L_law_145 (by decide) ?_
        refine lv_iadd hx hb d_L_law_146 ?_
        refine va_sld hx hb hX hbl hbA hS i2 d_L_law_147 ?_
        rw [e2]
        refine callWi k_L_18 X (c_C_constant l D hOC g a1 a2) hC hKC hN hS hAC (va_recv hKC hC (ci := 0) (q0 := 0) rfl rfl) rfl rfl ⟨Nat.le_of_ble_eq_true rfl, Nat.le_of_ble_eq_true rfl⟩ ⟨Nat.le_of_ble_eq_true rfl, Nat.le_of_ble_eq_true rfl⟩ hl.1 rfl rfl (Nat.le_of_ble_eq_true rfl) d_L_law_148 (fun H locs hC hk hS => ?_)
        replace hM := keepM hM hOM hk hdj
        refine lv_aload_n hx hb d_L_law_151 rfl (lv_at hl 1 rfl) ?_
        refine lv_aload_n hx hb d_L_law_152 rfl (lv_at hl 3 rfl) ?_
        refine lv_iload_n hx hb d_L_law_153 rfl (lv_at hl 0 rfl) ?_
        refine lv_iconst (v := 1) hx hb d_L_law_154 (by decide) ?_
        refine lv_iadd hx hb d_L_law_155 ?_
        refine va_sld hx hb hX hbl hbA hS i1 d_L_law_156 ?_
        rw [e1]
        refine lv_aload_n hx hb d_L_law_157 rfl (lv_at hl 3 rfl) ?_
        refine lv_iload_n hx hb d_L_law_158 rfl (lv_at hl 0 rfl) ?_
        refine lv_iconst (v := 2) hx hb d_L_law_159 (by decide) ?_
        refine lv_iadd hx hb d_L_law_160 ?_
        refine va_sld hx hb hX hbl hbA hS i2 d_L_law_161 ?_
        rw [e2]
        refine callWi k_L_21 X (c_M_constant l D hOM g a1 a2) hM hKM hN hS hAM (va_recv hKM hM (ci := 3) (q0 := 0) rfl rfl) rfl rfl ⟨Nat.le_of_ble_eq_true rfl, Nat.le_of_ble_eq_true rfl⟩ ⟨Nat.le_of_ble_eq_true rfl, Nat.le_of_ble_eq_true rfl⟩ hl.1 rfl rfl (Nat.le_of_ble_eq_true rfl) d_L_law_162 (fun H locs hM hk hS => ?_)
        replace hC := keepC hC hOC hk hdj
        refine lv_icmp_eq (tgt := 474) hx hb d_L_law_165 (by decide) (fun _ => ?_) (fun z => absurd rfl z)
        exact KK _ _ _ _ _ _ _ _ _ _ _ _ H locs ((hI.const a1 a2).mono (by omega)) hC hM hS
      by_cases c32_2 : a0 &&& 15 = 2
      · refine lv_tableIn (off := 138) (tgt := 170) hx hb d_L_law_32 (by rw [c32_2]; decide) (by rw [c32_2]; decide) (by rw [c32_2]; rfl) (by decide) ?_
        refine lv_aload_n hx hb d_L_law_170 rfl (lv_at hl 2 rfl) ?_
        refine lv_aload_n hx hb d_L_law_171 rfl (lv_at hl 3 rfl) ?_
        refine lv_iload_n hx hb d_L_law_172 rfl (lv_at hl 0 rfl) ?_
        refine lv_iconst (v := 1) hx hb d_L_law_173 (by decide) ?_
        refine lv_iadd hx hb d_L_law_174 ?_
        refine va_sld hx hb hX hbl hbA hS i1 d_L_law_175 ?_
        rw [e1]
        refine lv_aload_n hx hb d_L_law_176 rfl (lv_at hl 3 rfl) ?_
        refine lv_iload_n hx hb d_L_law_177 rfl (lv_at hl 0 rfl) ?_
        refine lv_iconst (v := 2) hx hb d_L_law_178 (by decide) ?_
        refine lv_iadd hx hb d_L_law_179 ?_
        refine va_sld hx hb hX hbl hbA hS i2 d_L_law_180 ?_
        rw [e2]
        refine callWi k_L_22 X (c_C_poke l D hOC g a1 a2) hC hKC hN hS hAC (va_recv hKC hC (ci := 0) (q0 := 0) rfl rfl) rfl rfl ⟨Nat.le_of_ble_eq_true rfl, Nat.le_of_ble_eq_true rfl⟩ ⟨Nat.le_of_ble_eq_true rfl, Nat.le_of_ble_eq_true rfl⟩ hl.1 rfl rfl (Nat.le_of_ble_eq_true rfl) d_L_law_181 (fun H locs hC hk hS => ?_)
        replace hM := keepM hM hOM hk hdj
        refine lv_aload_n hx hb d_L_law_184 rfl (lv_at hl 1 rfl) ?_
        refine lv_aload_n hx hb d_L_law_185 rfl (lv_at hl 3 rfl) ?_
        refine lv_iload_n hx hb d_L_law_186 rfl (lv_at hl 0 rfl) ?_
        refine lv_iconst (v := 1) hx hb d_L_law_187 (by decide) ?_
        refine lv_iadd hx hb d_L_law_188 ?_
        refine va_sld hx hb hX hbl hbA hS i1 d_L_law_189 ?_
        rw [e1]
        refine lv_aload_n hx hb d_L_law_190 rfl (lv_at hl 3 rfl) ?_
        refine lv_iload_n hx hb d_L_law_191 rfl (lv_at hl 0 rfl) ?_
        refine lv_iconst (v := 2) hx hb d_L_law_192 (by decide) ?_
        refine lv_iadd hx hb d_L_law_193 ?_
        refine va_sld hx hb hX hbl hbA hS i2 d_L_law_194 ?_
        rw [e2]
        refine callWi k_L_25 X (c_M_poke l D hOM g a1 a2) hM hKM hN hS hAM (va_recv hKM hM (ci := 3) (q0 := 0) rfl rfl) rfl rfl ⟨Nat.le_of_ble_eq_true rfl, Nat.le_of_ble_eq_true rfl⟩ ⟨Nat.le_of_ble_eq_true rfl, Nat.le_of_ble_eq_true rfl⟩ hl.1 rfl rfl (Nat.le_of_ble_eq_true rfl) d_L_law_195 (fun H locs hM hk hS => ?_)
        replace hC := keepC hC hOC hk hdj
        refine lv_icmp_eq (tgt := 474) hx hb d_L_law_198 (by decide) (fun _ => ?_) (fun z => absurd rfl z)
        exact KK _ _ _ _ _ _ _ _ _ _ _ _ H locs ((hI.poke a1 a2).mono (by omega)) hC hM hS
      by_cases c32_3 : a0 &&& 15 = 3
      · refine lv_tableIn (off := 171) (tgt := 203) hx hb d_L_law_32 (by rw [c32_3]; decide) (by rw [c32_3]; decide) (by rw [c32_3]; rfl) (by decide) ?_
        refine lv_aload_n hx hb d_L_law_203 rfl (lv_at hl 2 rfl) ?_
        refine lv_aload_n hx hb d_L_law_204 rfl (lv_at hl 3 rfl) ?_
        refine lv_iload_n hx hb d_L_law_205 rfl (lv_at hl 0 rfl) ?_
        refine lv_iconst (v := 1) hx hb d_L_law_206 (by decide) ?_
        refine lv_iadd hx hb d_L_law_207 ?_
        refine va_sld hx hb hX hbl hbA hS i1 d_L_law_208 ?_
        rw [e1]
        refine lv_aload_n hx hb d_L_law_209 rfl (lv_at hl 3 rfl) ?_
        refine lv_iload_n hx hb d_L_law_210 rfl (lv_at hl 0 rfl) ?_
        refine lv_iconst (v := 2) hx hb d_L_law_211 (by decide) ?_
        refine lv_iadd hx hb d_L_law_212 ?_
        refine va_sld hx hb hX hbl hbA hS i2 d_L_law_213 ?_
        rw [e2]
        refine callWi k_L_26 X (c_C_set l D hOC g a1 a2) hC hKC hN hS hAC (va_recv hKC hC (ci := 0) (q0 := 0) rfl rfl) rfl rfl ⟨Nat.le_of_ble_eq_true rfl, Nat.le_of_ble_eq_true rfl⟩ ⟨Nat.le_of_ble_eq_true rfl, Nat.le_of_ble_eq_true rfl⟩ hl.1 rfl rfl (Nat.le_of_ble_eq_true rfl) d_L_law_214 (fun H locs hC hk hS => ?_)
        replace hM := keepM hM hOM hk hdj
        refine lv_aload_n hx hb d_L_law_217 rfl (lv_at hl 1 rfl) ?_
        refine lv_aload_n hx hb d_L_law_218 rfl (lv_at hl 3 rfl) ?_
        refine lv_iload_n hx hb d_L_law_219 rfl (lv_at hl 0 rfl) ?_
        refine lv_iconst (v := 1) hx hb d_L_law_220 (by decide) ?_
        refine lv_iadd hx hb d_L_law_221 ?_
        refine va_sld hx hb hX hbl hbA hS i1 d_L_law_222 ?_
        rw [e1]
        refine lv_aload_n hx hb d_L_law_223 rfl (lv_at hl 3 rfl) ?_
        refine lv_iload_n hx hb d_L_law_224 rfl (lv_at hl 0 rfl) ?_
        refine lv_iconst (v := 2) hx hb d_L_law_225 (by decide) ?_
        refine lv_iadd hx hb d_L_law_226 ?_
        refine va_sld hx hb hX hbl hbA hS i2 d_L_law_227 ?_
        rw [e2]
        refine callWi k_L_29 X (c_M_set l D hOM g a1 a2) hM hKM hN hS hAM (va_recv hKM hM (ci := 3) (q0 := 0) rfl rfl) rfl rfl ⟨Nat.le_of_ble_eq_true rfl, Nat.le_of_ble_eq_true rfl⟩ ⟨Nat.le_of_ble_eq_true rfl, Nat.le_of_ble_eq_true rfl⟩ hl.1 rfl rfl (Nat.le_of_ble_eq_true rfl) d_L_law_228 (fun H locs hM hk hS => ?_)
        replace hC := keepC hC hOC hk hdj
        refine lv_icmp_eq (tgt := 474) hx hb d_L_law_231 (by decide) (fun _ => ?_) (fun z => absurd rfl z)
        exact KK _ _ _ _ _ _ _ _ _ _ _ _ H locs ((hI.set a1 a2).mono (by omega)) hC hM hS
      by_cases c32_4 : a0 &&& 15 = 4
      · refine lv_tableIn (off := 204) (tgt := 236) hx hb d_L_law_32 (by rw [c32_4]; decide) (by rw [c32_4]; decide) (by rw [c32_4]; rfl) (by decide) ?_
        refine lv_aload_n hx hb d_L_law_236 rfl (lv_at hl 2 rfl) ?_
        refine lv_aload_n hx hb d_L_law_237 rfl (lv_at hl 3 rfl) ?_
        refine lv_iload_n hx hb d_L_law_238 rfl (lv_at hl 0 rfl) ?_
        refine lv_iconst (v := 1) hx hb d_L_law_239 (by decide) ?_
        refine lv_iadd hx hb d_L_law_240 ?_
        refine va_sld hx hb hX hbl hbA hS i1 d_L_law_241 ?_
        rw [e1]
        refine callWv1 k_L_30 X (c_C_port l D hOC g a1) hC hKC hN hS hAC (va_recv hKC hC (ci := 0) (q0 := 0) rfl rfl) rfl rfl ⟨Nat.le_of_ble_eq_true rfl, Nat.le_of_ble_eq_true rfl⟩ ⟨Nat.le_of_ble_eq_true rfl, Nat.le_of_ble_eq_true rfl⟩ hl.1 rfl rfl (Nat.le_of_ble_eq_true rfl) d_L_law_242 (fun H locs hC hk hS => ?_)
        replace hM := keepM hM hOM hk hdj
        refine lv_aload_n hx hb d_L_law_245 rfl (lv_at hl 1 rfl) ?_
        refine lv_aload_n hx hb d_L_law_246 rfl (lv_at hl 3 rfl) ?_
        refine lv_iload_n hx hb d_L_law_247 rfl (lv_at hl 0 rfl) ?_
        refine lv_iconst (v := 1) hx hb d_L_law_248 (by decide) ?_
        refine lv_iadd hx hb d_L_law_249 ?_
        refine va_sld hx hb hX hbl hbA hS i1 d_L_law_250 ?_
        rw [e1]
        refine callWv1 k_L_34 X (c_M_port l D hOM g a1) hM hKM hN hS hAM (va_recv hKM hM (ci := 3) (q0 := 0) rfl rfl) rfl rfl ⟨Nat.le_of_ble_eq_true rfl, Nat.le_of_ble_eq_true rfl⟩ ⟨Nat.le_of_ble_eq_true rfl, Nat.le_of_ble_eq_true rfl⟩ hl.1 rfl rfl (Nat.le_of_ble_eq_true rfl) d_L_law_251 (fun H locs hM hk hS => ?_)
        replace hC := keepC hC hOC hk hdj
        refine lv_goto (tgt := 474) hx hb d_L_law_254 (by decide) ?_
        exact KK _ _ _ _ _ _ _ _ _ _ _ _ H locs ((hI.port a1).mono (by omega)) hC hM hS
      by_cases c32_5 : a0 &&& 15 = 5
      · refine lv_tableIn (off := 225) (tgt := 257) hx hb d_L_law_32 (by rw [c32_5]; decide) (by rw [c32_5]; decide) (by rw [c32_5]; rfl) (by decide) ?_
        refine lv_aload_n hx hb d_L_law_257 rfl (lv_at hl 2 rfl) ?_
        refine lv_aload_n hx hb d_L_law_258 rfl (lv_at hl 3 rfl) ?_
        refine lv_iload_n hx hb d_L_law_259 rfl (lv_at hl 0 rfl) ?_
        refine lv_iconst (v := 1) hx hb d_L_law_260 (by decide) ?_
        refine lv_iadd hx hb d_L_law_261 ?_
        refine va_sld hx hb hX hbl hbA hS i1 d_L_law_262 ?_
        rw [e1]
        refine callWi k_L_35 X (c_C_wake l D hOC g hI.2.2.2.2.2.2.2.2.2.2.2.2.2.1 a1) hC hKC hN hS hAC (va_recv hKC hC (ci := 0) (q0 := 0) rfl rfl) rfl rfl ⟨Nat.le_of_ble_eq_true rfl, Nat.le_of_ble_eq_true rfl⟩ ⟨Nat.le_of_ble_eq_true rfl, Nat.le_of_ble_eq_true rfl⟩ hl.1 rfl rfl (Nat.le_of_ble_eq_true rfl) d_L_law_263 (fun H locs hC hk hS => ?_)
        replace hM := keepM hM hOM hk hdj
        refine lv_aload_n hx hb d_L_law_266 rfl (lv_at hl 1 rfl) ?_
        refine lv_aload_n hx hb d_L_law_267 rfl (lv_at hl 3 rfl) ?_
        refine lv_iload_n hx hb d_L_law_268 rfl (lv_at hl 0 rfl) ?_
        refine lv_iconst (v := 1) hx hb d_L_law_269 (by decide) ?_
        refine lv_iadd hx hb d_L_law_270 ?_
        refine va_sld hx hb hX hbl hbA hS i1 d_L_law_271 ?_
        rw [e1]
        refine callWi k_L_39 X (c_M_wake l D hOM g hI.2.2.2.2.2.2.2.2.2.2.2.2.2.1 a1) hM hKM hN hS hAM (va_recv hKM hM (ci := 3) (q0 := 0) rfl rfl) rfl rfl ⟨Nat.le_of_ble_eq_true rfl, Nat.le_of_ble_eq_true rfl⟩ ⟨Nat.le_of_ble_eq_true rfl, Nat.le_of_ble_eq_true rfl⟩ hl.1 rfl rfl (Nat.le_of_ble_eq_true rfl) d_L_law_272 (fun H locs hM hk hS => ?_)
        replace hC := keepC hC hOC hk hdj
        refine lv_icmp_eq (tgt := 474) hx hb d_L_law_275 (by decide) (fun _ => ?_) (fun z => absurd rfl z)
        exact KK _ _ _ _ _ _ _ _ _ _ _ _ H locs ((hI.wake a1).mono (by omega)) hC hM hS
      by_cases c32_6 : a0 &&& 15 = 6
      · refine lv_tableIn (off := 248) (tgt := 280) hx hb d_L_law_32 (by rw [c32_6]; decide) (by rw [c32_6]; decide) (by rw [c32_6]; rfl) (by decide) ?_
        refine lv_aload_n hx hb d_L_law_280 rfl (lv_at hl 2 rfl) ?_
        refine lv_aload_n hx hb d_L_law_281 rfl (lv_at hl 3 rfl) ?_
        refine lv_iload_n hx hb d_L_law_282 rfl (lv_at hl 0 rfl) ?_
        refine lv_iconst (v := 1) hx hb d_L_law_283 (by decide) ?_
        refine lv_iadd hx hb d_L_law_284 ?_
        refine va_sld hx hb hX hbl hbA hS i1 d_L_law_285 ?_
        rw [e1]
        refine lv_aload_n hx hb d_L_law_286 rfl (lv_at hl 3 rfl) ?_
        refine lv_iload_n hx hb d_L_law_287 rfl (lv_at hl 0 rfl) ?_
        refine lv_iconst (v := 2) hx hb d_L_law_288 (by decide) ?_
        refine lv_iadd hx hb d_L_law_289 ?_
        refine va_sld hx hb hX hbl hbA hS i2 d_L_law_290 ?_
        rw [e2]
        refine callWi k_L_40 X (c_C_start l D hOC g a1 a2) hC hKC hN hS hAC (va_recv hKC hC (ci := 0) (q0 := 0) rfl rfl) rfl rfl ⟨Nat.le_of_ble_eq_true rfl, Nat.le_of_ble_eq_true rfl⟩ ⟨Nat.le_of_ble_eq_true rfl, Nat.le_of_ble_eq_true rfl⟩ hl.1 rfl rfl (Nat.le_of_ble_eq_true rfl) d_L_law_291 (fun H locs hC hk hS => ?_)
        replace hM := keepM hM hOM hk hdj
        refine lv_aload_n hx hb d_L_law_294 rfl (lv_at hl 1 rfl) ?_
        refine lv_aload_n hx hb d_L_law_295 rfl (lv_at hl 3 rfl) ?_
        refine lv_iload_n hx hb d_L_law_296 rfl (lv_at hl 0 rfl) ?_
        refine lv_iconst (v := 1) hx hb d_L_law_297 (by decide) ?_
        refine lv_iadd hx hb d_L_law_298 ?_
        refine va_sld hx hb hX hbl hbA hS i1 d_L_law_299 ?_
        rw [e1]
        refine lv_aload_n hx hb d_L_law_300 rfl (lv_at hl 3 rfl) ?_
        refine lv_iload_n hx hb d_L_law_301 rfl (lv_at hl 0 rfl) ?_
        refine lv_iconst (v := 2) hx hb d_L_law_302 (by decide) ?_
        refine lv_iadd hx hb d_L_law_303 ?_
        refine va_sld hx hb hX hbl hbA hS i2 d_L_law_304 ?_
        rw [e2]
        refine callWi k_L_43 X (c_M_start l D hOM g a1 a2) hM hKM hN hS hAM (va_recv hKM hM (ci := 3) (q0 := 0) rfl rfl) rfl rfl ⟨Nat.le_of_ble_eq_true rfl, Nat.le_of_ble_eq_true rfl⟩ ⟨Nat.le_of_ble_eq_true rfl, Nat.le_of_ble_eq_true rfl⟩ hl.1 rfl rfl (Nat.le_of_ble_eq_true rfl) d_L_law_305 (fun H locs hM hk hS => ?_)
        replace hC := keepC hC hOC hk hdj
        refine lv_icmp_eq (tgt := 474) hx hb d_L_law_308 (by decide) (fun _ => ?_) (fun z => absurd rfl z)
        exact KK _ _ _ _ _ _ _ _ _ _ _ _ H locs ((hI.start a1 a2).mono (by omega)) hC hM hS
      by_cases c32_7 : a0 &&& 15 = 7
      · refine lv_tableIn (off := 281) (tgt := 313) hx hb d_L_law_32 (by rw [c32_7]; decide) (by rw [c32_7]; decide) (by rw [c32_7]; rfl) (by decide) ?_
        refine lv_aload_n hx hb d_L_law_313 rfl (lv_at hl 2 rfl) ?_
        refine lv_aload_n hx hb d_L_law_314 rfl (lv_at hl 3 rfl) ?_
        refine lv_iload_n hx hb d_L_law_315 rfl (lv_at hl 0 rfl) ?_
        refine lv_iconst (v := 1) hx hb d_L_law_316 (by decide) ?_
        refine lv_iadd hx hb d_L_law_317 ?_
        refine va_sld hx hb hX hbl hbA hS i1 d_L_law_318 ?_
        rw [e1]
        refine callWi k_L_44 X (c_C_run l D hOC (5000 * i) g hI hBd a1) hC hKC hN hS hAC (va_recv hKC hC (ci := 0) (q0 := 0) rfl rfl) rfl rfl ⟨Nat.le_of_ble_eq_true rfl, Nat.le_of_ble_eq_true rfl⟩ ⟨Nat.le_of_ble_eq_true rfl, Nat.le_of_ble_eq_true rfl⟩ hl.1 rfl rfl (Nat.le_of_ble_eq_true rfl) d_L_law_319 (fun H locs hC hk hS => ?_)
        obtain ⟨bu, sh, al, ac, hC⟩ := hC
        replace hM := keepM hM hOM hk hdj
        refine lv_aload_n hx hb d_L_law_322 rfl (lv_at hl 1 rfl) ?_
        refine lv_aload_n hx hb d_L_law_323 rfl (lv_at hl 3 rfl) ?_
        refine lv_iload_n hx hb d_L_law_324 rfl (lv_at hl 0 rfl) ?_
        refine lv_iconst (v := 1) hx hb d_L_law_325 (by decide) ?_
        refine lv_iadd hx hb d_L_law_326 ?_
        refine va_sld hx hb hX hbl hbA hS i1 d_L_law_327 ?_
        rw [e1]
        refine callWi k_L_48 X (c_M_run l D hOM (5000 * i) g hI hBd a1) hM hKM hN hS hAM (va_recv hKM hM (ci := 3) (q0 := 0) rfl rfl) rfl rfl ⟨Nat.le_of_ble_eq_true rfl, Nat.le_of_ble_eq_true rfl⟩ ⟨Nat.le_of_ble_eq_true rfl, Nat.le_of_ble_eq_true rfl⟩ hl.1 rfl rfl (Nat.le_of_ble_eq_true rfl) d_L_law_328 (fun H locs hM hk hS => ?_)
        obtain ⟨rs, af, bs, f1, f2, su, sc, hM⟩ := hM
        replace hC := keepC hC hOC hk hdj
        refine lv_icmp_eq (tgt := 474) hx hb d_L_law_331 (by decide) (fun _ => ?_) (fun z => absurd rfl z)
        exact KK _ _ _ _ _ _ _ _ _ _ _ _ H locs (hI.rn a1) hC hM hS
      by_cases c32_8 : a0 &&& 15 = 8
      · refine lv_tableIn (off := 304) (tgt := 336) hx hb d_L_law_32 (by rw [c32_8]; decide) (by rw [c32_8]; decide) (by rw [c32_8]; rfl) (by decide) ?_
        refine lv_aload_n hx hb d_L_law_336 rfl (lv_at hl 2 rfl) ?_
        refine lv_aload_n hx hb d_L_law_337 rfl (lv_at hl 3 rfl) ?_
        refine lv_iload_n hx hb d_L_law_338 rfl (lv_at hl 0 rfl) ?_
        refine lv_iconst (v := 1) hx hb d_L_law_339 (by decide) ?_
        refine lv_iadd hx hb d_L_law_340 ?_
        refine va_sld hx hb hX hbl hbA hS i1 d_L_law_341 ?_
        rw [e1]
        refine callR k_L_49 X (c_C_register l D g a1) hC hKC hN (va_recv hKC hC (ci := 0) (q0 := 0) rfl rfl) rfl rfl ⟨Nat.le_of_ble_eq_true rfl, Nat.le_of_ble_eq_true rfl⟩ ⟨Nat.le_of_ble_eq_true rfl, Nat.le_of_ble_eq_true rfl⟩ hl.1 rfl rfl (Nat.le_of_ble_eq_true rfl) d_L_law_342 ?_
        refine lv_aload_n hx hb d_L_law_345 rfl (lv_at hl 1 rfl) ?_
        refine lv_aload_n hx hb d_L_law_346 rfl (lv_at hl 3 rfl) ?_
        refine lv_iload_n hx hb d_L_law_347 rfl (lv_at hl 0 rfl) ?_
        refine lv_iconst (v := 1) hx hb d_L_law_348 (by decide) ?_
        refine lv_iadd hx hb d_L_law_349 ?_
        refine va_sld hx hb hX hbl hbA hS i1 d_L_law_350 ?_
        rw [e1]
        refine callR k_L_52 X (c_M_register l D g a1) hM hKM hN (va_recv hKM hM (ci := 3) (q0 := 0) rfl rfl) rfl rfl ⟨Nat.le_of_ble_eq_true rfl, Nat.le_of_ble_eq_true rfl⟩ ⟨Nat.le_of_ble_eq_true rfl, Nat.le_of_ble_eq_true rfl⟩ hl.1 rfl rfl (Nat.le_of_ble_eq_true rfl) d_L_law_351 ?_
        refine lv_icmp_eq (tgt := 474) hx hb d_L_law_354 (by decide) (fun _ => ?_) (fun z => absurd rfl z)
        exact KK _ _ _ _ _ _ _ _ _ _ _ _ H locs (hI.mono (by omega)) hC hM hS
      by_cases c32_9 : a0 &&& 15 = 9
      · refine lv_tableIn (off := 327) (tgt := 359) hx hb d_L_law_32 (by rw [c32_9]; decide) (by rw [c32_9]; decide) (by rw [c32_9]; rfl) (by decide) ?_
        refine lv_aload_n hx hb d_L_law_359 rfl (lv_at hl 2 rfl) ?_
        refine lv_aload_n hx hb d_L_law_360 rfl (lv_at hl 3 rfl) ?_
        refine lv_iload_n hx hb d_L_law_361 rfl (lv_at hl 0 rfl) ?_
        refine lv_iconst (v := 1) hx hb d_L_law_362 (by decide) ?_
        refine lv_iadd hx hb d_L_law_363 ?_
        refine va_sld hx hb hX hbl hbA hS i1 d_L_law_364 ?_
        rw [e1]
        refine callR k_L_53 X (c_C_peek l D g a1) hC hKC hN (va_recv hKC hC (ci := 0) (q0 := 0) rfl rfl) rfl rfl ⟨Nat.le_of_ble_eq_true rfl, Nat.le_of_ble_eq_true rfl⟩ ⟨Nat.le_of_ble_eq_true rfl, Nat.le_of_ble_eq_true rfl⟩ hl.1 rfl rfl (Nat.le_of_ble_eq_true rfl) d_L_law_365 ?_
        refine lv_aload_n hx hb d_L_law_368 rfl (lv_at hl 1 rfl) ?_
        refine lv_aload_n hx hb d_L_law_369 rfl (lv_at hl 3 rfl) ?_
        refine lv_iload_n hx hb d_L_law_370 rfl (lv_at hl 0 rfl) ?_
        refine lv_iconst (v := 1) hx hb d_L_law_371 (by decide) ?_
        refine lv_iadd hx hb d_L_law_372 ?_
        refine va_sld hx hb hX hbl hbA hS i1 d_L_law_373 ?_
        rw [e1]
        refine callR k_L_56 X (c_M_peek l D g a1) hM hKM hN (va_recv hKM hM (ci := 3) (q0 := 0) rfl rfl) rfl rfl ⟨Nat.le_of_ble_eq_true rfl, Nat.le_of_ble_eq_true rfl⟩ ⟨Nat.le_of_ble_eq_true rfl, Nat.le_of_ble_eq_true rfl⟩ hl.1 rfl rfl (Nat.le_of_ble_eq_true rfl) d_L_law_374 ?_
        refine lv_icmp_eq (tgt := 474) hx hb d_L_law_377 (by decide) (fun _ => ?_) (fun z => absurd rfl z)
        exact KK _ _ _ _ _ _ _ _ _ _ _ _ H locs (hI.mono (by omega)) hC hM hS
      by_cases c32_10 : a0 &&& 15 = 10
      · refine lv_tableIn (off := 350) (tgt := 382) hx hb d_L_law_32 (by rw [c32_10]; decide) (by rw [c32_10]; decide) (by rw [c32_10]; rfl) (by decide) ?_
        refine lv_aload_n hx hb d_L_law_382 rfl (lv_at hl 2 rfl) ?_
        refine lv_aload_n hx hb d_L_law_383 rfl (lv_at hl 3 rfl) ?_
        refine lv_iload_n hx hb d_L_law_384 rfl (lv_at hl 0 rfl) ?_
        refine lv_iconst (v := 1) hx hb d_L_law_385 (by decide) ?_
        refine lv_iadd hx hb d_L_law_386 ?_
        refine va_sld hx hb hX hbl hbA hS i1 d_L_law_387 ?_
        rw [e1]
        refine lv_aload_n hx hb d_L_law_388 rfl (lv_at hl 3 rfl) ?_
        refine lv_iload_n hx hb d_L_law_389 rfl (lv_at hl 0 rfl) ?_
        refine lv_iconst (v := 2) hx hb d_L_law_390 (by decide) ?_
        refine lv_iadd hx hb d_L_law_391 ?_
        refine va_sld hx hb hX hbl hbA hS i2 d_L_law_392 ?_
        rw [e2]
        refine callR k_L_57 X (c_C_task l D g a1 a2) hC hKC hN (va_recv hKC hC (ci := 0) (q0 := 0) rfl rfl) rfl rfl ⟨Nat.le_of_ble_eq_true rfl, Nat.le_of_ble_eq_true rfl⟩ ⟨Nat.le_of_ble_eq_true rfl, Nat.le_of_ble_eq_true rfl⟩ hl.1 rfl rfl (Nat.le_of_ble_eq_true rfl) d_L_law_393 ?_
        refine lv_aload_n hx hb d_L_law_396 rfl (lv_at hl 1 rfl) ?_
        refine lv_aload_n hx hb d_L_law_397 rfl (lv_at hl 3 rfl) ?_
        refine lv_iload_n hx hb d_L_law_398 rfl (lv_at hl 0 rfl) ?_
        refine lv_iconst (v := 1) hx hb d_L_law_399 (by decide) ?_
        refine lv_iadd hx hb d_L_law_400 ?_
        refine va_sld hx hb hX hbl hbA hS i1 d_L_law_401 ?_
        rw [e1]
        refine lv_aload_n hx hb d_L_law_402 rfl (lv_at hl 3 rfl) ?_
        refine lv_iload_n hx hb d_L_law_403 rfl (lv_at hl 0 rfl) ?_
        refine lv_iconst (v := 2) hx hb d_L_law_404 (by decide) ?_
        refine lv_iadd hx hb d_L_law_405 ?_
        refine va_sld hx hb hX hbl hbA hS i2 d_L_law_406 ?_
        rw [e2]
        refine callR k_L_61 X (c_M_task l D g a1 a2) hM hKM hN (va_recv hKM hM (ci := 3) (q0 := 0) rfl rfl) rfl rfl ⟨Nat.le_of_ble_eq_true rfl, Nat.le_of_ble_eq_true rfl⟩ ⟨Nat.le_of_ble_eq_true rfl, Nat.le_of_ble_eq_true rfl⟩ hl.1 rfl rfl (Nat.le_of_ble_eq_true rfl) d_L_law_407 ?_
        refine lv_icmp_eq (tgt := 474) hx hb d_L_law_410 (by decide) (fun _ => ?_) (fun z => absurd rfl z)
        exact KK _ _ _ _ _ _ _ _ _ _ _ _ H locs (hI.mono (by omega)) hC hM hS
      by_cases c32_11 : a0 &&& 15 = 11
      · refine lv_tableIn (off := 383) (tgt := 415) hx hb d_L_law_32 (by rw [c32_11]; decide) (by rw [c32_11]; decide) (by rw [c32_11]; rfl) (by decide) ?_
        refine lv_aload_n hx hb d_L_law_415 rfl (lv_at hl 2 rfl) ?_
        refine callR k_L_62 X (c_C_now l D g) hC hKC hN (va_recv hKC hC (ci := 0) (q0 := 0) rfl rfl) rfl rfl ⟨Nat.le_of_ble_eq_true rfl, Nat.le_of_ble_eq_true rfl⟩ ⟨Nat.le_of_ble_eq_true rfl, Nat.le_of_ble_eq_true rfl⟩ hl.1 rfl rfl (Nat.le_of_ble_eq_true rfl) d_L_law_416 ?_
        refine lv_aload_n hx hb d_L_law_419 rfl (lv_at hl 1 rfl) ?_
        refine callR k_L_66 X (c_M_now l D g) hM hKM hN (va_recv hKM hM (ci := 3) (q0 := 0) rfl rfl) rfl rfl ⟨Nat.le_of_ble_eq_true rfl, Nat.le_of_ble_eq_true rfl⟩ ⟨Nat.le_of_ble_eq_true rfl, Nat.le_of_ble_eq_true rfl⟩ hl.1 rfl rfl (Nat.le_of_ble_eq_true rfl) d_L_law_420 ?_
        refine lv_icmp_eq (tgt := 474) hx hb d_L_law_423 (by decide) (fun _ => ?_) (fun z => absurd rfl z)
        exact KK _ _ _ _ _ _ _ _ _ _ _ _ H locs (hI.mono (by omega)) hC hM hS
      by_cases c32_12 : a0 &&& 15 = 12
      · refine lv_tableIn (off := 396) (tgt := 428) hx hb d_L_law_32 (by rw [c32_12]; decide) (by rw [c32_12]; decide) (by rw [c32_12]; rfl) (by decide) ?_
        refine lv_aload_n hx hb d_L_law_428 rfl (lv_at hl 2 rfl) ?_
        refine lv_aload_n hx hb d_L_law_429 rfl (lv_at hl 3 rfl) ?_
        refine lv_iload_n hx hb d_L_law_430 rfl (lv_at hl 0 rfl) ?_
        refine lv_iconst (v := 1) hx hb d_L_law_431 (by decide) ?_
        refine lv_iadd hx hb d_L_law_432 ?_
        refine va_sld hx hb hX hbl hbA hS i1 d_L_law_433 ?_
        rw [e1]
        refine callR k_L_67 X (c_C_out l D g (hI.o (by omega)) a1) hC hKC hN (va_recv hKC hC (ci := 0) (q0 := 0) rfl rfl) rfl rfl ⟨Nat.le_of_ble_eq_true rfl, Nat.le_of_ble_eq_true rfl⟩ ⟨Nat.le_of_ble_eq_true rfl, Nat.le_of_ble_eq_true rfl⟩ hl.1 rfl rfl (Nat.le_of_ble_eq_true rfl) d_L_law_434 ?_
        refine lv_aload_n hx hb d_L_law_437 rfl (lv_at hl 1 rfl) ?_
        refine lv_aload_n hx hb d_L_law_438 rfl (lv_at hl 3 rfl) ?_
        refine lv_iload_n hx hb d_L_law_439 rfl (lv_at hl 0 rfl) ?_
        refine lv_iconst (v := 1) hx hb d_L_law_440 (by decide) ?_
        refine lv_iadd hx hb d_L_law_441 ?_
        refine va_sld hx hb hX hbl hbA hS i1 d_L_law_442 ?_
        rw [e1]
        refine callR k_L_70 X (c_M_out l D g a1) hM hKM hN (va_recv hKM hM (ci := 3) (q0 := 0) rfl rfl) rfl rfl ⟨Nat.le_of_ble_eq_true rfl, Nat.le_of_ble_eq_true rfl⟩ ⟨Nat.le_of_ble_eq_true rfl, Nat.le_of_ble_eq_true rfl⟩ hl.1 rfl rfl (Nat.le_of_ble_eq_true rfl) d_L_law_443 ?_
        refine lv_icmp_eq (tgt := 474) hx hb d_L_law_446 (by decide) (fun _ => ?_) (fun z => absurd rfl z)
        exact KK _ _ _ _ _ _ _ _ _ _ _ _ H locs (hI.mono (by omega)) hC hM hS
      by_cases c32_13 : a0 &&& 15 = 13
      · refine lv_tableIn (off := 419) (tgt := 451) hx hb d_L_law_32 (by rw [c32_13]; decide) (by rw [c32_13]; decide) (by rw [c32_13]; rfl) (by decide) ?_
        refine lv_aload_n hx hb d_L_law_451 rfl (lv_at hl 2 rfl) ?_
        refine lv_aload_n hx hb d_L_law_452 rfl (lv_at hl 3 rfl) ?_
        refine lv_iload_n hx hb d_L_law_453 rfl (lv_at hl 0 rfl) ?_
        refine lv_iconst (v := 1) hx hb d_L_law_454 (by decide) ?_
        refine lv_iadd hx hb d_L_law_455 ?_
        refine va_sld hx hb hX hbl hbA hS i1 d_L_law_456 ?_
        rw [e1]
        refine callR k_L_71 X (c_C_count l D g a1) hC hKC hN (va_recv hKC hC (ci := 0) (q0 := 0) rfl rfl) rfl rfl ⟨Nat.le_of_ble_eq_true rfl, Nat.le_of_ble_eq_true rfl⟩ ⟨Nat.le_of_ble_eq_true rfl, Nat.le_of_ble_eq_true rfl⟩ hl.1 rfl rfl (Nat.le_of_ble_eq_true rfl) d_L_law_457 ?_
        refine lv_aload_n hx hb d_L_law_460 rfl (lv_at hl 1 rfl) ?_
        refine lv_aload_n hx hb d_L_law_461 rfl (lv_at hl 3 rfl) ?_
        refine lv_iload_n hx hb d_L_law_462 rfl (lv_at hl 0 rfl) ?_
        refine lv_iconst (v := 1) hx hb d_L_law_463 (by decide) ?_
        refine lv_iadd hx hb d_L_law_464 ?_
        refine va_sld hx hb hX hbl hbA hS i1 d_L_law_465 ?_
        rw [e1]
        refine callR k_L_74 X (c_M_count l D g a1) hM hKM hN (va_recv hKM hM (ci := 3) (q0 := 0) rfl rfl) rfl rfl ⟨Nat.le_of_ble_eq_true rfl, Nat.le_of_ble_eq_true rfl⟩ ⟨Nat.le_of_ble_eq_true rfl, Nat.le_of_ble_eq_true rfl⟩ hl.1 rfl rfl (Nat.le_of_ble_eq_true rfl) d_L_law_466 ?_
        refine lv_icmp_eq (tgt := 474) hx hb d_L_law_469 (by decide) (fun _ => ?_) (fun z => absurd rfl z)
        exact KK _ _ _ _ _ _ _ _ _ _ _ _ H locs (hI.mono (by omega)) hC hM hS
      refine lv_tableOut (tgt := 474) hx hb d_L_law_32 (sw_out 0 14 (fun k hk => by match k, hk with | 0, _ => exact c32_0 | 1, _ => exact c32_1 | 2, _ => exact c32_2 | 3, _ => exact c32_3 | 4, _ => exact c32_4 | 5, _ => exact c32_5 | 6, _ => exact c32_6 | 7, _ => exact c32_7 | 8, _ => exact c32_8 | 9, _ => exact c32_9 | 10, _ => exact c32_10 | 11, _ => exact c32_11 | 12, _ => exact c32_12 | 13, _ => exact c32_13)) (by decide) ?_
      exact KK g bu sh al ac rs af bs f1 f2 su sc H locs (hI.mono (by omega)) hC hM hS
set_option maxHeartbeats 4000000 in
set_option maxRecDepth 100000 in
/-- THE LAW, from its entry -/
theorem whole_start {p : Program} {e : Env} {s : State} {m : MethodId} {below : List Frame} {meth : Method} {c : Code} (l : Launch) {b L : Nat} {xs : Nat → Int32} (hL : L ≤ 1536) (C0 : lw_At p s m meth c b L xs) : W p l e room_1 s m #[Value.ref b] below meth c s.heap [] 0 0 (lw_Z below #[Value.ref b] s) (entryFrame m ([Value.ref b] : List Value).toArray 4) := by
  obtain ⟨hx, hb, hr, hml, hown0, hts0, hX, hbl, hlocks, hgv⟩ := id C0
  have hown : s.vm.findClass R_L = some m.cls := hown0
  have hts := gW_tbl hts0
  have hN : nW s := nW.of hts0
  have X : CallFix p m c code 4 s #[Value.ref b] gW R_L := ⟨hx, hb, hml, hown, hts⟩
  have hA : ∀ q : Nat, s.heap.size ≤ q → (fun q : Nat => s.heap.size ≤ q) q := fun _ h => h
  obtain ⟨c0, iS0, hKn0⟩ := u_known (C := R_C) (T := F_C) (N := 22) (n := 22) hts i_C (hts _ q_7)
  obtain ⟨c1, iS1, hKn1⟩ := u_known (C := R_K) (T := F_K) (N := 8) (n := 8) hts i_K (hts _ q_18)
  obtain ⟨c2, iS2, hKn2⟩ := u_known (C := R_S) (T := F_S) (N := 4) (n := 4) hts i_S (hts _ q_57)
  obtain ⟨c3, iS3, hKn3⟩ := u_known (C := R_M) (T := F_M) (N := 28) (n := 28) hts i_M (hts _ q_268)
  obtain ⟨D, hKc⟩ : ∃ D : va_G, ∀ (k : Nat) (q : vw_C), classes[k]? = some q → u_Kn s q.1 q.2.1 q.2.2 (D.1 k) (D.2 k) := by
    refine ⟨(fun k => match k with | 0 => c0 | 1 => c1 | 2 => c2 | _ => c3, fun k => match k with | 0 => iS0 | 1 => iS1 | 2 => iS2 | _ => iS3), ?_⟩
    intro k q hq
    match k, hq with
    | 0, hq => cases hq; exact hKn0
    | 1, hq => cases hq; exact hKn1
    | 2, hq => cases hq; exact hKn2
    | 3, hq => cases hq; exact hKn3
    | k + 4, hq => simp [classes] at hq
  have hK : va_K D classes [] s := ⟨hKc, fun k q h => by simp at h⟩
  have hP : va_P D classes [] s.heap := fun k q h => by simp at h
  have hD : va_D (fun q : Nat => s.heap.size ≤ q) [] := ⟨fun i j p q h => by simp at h, fun k q h => by simp at h⟩
  have hS : va_S (fun q : Nat => s.heap.size ≤ q) s.heap s.heap [] := va_S.rf
  have hl := lv_entry ([.ref b]) (n := 4) (Nat.le_of_ble_eq_true rfl)
  rw [lg_entry_eq]
  generalize (lg_sl ([.ref b]) ++ List.replicate (4 - (lg_sl ([.ref b])).length) Slot.unset).toArray = ls at hl ⊢
  have hl : lv_has ls 4 [(0, .ref b)] := hl
  refine va_new (ci := 0) (fs := dC0) (C := R_C) (T := F_C) (N := 22) hx hb hts i_C t_C t_C_ok hown (hts _ q_6) (hts _ q_7) (hts _ q_1) hK hP hD hS hA rfl dCd (Nat.le_of_ble_eq_true rfl) (Nat.le_of_ble_eq_true rfl) d_L_law_0 (fun q0 H hP hD hS => ?_)
  replace hP : va_P D classes [(q0, .inr (0, dC0))] H := hP
  have hq0 : s.heap.size ≤ q0 := hD.2 0 _ rfl
  refine lv_dup hx hb d_L_law_3 rfl ?_
  refine va_callv (va_runI (As := []) (rest := [.ref q0]) X (c_C_init l D q0 H.size) (cwI 0 hts (gW_call (ws := []) q_10 (fun _ h => by cases h)) rfl rfl rfl (hts _ q_1) (hts _ q_8) (hts _ q_9) rfl (by decide +kernel) ⟨Nat.le_of_ble_eq_true rfl, Nat.le_of_ble_eq_true rfl⟩) ⟨bN.blind, fun U hU hW => ⟨rfl, bN.at hP hK hN hU hW⟩⟩ rfl rfl hl.1 rfl (lv_room (Nat.le_of_ble_eq_true rfl)) d_L_law_4 ⟨Nat.le_of_ble_eq_true rfl, Nat.le_of_ble_eq_true rfl⟩) hS (fun q _ h => by rcases h with rfl | h; exact hq0; exact Nat.le_trans hS.1 h) (fun q h => by rcases h with rfl | h; exact hq0; exact Nat.le_trans hS.1 h) (fun u t H1 locs ht hvm hw hB hz1 hk1 hS1 => ?_)
  obtain ⟨ad, kc, am, sm, had, hC, hKC, hOC0⟩ := hB
  rw [ht] at hC
  replace hKC := va_K.moved hvm.symm hKC
  have hDC : va_D (fun q : Nat => s.heap.size ≤ q) (wCs ad kc am sm g00 0 0 0 0) := by
    refine va_D.weaken (hOC0 kc _ _ _ _ _ _ _ _ _ _ _ _ _ _ _ _ _ _ _ _ _ _ _ _ _) (fun k q _ h => ?_)
    rcases h with h | h
    · rw [h]; exact hq0
    · exact Nat.le_trans hS.1 h
  refine lv_astore_n (lv' := [(1, _), (0, _)]) hx hb d_L_law_7 rfl hl (by decide) rfl (fun ls hl => ?_)
  refine va_new (ci := 3) (fs := dM) (C := R_M) (T := F_M) (N := 28) hx hb hts i_M t_M t_M_ok hown (hts _ q_267) (hts _ q_268) (hts _ q_4) hK hC hDC hS1 hA rfl dMd (Nat.le_of_ble_eq_true rfl) (Nat.le_of_ble_eq_true rfl) d_L_law_8 (fun q1 H2 hP2 hD2 hS2 => ?_)
  replace hC := hP2.left
  have hM0 := hP2.right
  have hq1 : s.heap.size ≤ q1 := hD2.2 (wCs ad kc am sm g00 0 0 0 0).length (q1, .inr (3, dM)) (by rw [List.getElem?_append_right (Nat.le_refl _), Nat.sub_self]; rfl)
  have hne : ∀ (k : Nat) (q : Nat × va_E), (wCs ad kc am sm g00 0 0 0 0)[k]? = some q → q.1 ≠ q1 := by
    intro k q hk z
    have hlt := (List.getElem?_eq_some_iff.mp hk).1
    have h9 := hD2.1 k (wCs ad kc am sm g00 0 0 0 0).length q (q1, .inr (3, dM)) (by rw [List.getElem?_append_left hlt]; exact hk) (by rw [List.getElem?_append_right (Nat.le_refl _), Nat.sub_self]; rfl) z
    omega
  refine lv_dup hx hb d_L_law_11 rfl ?_
  refine va_callv (va_runI (As := []) (rest := [.ref q1]) X (c_M_init l D q1 H2.size) (cwI 0 hts (gW_call (ws := []) q_271 (fun _ h => by cases h)) rfl rfl rfl (hts _ q_4) (hts _ q_269) (hts _ q_270) rfl (by decide +kernel) ⟨Nat.le_of_ble_eq_true rfl, Nat.le_of_ble_eq_true rfl⟩) ⟨bN.blind, fun U hU hW => ⟨rfl, bN.at hM0 hK hN hU hW⟩⟩ rfl rfl hl.1 rfl (lv_room (Nat.le_of_ble_eq_true rfl)) d_L_law_12 ⟨Nat.le_of_ble_eq_true rfl, Nat.le_of_ble_eq_true rfl⟩) hS2 (fun q _ h => by rcases h with rfl | h; exact hq1; exact Nat.le_trans hS2.1 h) (fun q h => by rcases h with rfl | h; exact hq1; exact Nat.le_trans hS2.1 h) (fun u2 t2 H3 locs3 ht2 hvm2 hw2 hB2 hz2 hk2 hS3 => ?_)
  obtain ⟨md, kd, hmd, hM, hKM, hOM⟩ := hB2
  rw [ht2] at hM
  replace hKM := va_K.moved hvm2.symm hKM
  have hOC : okC (fun q => ∃ (k : Nat) (e : va_E), (wCs ad kc am sm g00 0 0 0 0)[k]? = some (q, e)) ad am sm := by
    have h9 : va_D (fun q => ∃ (k : Nat) (e : va_E), (wCs ad kc am sm g00 0 0 0 0)[k]? = some (q, e)) (wCs ad kc am sm g00 0 0 0 0) := ⟨hDC.1, fun k q hk => ⟨k, q.2, hk⟩⟩
    exact okC.of h9
  have hdj : ∀ q, (∃ (k : Nat) (e : va_E), (wCs ad kc am sm g00 0 0 0 0)[k]? = some (q, e)) → (q = q1 ∨ H2.size ≤ q) → False := by
    intro q h9 h8
    obtain ⟨k, e9, hk⟩ := h9
    rcases h8 with h8 | h8
    · exact hne k _ hk h8
    · have := (hC k _ hk).lt
      exact absurd h8 (Nat.not_le.mpr this)
  replace hC := keepC hC hOC hk2 hdj
  refine lv_astore_n (lv' := [(2, _), (1, _), (0, _)]) hx hb d_L_law_15 rfl hl (by decide) rfl (fun ls hl => ?_)
  refine lv_iconst (v := 0) hx hb d_L_law_16 (by decide) ?_
  refine lv_istore_n (lv' := [(3, _), (2, _), (1, _), (0, _)]) hx hb d_L_law_17 rfl hl (by decide) rfl (fun ls hl => ?_)
  refine W.widen (k := 600000) (n := 7302250) (Nat.le_of_ble_eq_true rfl) (Nat.le_of_ble_eq_true rfl) ?_
  rw [← had, ← hmd] at hl
  exact law_loop hL C0 hOC hOM hdj (fun q h => by obtain ⟨k, e9, hk⟩ := h; exact hDC.2 k _ hk) (fun q h => by rcases h with rfl | h; exact hq1; exact Nat.le_trans hS2.1 h) hKC hKM (L + 1) 0 (by omega) (by omega) g00 0 0 0 0 0 0 0 0 0 0 0 H3 locs3 ls Inv.zero hC hM hS3 hl
end
section
set_option maxHeartbeats 4000000 in
theorem lw_walk (l : Launch) (b : Addr) (xs : List Int32) : MetFree l x (headSpec (Jvm.Cond.code x code maxLocals ret :: tables_1) room_1) (lw_P b xs) (fun _ _ _ _ _ => True) lw_Q := by
  refine MetFree.of_bodyS (code := code) (maxLocals := maxLocals) (ret := ret) (by decide) ?_ ?_
  · intro args s m h hn
    obtain ⟨meth, c, h1, h2, h3, h4, h5, h6, -, -⟩ := Cond.code_spec hn (atoms_spec (ws := Jvm.Cond.code x code maxLocals ret :: tables_1) h _ List.mem_cons_self)
    exact ⟨meth, c, h1, h2, h3, h4, h5, h6⟩
  · intro p e s m args below meth c s₁ B hml0 hP _
    obtain ⟨rfl, hx, hbd, hgv⟩ := hP
    obtain ⟨scr, harrAt, hlist, hof, hsmall⟩ := hx
    obtain ⟨hcb, hkn, -, -⟩ := State.arrayAt?_spec harrAt
    have hown : s.vm.findClass R_law = some m.cls := findClass_of_methodNamed B.named
    have hts0 : ∀ c ∈ (Jvm.Cond.code x code maxLocals ret :: tables_1), c.before #[Value.ref b] s = true := atoms_spec (ws := Jvm.Cond.code x code maxLocals ret :: tables_1) B.pre
    have hts : ∀ w ∈ lw_tbl, w.before #[Value.ref b] s = true := k2_hts_sels lw_privs (fun w hw => hts0 w (List.mem_cons_of_mem _ hw)) lw_privs_ok
    have hml : c.maxLocals = 4 := B.maxLocals_eq (hts0 _ List.mem_cons_self)
    have X₀ : Stand p l e room_1 s m #[Value.ref b] below meth c s₁ [] 0 0 := Stand.of_body B
    have hh0 : s₁.heap = s.heap := by rw [B.state]; rfl
    have hsz : scr.slots.size = xs.length := by rw [← Array.length_toList, hlist, List.length_map]
    have hval : ∀ j : Nat, j < xs.length → scr.slots[j]? = some (.int (xs.getD j 0)) := fun j hj => by
      rw [← Array.getElem?_toList, hlist]
      simp [hj]
    have hbl : b < s.heap.size := (Array.getElem?_eq_some_iff.mp hcb).1
    have hX : va_X b xs.length (fun j => xs.getD j 0) s s.heap := ⟨scr, hcb, hof, hkn, hsz, hval⟩
    have K : W p l e room_1 s m #[Value.ref b] below meth c s₁.heap [] 0 0 (lw_Z below #[Value.ref b] s) (entryFrame m ([Value.ref b] : List Value).toArray 4) := by
      rw [hh0]
      exact whole_start l hbd ⟨B.exec, B.bytes, B.returns, hml, hown, hts, hX, hbl, B.notSynchronized, hgv⟩
    obtain ⟨t, a1, o, b1, b2, b3⟩ := K s₁ rfl X₀
    exact ⟨t, o, a1, b1, b2, b3⟩
theorem lw_pre_spec {args : Array Value} {s : State} (h : (Jvm.Cond.and given_1 narrow_1).before args s = true) (hr : rest_1_c.before args s = true) : ∃ (b : Addr) (xs : List Int32), lw_P b xs args s := by
  have hs := flat_of_before _ h
  have hq := flat_of_before _ hr
  have hc : (Cond.count 1).before args s = true := hs _ (by decide +kernel)
  have harr : (Cond.arrayOf (.arg 0) .int).before args s = true := hs _ (by decide +kernel)
  have hle : (Cond.le (.length (.arg 0)) (.int 1536)).before args s = true := hs _ (by decide +kernel)
  have hlen : (Cond.isInt (.length (.arg 0))).before args s = true := hq _ (by decide +kernel)
  have hall : (Cond.all (.arg 0) (.isInt (.elem (.arg 0) (.index 0)))).before args s = true := hq _ (by decide +kernel)
  obtain ⟨b, xs, hb, hx⟩ := State.ints_of_pre rfl harr hlen hall
  have hsm : xs.length < 2 ^ 31 := hx.choose_spec.2.2.2
  have hev : (Term.length (.arg 0)).eval args s none [] s = some (.int xs.length.toInt32) := hx.length_eval hb
  have hv := Cond.le_ints hev (show (Term.int 1536).eval args s none [] s = some (.int 1536) from rfl)
  have hd : xs.length.toInt32 ≤ 1536 := by
    simpa [Cond.before, Cond.holds, hv] using hle
  have hN : xs.length ≤ 1536 := (Int32.ofNat_le_ofNat hsm (by decide)).mp (show Int32.ofNat xs.length ≤ Int32.ofNat 1536 from hd)
  exact ⟨b, xs, Cond.one_arg hc (show args[0]? = some (.ref b) from hb), hx, hN, h⟩
theorem lw_comes (l : Launch) : Comes l x (Jvm.Cond.code x code maxLocals ret :: tables_1) room_1 (fun tb e args s => Calls_1 tb e args s ∧ rest_1 tb e args s ∧ Pre_1 tb e args s)
    (fun _ _ args s o t => lw_Q args s o t) := by
  intro p e ha hc hk s m args below hf hfit hheap happ hpre
  obtain ⟨b, xs, hP⟩ := lw_pre_spec hpre.2.2 hpre.2.1
  obtain ⟨k, o, h1, h2, h3, hQ⟩ := lw_walk l b xs p e ha hc hk s m args below hf ((Spec.applies_iff_loose hf).mp happ).1 hP trivial
  exact ⟨k, o, h1, h2, h3, hQ⟩
theorem lw_frame {s t : State} {o : Outcome} {args : Array Value} (h : Framed s o t [] 600000 7302250) :
    Framed s o t (fieldLocs frame_1_writes args s ++ arrayLocs frame_1_arrays args s ++ staticLocs frame_1_statics s) 600000 7302250 := h
theorem lw_limb (L : Cond) (hL : ∀ (args : Array Value) (s t : State), L.after args s (.returned (some (.int 1))) t = true) :
    ArmFor flags0 classFile x code maxLocals ret World_1 tables_1 room_1 Calls_1 rest_1 Pre_1
      (fun tb e a s o t => postC L tb e a s o t ∧ Framed s o t (fieldLocs frame_1_writes a s ++ arrayLocs frame_1_arrays a s ++ staticLocs frame_1_statics s) 600000 7302250) := by
  intro l _ _ _ p e ha hc hk s m args below hf hfit hheap happ hpre
  obtain ⟨k, o, h1, h2, h3, rfl, hF⟩ := lw_comes l p e ha hc hk s m args below hf hfit hheap happ hpre
  exact ⟨k, _, h1, h2, h3, hL args s _, lw_frame hF⟩
theorem i_vc : Claimed_1_1 ∧ Claimed_1_2 := ⟨lw_limb limb_1_1 (fun args s t => by simp [limb_1_1, Cond.after, Cond.holds, Cond.value]), lw_limb limb_1_2 (fun args s t => Cond.after_iff.mpr (by
  first | (rw [show limb_1_2 = Cond.eq .result (.int 1) from rfl, Cond.eq_ints (x := 1) (y := 1) rfl rfl]; simp; done) | (simp [limb_1_2, Cond.value, Term.eval]; done)))⟩
end
