section
-- ===== PART A: goes FIRST, ahead of the names: the tables' words, and 'selects' of the private methods out of them =====
/-- a private method of a class that the tables say can be made, by its rows of tables_1 -/
def lw_okq (q : MethodName × Nat) : Prop := (q.1.cls ≠ "java/lang/invoke/MethodHandle" ∧ q.1.cls ≠ "java/lang/invoke/VarHandle") ∧ Cond.instantiable q.1.cls q.2 ∈ tables_1 ∧ Cond.privateMethod q.1 ∈ tables_1 ∧ Cond.instanceMethod q.1 ∈ tables_1
theorem lw_p0 : lw_okq (⟨"BusRing", "isStation", "(I)Z"⟩, 10) := ⟨⟨by decide +kernel, by decide +kernel⟩, List.mem_of_getElem? (i := 4) (by decide +kernel), List.mem_of_getElem? (i := 52) (by decide +kernel), List.mem_of_getElem? (i := 53) (by decide +kernel)⟩
theorem lw_p1 : lw_okq (⟨"BusRing", "isOn", "(I)Z"⟩, 10) := ⟨⟨by decide +kernel, by decide +kernel⟩, List.mem_of_getElem? (i := 4) (by decide +kernel), List.mem_of_getElem? (i := 60) (by decide +kernel), List.mem_of_getElem? (i := 61) (by decide +kernel)⟩
theorem lw_p2 : lw_okq (⟨"BusRing", "repair", "()V"⟩, 10) := ⟨⟨by decide +kernel, by decide +kernel⟩, List.mem_of_getElem? (i := 4) (by decide +kernel), List.mem_of_getElem? (i := 76) (by decide +kernel), List.mem_of_getElem? (i := 77) (by decide +kernel)⟩
theorem lw_p3 : lw_okq (⟨"BusRing", "below", "(I)I"⟩, 10) := ⟨⟨by decide +kernel, by decide +kernel⟩, List.mem_of_getElem? (i := 4) (by decide +kernel), List.mem_of_getElem? (i := 80) (by decide +kernel), List.mem_of_getElem? (i := 81) (by decide +kernel)⟩
theorem lw_p4 : lw_okq (⟨"BusRing", "come", "(I)V"⟩, 10) := ⟨⟨by decide +kernel, by decide +kernel⟩, List.mem_of_getElem? (i := 4) (by decide +kernel), List.mem_of_getElem? (i := 84) (by decide +kernel), List.mem_of_getElem? (i := 85) (by decide +kernel)⟩
theorem lw_p5 : lw_okq (⟨"BusRing", "highest", "(I)I"⟩, 10) := ⟨⟨by decide +kernel, by decide +kernel⟩, List.mem_of_getElem? (i := 4) (by decide +kernel), List.mem_of_getElem? (i := 100) (by decide +kernel), List.mem_of_getElem? (i := 101) (by decide +kernel)⟩
theorem lw_p6 : lw_okq (⟨"BusRingModel", "isStation", "(I)Z"⟩, 9) := ⟨⟨by decide +kernel, by decide +kernel⟩, List.mem_of_getElem? (i := 127) (by decide +kernel), List.mem_of_getElem? (i := 170) (by decide +kernel), List.mem_of_getElem? (i := 171) (by decide +kernel)⟩
theorem lw_p7 : lw_okq (⟨"BusRingModel", "pass", "()V"⟩, 9) := ⟨⟨by decide +kernel, by decide +kernel⟩, List.mem_of_getElem? (i := 127) (by decide +kernel), List.mem_of_getElem? (i := 190) (by decide +kernel), List.mem_of_getElem? (i := 191) (by decide +kernel)⟩
theorem lw_p8 : lw_okq (⟨"BusRingModel", "below", "(I)I"⟩, 9) := ⟨⟨by decide +kernel, by decide +kernel⟩, List.mem_of_getElem? (i := 127) (by decide +kernel), List.mem_of_getElem? (i := 194) (by decide +kernel), List.mem_of_getElem? (i := 195) (by decide +kernel)⟩
def lw_privs_1 : List (MethodName × Nat) := [(⟨"BusRing", "isStation", "(I)Z"⟩, 10), (⟨"BusRing", "isOn", "(I)Z"⟩, 10), (⟨"BusRing", "repair", "()V"⟩, 10), (⟨"BusRing", "below", "(I)I"⟩, 10), (⟨"BusRing", "come", "(I)V"⟩, 10), (⟨"BusRing", "highest", "(I)I"⟩, 10), (⟨"BusRingModel", "isStation", "(I)Z"⟩, 9), (⟨"BusRingModel", "pass", "()V"⟩, 9), (⟨"BusRingModel", "below", "(I)I"⟩, 9)]
theorem lw_r1 : ∀ q ∈ lw_privs_1, lw_okq q := List.forall_mem_cons.mpr ⟨lw_p0, List.forall_mem_cons.mpr ⟨lw_p1, List.forall_mem_cons.mpr ⟨lw_p2, List.forall_mem_cons.mpr ⟨lw_p3, List.forall_mem_cons.mpr ⟨lw_p4, List.forall_mem_cons.mpr ⟨lw_p5, List.forall_mem_cons.mpr ⟨lw_p6, List.forall_mem_cons.mpr ⟨lw_p7, List.forall_mem_cons.mpr ⟨lw_p8, fun _ h => absurd h List.not_mem_nil⟩⟩⟩⟩⟩⟩⟩⟩⟩
def lw_privs : List (MethodName × Nat) := lw_privs_1
def lw_tbl : List Cond := k2_sels lw_privs ++ tables_1
theorem lw_privs_ok : ∀ q ∈ lw_privs, lw_okq q := lw_r1
/-- the words that stay true in a callee -/
def lw_gt : List Cond := lw_tbl.filter goodWord
theorem lw_good : ∀ w ∈ lw_gt, goodWord w = true := fun w h => (List.mem_filter.mp h).2
theorem lw_gtin : ∀ w ∈ lw_gt, w ∈ lw_tbl := fun w h => (List.mem_filter.mp h).1
-- names: the two classes, their fields in the order of the slots
def R_X : String := "BusRing"
def F_X : u_T := fun k => match k with
  | 0 => ("BusRing", "n", "I", true)
  | 1 => ("BusRing", "cap", "I", true)
  | 2 => ("BusRing", "state", "[I", true)
  | 3 => ("BusRing", "next", "[I", true)
  | 4 => ("BusRing", "frames", "[I", true)
  | 5 => ("BusRing", "first", "[I", true)
  | 6 => ("BusRing", "many", "[I", true)
  | 7 => ("BusRing", "received", "[I", true)
  | 8 => ("BusRing", "token", "I", false)
  | _ => ("BusRing", "isUsed", "Z", false)
def t_X : Nat → FieldType := fun k => match k with
  | 0 => .int
  | 1 => .int
  | 2 => .array .int
  | 3 => .array .int
  | 4 => .array .int
  | 5 => .array .int
  | 6 => .array .int
  | 7 => .array .int
  | 8 => .int
  | _ => .boolean
theorem n_X : ∀ a, a < 10 → ∀ b, b < 10 → a ≠ b → (F_X a).2.1 ≠ (F_X b).2.1 := by decide +kernel
theorem t_X_ok : ∀ k, k < 10 → parseFieldDescriptor (F_X k).2.2.1 = some (t_X k) := by decide +kernel
theorem i_X : ∀ w ∈ u_ws R_X F_X 10, w ∈ lw_gt := by decide +kernel
def R_M : String := "BusRingModel"
def F_M : u_T := fun k => match k with
  | 0 => ("BusRingModel", "stations", "I", true)
  | 1 => ("BusRingModel", "most", "I", true)
  | 2 => ("BusRingModel", "state", "[I", true)
  | 3 => ("BusRingModel", "next", "[I", true)
  | 4 => ("BusRingModel", "frames", "[I", true)
  | 5 => ("BusRingModel", "many", "[I", true)
  | 6 => ("BusRingModel", "received", "[I", true)
  | 7 => ("BusRingModel", "holder", "I", false)
  | _ => ("BusRingModel", "isUsed", "Z", false)
def t_M : Nat → FieldType := fun k => match k with
  | 0 => .int
  | 1 => .int
  | 2 => .array .int
  | 3 => .array .int
  | 4 => .array .int
  | 5 => .array .int
  | 6 => .array .int
  | 7 => .int
  | _ => .boolean
theorem n_M : ∀ a, a < 9 → ∀ b, b < 9 → a ≠ b → (F_M a).2.1 ≠ (F_M b).2.1 := by decide +kernel
theorem t_M_ok : ∀ k, k < 9 → parseFieldDescriptor (F_M k).2.2.1 = some (t_M k) := by decide +kernel
theorem i_M : ∀ w ∈ u_ws R_M F_M 9, w ∈ lw_gt := by decide +kernel
def R_law : String := "BusRingLaw"
abbrev classes : List vw_C := [(R_X, F_X, 10), (R_M, F_M, 9)]
-- methods
abbrev b_X_new : ByteArray := prog_1_method_1_code
abbrev y_X_new : MethodName := ⟨"BusRing", "<init>", "(II)V"⟩
abbrev b_X_init : ByteArray := prog_1_method_2_code
abbrev y_X_init : MethodName := ⟨"BusRing", "init", "()V"⟩
abbrev b_X_powerOn : ByteArray := prog_1_method_6_code
abbrev y_X_powerOn : MethodName := ⟨"BusRing", "powerOn", "(I)Z"⟩
abbrev b_X_isStation : ByteArray := prog_1_method_3_code
abbrev y_X_isStation : MethodName := ⟨"BusRing", "isStation", "(I)Z"⟩
abbrev b_X_powerOff : ByteArray := prog_1_method_7_code
abbrev y_X_powerOff : MethodName := ⟨"BusRing", "powerOff", "(I)Z"⟩
abbrev b_X_isOn : ByteArray := prog_1_method_4_code
abbrev y_X_isOn : MethodName := ⟨"BusRing", "isOn", "(I)Z"⟩
abbrev b_X_queue : ByteArray := prog_1_method_8_code
abbrev y_X_queue : MethodName := ⟨"BusRing", "queue", "(II)I"⟩
abbrev b_X_useToken : ByteArray := prog_1_method_9_code
abbrev y_X_useToken : MethodName := ⟨"BusRing", "useToken", "()I"⟩
abbrev b_X_passToken : ByteArray := prog_1_method_12_code
abbrev y_X_passToken : MethodName := ⟨"BusRing", "passToken", "()I"⟩
abbrev b_X_repair : ByteArray := prog_1_method_11_code
abbrev y_X_repair : MethodName := ⟨"BusRing", "repair", "()V"⟩
abbrev b_X_below : ByteArray := prog_1_method_5_code
abbrev y_X_below : MethodName := ⟨"BusRing", "below", "(I)I"⟩
abbrev b_X_come : ByteArray := prog_1_method_10_code
abbrev y_X_come : MethodName := ⟨"BusRing", "come", "(I)V"⟩
abbrev b_X_solicit : ByteArray := prog_1_method_13_code
abbrev y_X_solicit : MethodName := ⟨"BusRing", "solicit", "()I"⟩
abbrev b_X_leave : ByteArray := prog_1_method_14_code
abbrev y_X_leave : MethodName := ⟨"BusRing", "leave", "(I)I"⟩
abbrev b_X_silence : ByteArray := prog_1_method_16_code
abbrev y_X_silence : MethodName := ⟨"BusRing", "silence", "()I"⟩
abbrev b_X_highest : ByteArray := prog_1_method_15_code
abbrev y_X_highest : MethodName := ⟨"BusRing", "highest", "(I)I"⟩
abbrev b_X_tokenHolder : ByteArray := prog_1_method_17_code
abbrev y_X_tokenHolder : MethodName := ⟨"BusRing", "tokenHolder", "()I"⟩
abbrev b_X_successor : ByteArray := prog_1_method_18_code
abbrev y_X_successor : MethodName := ⟨"BusRing", "successor", "(I)I"⟩
abbrev b_X_receivedBy : ByteArray := prog_1_method_19_code
abbrev y_X_receivedBy : MethodName := ⟨"BusRing", "receivedBy", "(I)I"⟩
abbrev b_X_state : ByteArray := prog_1_method_20_code
abbrev y_X_state : MethodName := ⟨"BusRing", "state", "(I)I"⟩
abbrev b_X_waiting : ByteArray := prog_1_method_21_code
abbrev y_X_waiting : MethodName := ⟨"BusRing", "waiting", "(I)I"⟩
abbrev b_L_cell : ByteArray := method_2_code
abbrev y_L_cell : MethodName := ⟨"BusRingLaw", "cell", "([II)I"⟩
abbrev b_M_new : ByteArray := prog_3_method_1_code
abbrev y_M_new : MethodName := ⟨"BusRingModel", "<init>", "(II)V"⟩
abbrev b_M_init : ByteArray := prog_3_method_2_code
abbrev y_M_init : MethodName := ⟨"BusRingModel", "init", "()V"⟩
abbrev b_M_powerOn : ByteArray := prog_3_method_5_code
abbrev y_M_powerOn : MethodName := ⟨"BusRingModel", "powerOn", "(I)Z"⟩
abbrev b_M_isStation : ByteArray := prog_3_method_3_code
abbrev y_M_isStation : MethodName := ⟨"BusRingModel", "isStation", "(I)Z"⟩
abbrev b_M_powerOff : ByteArray := prog_3_method_6_code
abbrev y_M_powerOff : MethodName := ⟨"BusRingModel", "powerOff", "(I)Z"⟩
abbrev b_M_queue : ByteArray := prog_3_method_7_code
abbrev y_M_queue : MethodName := ⟨"BusRingModel", "queue", "(II)I"⟩
abbrev b_M_useToken : ByteArray := prog_3_method_8_code
abbrev y_M_useToken : MethodName := ⟨"BusRingModel", "useToken", "()I"⟩
abbrev b_M_passToken : ByteArray := prog_3_method_10_code
abbrev y_M_passToken : MethodName := ⟨"BusRingModel", "passToken", "()I"⟩
abbrev b_M_pass : ByteArray := prog_3_method_9_code
abbrev y_M_pass : MethodName := ⟨"BusRingModel", "pass", "()V"⟩
abbrev b_M_below : ByteArray := prog_3_method_4_code
abbrev y_M_below : MethodName := ⟨"BusRingModel", "below", "(I)I"⟩
abbrev b_M_solicit : ByteArray := prog_3_method_11_code
abbrev y_M_solicit : MethodName := ⟨"BusRingModel", "solicit", "()I"⟩
abbrev b_M_leave : ByteArray := prog_3_method_12_code
abbrev y_M_leave : MethodName := ⟨"BusRingModel", "leave", "(I)I"⟩
abbrev b_M_silence : ByteArray := prog_3_method_13_code
abbrev y_M_silence : MethodName := ⟨"BusRingModel", "silence", "()I"⟩
abbrev b_M_tokenHolder : ByteArray := prog_3_method_14_code
abbrev y_M_tokenHolder : MethodName := ⟨"BusRingModel", "tokenHolder", "()I"⟩
abbrev b_M_successor : ByteArray := prog_3_method_15_code
abbrev y_M_successor : MethodName := ⟨"BusRingModel", "successor", "(I)I"⟩
abbrev b_M_receivedBy : ByteArray := prog_3_method_16_code
abbrev y_M_receivedBy : MethodName := ⟨"BusRingModel", "receivedBy", "(I)I"⟩
abbrev b_M_state : ByteArray := prog_3_method_17_code
abbrev y_M_state : MethodName := ⟨"BusRingModel", "state", "(I)I"⟩
abbrev b_M_waiting : ByteArray := prog_3_method_18_code
abbrev y_M_waiting : MethodName := ⟨"BusRingModel", "waiting", "(I)I"⟩
-- rows of the tables, by place
theorem tw_0 : (Jvm.Cond.initialized "BusRingLaw") ∈ lw_gt := List.mem_filter.mpr ⟨List.mem_of_getElem? (i := 9) rfl, rfl⟩
theorem tw_1 : (Jvm.Cond.initialized "BusRing") ∈ lw_gt := List.mem_filter.mpr ⟨List.mem_of_getElem? (i := 10) rfl, rfl⟩
theorem tw_2 : (Jvm.Cond.initialized "BusRingModel") ∈ lw_gt := List.mem_filter.mpr ⟨List.mem_of_getElem? (i := 11) rfl, rfl⟩
theorem tw_3 : (Jvm.Cond.classLink "BusRingLaw" (7 : Nat) "BusRing") ∈ lw_gt := List.mem_filter.mpr ⟨List.mem_of_getElem? (i := 12) rfl, rfl⟩
theorem tw_4 : (Jvm.Cond.instantiable "BusRing" (10 : Nat)) ∈ lw_gt := List.mem_filter.mpr ⟨List.mem_of_getElem? (i := 13) rfl, rfl⟩
theorem tw_5 : (Jvm.Cond.methodLink "BusRingLaw" (15 : Nat) ({ cls := "BusRing", name := "<init>", desc := "(II)V" } : Jvm.MethodName)) ∈ lw_gt := List.mem_filter.mpr ⟨List.mem_of_getElem? (i := 14) rfl, rfl⟩
theorem tw_6 : (Jvm.Cond.instanceMethod ({ cls := "BusRing", name := "<init>", desc := "(II)V" } : Jvm.MethodName)) ∈ lw_gt := List.mem_filter.mpr ⟨List.mem_of_getElem? (i := 15) rfl, rfl⟩
theorem tw_7 : (Jvm.Cond.code ({ cls := "BusRing", name := "<init>", desc := "(II)V" } : Jvm.MethodName) prog_1_method_1_code (3 : Nat) (Option.none : Option Jvm.ClassFile.FieldType)) ∈ lw_gt := List.mem_filter.mpr ⟨List.mem_of_getElem? (i := 16) rfl, rfl⟩
theorem tw_8 : (Jvm.Cond.methodLink "BusRing" (1 : Nat) ({ cls := "java/lang/Object", name := "<init>", desc := "()V" } : Jvm.MethodName)) ∈ lw_gt := List.mem_filter.mpr ⟨List.mem_of_getElem? (i := 17) rfl, rfl⟩
theorem tw_9 : (Jvm.Cond.instanceMethod ({ cls := "java/lang/Object", name := "<init>", desc := "()V" } : Jvm.MethodName)) ∈ lw_gt := List.mem_filter.mpr ⟨List.mem_of_getElem? (i := 18) rfl, rfl⟩
theorem tw_10 : (Jvm.Cond.code ({ cls := "java/lang/Object", name := "<init>", desc := "()V" } : Jvm.MethodName) object_method_1_code (1 : Nat) (Option.none : Option Jvm.ClassFile.FieldType)) ∈ lw_gt := List.mem_filter.mpr ⟨List.mem_of_getElem? (i := 19) rfl, rfl⟩
theorem tw_11 : (Jvm.Cond.fieldLink "BusRing" (28 : Nat) "BusRing" "n" "I") ∈ lw_gt := List.mem_filter.mpr ⟨List.mem_of_getElem? (i := 20) rfl, rfl⟩
theorem tw_12 : (Jvm.Cond.fieldLink "BusRing" (32 : Nat) "BusRing" "cap" "I") ∈ lw_gt := List.mem_filter.mpr ⟨List.mem_of_getElem? (i := 21) rfl, rfl⟩
theorem tw_13 : (Jvm.Cond.fieldLink "BusRing" (7 : Nat) "BusRing" "state" "[I") ∈ lw_gt := List.mem_filter.mpr ⟨List.mem_of_getElem? (i := 22) rfl, rfl⟩
theorem tw_14 : (Jvm.Cond.fieldLink "BusRing" (13 : Nat) "BusRing" "next" "[I") ∈ lw_gt := List.mem_filter.mpr ⟨List.mem_of_getElem? (i := 23) rfl, rfl⟩
theorem tw_15 : (Jvm.Cond.fieldLink "BusRing" (16 : Nat) "BusRing" "frames" "[I") ∈ lw_gt := List.mem_filter.mpr ⟨List.mem_of_getElem? (i := 24) rfl, rfl⟩
theorem tw_16 : (Jvm.Cond.fieldLink "BusRing" (19 : Nat) "BusRing" "first" "[I") ∈ lw_gt := List.mem_filter.mpr ⟨List.mem_of_getElem? (i := 25) rfl, rfl⟩
theorem tw_17 : (Jvm.Cond.fieldLink "BusRing" (22 : Nat) "BusRing" "many" "[I") ∈ lw_gt := List.mem_filter.mpr ⟨List.mem_of_getElem? (i := 26) rfl, rfl⟩
theorem tw_18 : (Jvm.Cond.fieldLink "BusRing" (25 : Nat) "BusRing" "received" "[I") ∈ lw_gt := List.mem_filter.mpr ⟨List.mem_of_getElem? (i := 27) rfl, rfl⟩
theorem tw_19 : (Jvm.Cond.fieldLink "BusRing" (35 : Nat) "BusRing" "token" "I") ∈ lw_gt := List.mem_filter.mpr ⟨List.mem_of_getElem? (i := 28) rfl, rfl⟩
theorem tw_20 : (Jvm.Cond.fieldLink "BusRing" (38 : Nat) "BusRing" "isUsed" "Z") ∈ lw_gt := List.mem_filter.mpr ⟨List.mem_of_getElem? (i := 29) rfl, rfl⟩
theorem tw_42 : (Jvm.Cond.arrayClass Jvm.ClassFile.FieldType.int) ∈ lw_gt := List.mem_filter.mpr ⟨List.mem_of_getElem? (i := 51) rfl, rfl⟩
theorem tw_43 : (Jvm.Cond.methodLink "BusRingLaw" (21 : Nat) ({ cls := "BusRing", name := "init", desc := "()V" } : Jvm.MethodName)) ∈ lw_gt := List.mem_filter.mpr ⟨List.mem_of_getElem? (i := 52) rfl, rfl⟩
theorem tw_44 : (Jvm.Cond.instanceMethod ({ cls := "BusRing", name := "init", desc := "()V" } : Jvm.MethodName)) ∈ lw_gt := List.mem_filter.mpr ⟨List.mem_of_getElem? (i := 53) rfl, rfl⟩
theorem tw_45 : (Jvm.Cond.selects "BusRing" ({ cls := "BusRing", name := "init", desc := "()V" } : Jvm.MethodName) ({ cls := "BusRing", name := "init", desc := "()V" } : Jvm.MethodName)) ∈ lw_gt := List.mem_filter.mpr ⟨List.mem_of_getElem? (i := 54) rfl, rfl⟩
theorem tw_46 : (Jvm.Cond.code ({ cls := "BusRing", name := "init", desc := "()V" } : Jvm.MethodName) prog_1_method_2_code (2 : Nat) (Option.none : Option Jvm.ClassFile.FieldType)) ∈ lw_gt := List.mem_filter.mpr ⟨List.mem_of_getElem? (i := 55) rfl, rfl⟩
theorem tw_47 : (Jvm.Cond.methodLink "BusRingLaw" (25 : Nat) ({ cls := "BusRing", name := "powerOn", desc := "(I)Z" } : Jvm.MethodName)) ∈ lw_gt := List.mem_filter.mpr ⟨List.mem_of_getElem? (i := 56) rfl, rfl⟩
theorem tw_48 : (Jvm.Cond.instanceMethod ({ cls := "BusRing", name := "powerOn", desc := "(I)Z" } : Jvm.MethodName)) ∈ lw_gt := List.mem_filter.mpr ⟨List.mem_of_getElem? (i := 57) rfl, rfl⟩
theorem tw_49 : (Jvm.Cond.selects "BusRing" ({ cls := "BusRing", name := "powerOn", desc := "(I)Z" } : Jvm.MethodName) ({ cls := "BusRing", name := "powerOn", desc := "(I)Z" } : Jvm.MethodName)) ∈ lw_gt := List.mem_filter.mpr ⟨List.mem_of_getElem? (i := 58) rfl, rfl⟩
theorem tw_50 : (Jvm.Cond.code ({ cls := "BusRing", name := "powerOn", desc := "(I)Z" } : Jvm.MethodName) prog_1_method_6_code (2 : Nat) (Option.some Jvm.ClassFile.FieldType.boolean)) ∈ lw_gt := List.mem_filter.mpr ⟨List.mem_of_getElem? (i := 59) rfl, rfl⟩
theorem tw_51 : (Jvm.Cond.methodLink "BusRing" (42 : Nat) ({ cls := "BusRing", name := "isStation", desc := "(I)Z" } : Jvm.MethodName)) ∈ lw_gt := List.mem_filter.mpr ⟨List.mem_of_getElem? (i := 60) rfl, rfl⟩
theorem tw_53 : (Jvm.Cond.instanceMethod ({ cls := "BusRing", name := "isStation", desc := "(I)Z" } : Jvm.MethodName)) ∈ lw_gt := List.mem_filter.mpr ⟨List.mem_of_getElem? (i := 62) rfl, rfl⟩
theorem tw_54 : (Jvm.Cond.code ({ cls := "BusRing", name := "isStation", desc := "(I)Z" } : Jvm.MethodName) prog_1_method_3_code (2 : Nat) (Option.some Jvm.ClassFile.FieldType.boolean)) ∈ lw_gt := List.mem_filter.mpr ⟨List.mem_of_getElem? (i := 63) rfl, rfl⟩
theorem tw_55 : (Jvm.Cond.methodLink "BusRingLaw" (30 : Nat) ({ cls := "BusRing", name := "powerOff", desc := "(I)Z" } : Jvm.MethodName)) ∈ lw_gt := List.mem_filter.mpr ⟨List.mem_of_getElem? (i := 64) rfl, rfl⟩
theorem tw_56 : (Jvm.Cond.instanceMethod ({ cls := "BusRing", name := "powerOff", desc := "(I)Z" } : Jvm.MethodName)) ∈ lw_gt := List.mem_filter.mpr ⟨List.mem_of_getElem? (i := 65) rfl, rfl⟩
theorem tw_57 : (Jvm.Cond.selects "BusRing" ({ cls := "BusRing", name := "powerOff", desc := "(I)Z" } : Jvm.MethodName) ({ cls := "BusRing", name := "powerOff", desc := "(I)Z" } : Jvm.MethodName)) ∈ lw_gt := List.mem_filter.mpr ⟨List.mem_of_getElem? (i := 66) rfl, rfl⟩
theorem tw_58 : (Jvm.Cond.code ({ cls := "BusRing", name := "powerOff", desc := "(I)Z" } : Jvm.MethodName) prog_1_method_7_code (2 : Nat) (Option.some Jvm.ClassFile.FieldType.boolean)) ∈ lw_gt := List.mem_filter.mpr ⟨List.mem_of_getElem? (i := 67) rfl, rfl⟩
theorem tw_59 : (Jvm.Cond.methodLink "BusRing" (46 : Nat) ({ cls := "BusRing", name := "isOn", desc := "(I)Z" } : Jvm.MethodName)) ∈ lw_gt := List.mem_filter.mpr ⟨List.mem_of_getElem? (i := 68) rfl, rfl⟩
theorem tw_61 : (Jvm.Cond.instanceMethod ({ cls := "BusRing", name := "isOn", desc := "(I)Z" } : Jvm.MethodName)) ∈ lw_gt := List.mem_filter.mpr ⟨List.mem_of_getElem? (i := 70) rfl, rfl⟩
theorem tw_62 : (Jvm.Cond.code ({ cls := "BusRing", name := "isOn", desc := "(I)Z" } : Jvm.MethodName) prog_1_method_4_code (2 : Nat) (Option.some Jvm.ClassFile.FieldType.boolean)) ∈ lw_gt := List.mem_filter.mpr ⟨List.mem_of_getElem? (i := 71) rfl, rfl⟩
theorem tw_63 : (Jvm.Cond.methodLink "BusRingLaw" (34 : Nat) ({ cls := "BusRing", name := "queue", desc := "(II)I" } : Jvm.MethodName)) ∈ lw_gt := List.mem_filter.mpr ⟨List.mem_of_getElem? (i := 72) rfl, rfl⟩
theorem tw_64 : (Jvm.Cond.instanceMethod ({ cls := "BusRing", name := "queue", desc := "(II)I" } : Jvm.MethodName)) ∈ lw_gt := List.mem_filter.mpr ⟨List.mem_of_getElem? (i := 73) rfl, rfl⟩
theorem tw_65 : (Jvm.Cond.selects "BusRing" ({ cls := "BusRing", name := "queue", desc := "(II)I" } : Jvm.MethodName) ({ cls := "BusRing", name := "queue", desc := "(II)I" } : Jvm.MethodName)) ∈ lw_gt := List.mem_filter.mpr ⟨List.mem_of_getElem? (i := 74) rfl, rfl⟩
theorem tw_66 : (Jvm.Cond.code ({ cls := "BusRing", name := "queue", desc := "(II)I" } : Jvm.MethodName) prog_1_method_8_code (3 : Nat) (Option.some Jvm.ClassFile.FieldType.int)) ∈ lw_gt := List.mem_filter.mpr ⟨List.mem_of_getElem? (i := 75) rfl, rfl⟩
theorem tw_67 : (Jvm.Cond.methodLink "BusRingLaw" (39 : Nat) ({ cls := "BusRing", name := "useToken", desc := "()I" } : Jvm.MethodName)) ∈ lw_gt := List.mem_filter.mpr ⟨List.mem_of_getElem? (i := 76) rfl, rfl⟩
theorem tw_68 : (Jvm.Cond.instanceMethod ({ cls := "BusRing", name := "useToken", desc := "()I" } : Jvm.MethodName)) ∈ lw_gt := List.mem_filter.mpr ⟨List.mem_of_getElem? (i := 77) rfl, rfl⟩
theorem tw_69 : (Jvm.Cond.selects "BusRing" ({ cls := "BusRing", name := "useToken", desc := "()I" } : Jvm.MethodName) ({ cls := "BusRing", name := "useToken", desc := "()I" } : Jvm.MethodName)) ∈ lw_gt := List.mem_filter.mpr ⟨List.mem_of_getElem? (i := 78) rfl, rfl⟩
theorem tw_70 : (Jvm.Cond.code ({ cls := "BusRing", name := "useToken", desc := "()I" } : Jvm.MethodName) prog_1_method_9_code (3 : Nat) (Option.some Jvm.ClassFile.FieldType.int)) ∈ lw_gt := List.mem_filter.mpr ⟨List.mem_of_getElem? (i := 79) rfl, rfl⟩
theorem tw_71 : (Jvm.Cond.methodLink "BusRingLaw" (44 : Nat) ({ cls := "BusRing", name := "passToken", desc := "()I" } : Jvm.MethodName)) ∈ lw_gt := List.mem_filter.mpr ⟨List.mem_of_getElem? (i := 80) rfl, rfl⟩
theorem tw_72 : (Jvm.Cond.instanceMethod ({ cls := "BusRing", name := "passToken", desc := "()I" } : Jvm.MethodName)) ∈ lw_gt := List.mem_filter.mpr ⟨List.mem_of_getElem? (i := 81) rfl, rfl⟩
theorem tw_73 : (Jvm.Cond.selects "BusRing" ({ cls := "BusRing", name := "passToken", desc := "()I" } : Jvm.MethodName) ({ cls := "BusRing", name := "passToken", desc := "()I" } : Jvm.MethodName)) ∈ lw_gt := List.mem_filter.mpr ⟨List.mem_of_getElem? (i := 82) rfl, rfl⟩
theorem tw_74 : (Jvm.Cond.code ({ cls := "BusRing", name := "passToken", desc := "()I" } : Jvm.MethodName) prog_1_method_12_code (1 : Nat) (Option.some Jvm.ClassFile.FieldType.int)) ∈ lw_gt := List.mem_filter.mpr ⟨List.mem_of_getElem? (i := 83) rfl, rfl⟩
theorem tw_75 : (Jvm.Cond.methodLink "BusRing" (53 : Nat) ({ cls := "BusRing", name := "repair", desc := "()V" } : Jvm.MethodName)) ∈ lw_gt := List.mem_filter.mpr ⟨List.mem_of_getElem? (i := 84) rfl, rfl⟩
theorem tw_77 : (Jvm.Cond.instanceMethod ({ cls := "BusRing", name := "repair", desc := "()V" } : Jvm.MethodName)) ∈ lw_gt := List.mem_filter.mpr ⟨List.mem_of_getElem? (i := 86) rfl, rfl⟩
theorem tw_78 : (Jvm.Cond.code ({ cls := "BusRing", name := "repair", desc := "()V" } : Jvm.MethodName) prog_1_method_11_code (2 : Nat) (Option.none : Option Jvm.ClassFile.FieldType)) ∈ lw_gt := List.mem_filter.mpr ⟨List.mem_of_getElem? (i := 87) rfl, rfl⟩
theorem tw_79 : (Jvm.Cond.methodLink "BusRing" (49 : Nat) ({ cls := "BusRing", name := "below", desc := "(I)I" } : Jvm.MethodName)) ∈ lw_gt := List.mem_filter.mpr ⟨List.mem_of_getElem? (i := 88) rfl, rfl⟩
theorem tw_81 : (Jvm.Cond.instanceMethod ({ cls := "BusRing", name := "below", desc := "(I)I" } : Jvm.MethodName)) ∈ lw_gt := List.mem_filter.mpr ⟨List.mem_of_getElem? (i := 90) rfl, rfl⟩
theorem tw_82 : (Jvm.Cond.code ({ cls := "BusRing", name := "below", desc := "(I)I" } : Jvm.MethodName) prog_1_method_5_code (2 : Nat) (Option.some Jvm.ClassFile.FieldType.int)) ∈ lw_gt := List.mem_filter.mpr ⟨List.mem_of_getElem? (i := 91) rfl, rfl⟩
theorem tw_83 : (Jvm.Cond.methodLink "BusRing" (56 : Nat) ({ cls := "BusRing", name := "come", desc := "(I)V" } : Jvm.MethodName)) ∈ lw_gt := List.mem_filter.mpr ⟨List.mem_of_getElem? (i := 92) rfl, rfl⟩
theorem tw_85 : (Jvm.Cond.instanceMethod ({ cls := "BusRing", name := "come", desc := "(I)V" } : Jvm.MethodName)) ∈ lw_gt := List.mem_filter.mpr ⟨List.mem_of_getElem? (i := 94) rfl, rfl⟩
theorem tw_86 : (Jvm.Cond.code ({ cls := "BusRing", name := "come", desc := "(I)V" } : Jvm.MethodName) prog_1_method_10_code (2 : Nat) (Option.none : Option Jvm.ClassFile.FieldType)) ∈ lw_gt := List.mem_filter.mpr ⟨List.mem_of_getElem? (i := 95) rfl, rfl⟩
theorem tw_87 : (Jvm.Cond.methodLink "BusRingLaw" (48 : Nat) ({ cls := "BusRing", name := "solicit", desc := "()I" } : Jvm.MethodName)) ∈ lw_gt := List.mem_filter.mpr ⟨List.mem_of_getElem? (i := 96) rfl, rfl⟩
theorem tw_88 : (Jvm.Cond.instanceMethod ({ cls := "BusRing", name := "solicit", desc := "()I" } : Jvm.MethodName)) ∈ lw_gt := List.mem_filter.mpr ⟨List.mem_of_getElem? (i := 97) rfl, rfl⟩
theorem tw_89 : (Jvm.Cond.selects "BusRing" ({ cls := "BusRing", name := "solicit", desc := "()I" } : Jvm.MethodName) ({ cls := "BusRing", name := "solicit", desc := "()I" } : Jvm.MethodName)) ∈ lw_gt := List.mem_filter.mpr ⟨List.mem_of_getElem? (i := 98) rfl, rfl⟩
theorem tw_90 : (Jvm.Cond.code ({ cls := "BusRing", name := "solicit", desc := "()I" } : Jvm.MethodName) prog_1_method_13_code (2 : Nat) (Option.some Jvm.ClassFile.FieldType.int)) ∈ lw_gt := List.mem_filter.mpr ⟨List.mem_of_getElem? (i := 99) rfl, rfl⟩
theorem tw_91 : (Jvm.Cond.methodLink "BusRingLaw" (52 : Nat) ({ cls := "BusRing", name := "leave", desc := "(I)I" } : Jvm.MethodName)) ∈ lw_gt := List.mem_filter.mpr ⟨List.mem_of_getElem? (i := 100) rfl, rfl⟩
theorem tw_92 : (Jvm.Cond.instanceMethod ({ cls := "BusRing", name := "leave", desc := "(I)I" } : Jvm.MethodName)) ∈ lw_gt := List.mem_filter.mpr ⟨List.mem_of_getElem? (i := 101) rfl, rfl⟩
theorem tw_93 : (Jvm.Cond.selects "BusRing" ({ cls := "BusRing", name := "leave", desc := "(I)I" } : Jvm.MethodName) ({ cls := "BusRing", name := "leave", desc := "(I)I" } : Jvm.MethodName)) ∈ lw_gt := List.mem_filter.mpr ⟨List.mem_of_getElem? (i := 102) rfl, rfl⟩
theorem tw_94 : (Jvm.Cond.code ({ cls := "BusRing", name := "leave", desc := "(I)I" } : Jvm.MethodName) prog_1_method_14_code (4 : Nat) (Option.some Jvm.ClassFile.FieldType.int)) ∈ lw_gt := List.mem_filter.mpr ⟨List.mem_of_getElem? (i := 103) rfl, rfl⟩
theorem tw_95 : (Jvm.Cond.methodLink "BusRingLaw" (57 : Nat) ({ cls := "BusRing", name := "silence", desc := "()I" } : Jvm.MethodName)) ∈ lw_gt := List.mem_filter.mpr ⟨List.mem_of_getElem? (i := 104) rfl, rfl⟩
theorem tw_96 : (Jvm.Cond.instanceMethod ({ cls := "BusRing", name := "silence", desc := "()I" } : Jvm.MethodName)) ∈ lw_gt := List.mem_filter.mpr ⟨List.mem_of_getElem? (i := 105) rfl, rfl⟩
theorem tw_97 : (Jvm.Cond.selects "BusRing" ({ cls := "BusRing", name := "silence", desc := "()I" } : Jvm.MethodName) ({ cls := "BusRing", name := "silence", desc := "()I" } : Jvm.MethodName)) ∈ lw_gt := List.mem_filter.mpr ⟨List.mem_of_getElem? (i := 106) rfl, rfl⟩
theorem tw_98 : (Jvm.Cond.code ({ cls := "BusRing", name := "silence", desc := "()I" } : Jvm.MethodName) prog_1_method_16_code (2 : Nat) (Option.some Jvm.ClassFile.FieldType.int)) ∈ lw_gt := List.mem_filter.mpr ⟨List.mem_of_getElem? (i := 107) rfl, rfl⟩
theorem tw_99 : (Jvm.Cond.methodLink "BusRing" (60 : Nat) ({ cls := "BusRing", name := "highest", desc := "(I)I" } : Jvm.MethodName)) ∈ lw_gt := List.mem_filter.mpr ⟨List.mem_of_getElem? (i := 108) rfl, rfl⟩
theorem tw_101 : (Jvm.Cond.instanceMethod ({ cls := "BusRing", name := "highest", desc := "(I)I" } : Jvm.MethodName)) ∈ lw_gt := List.mem_filter.mpr ⟨List.mem_of_getElem? (i := 110) rfl, rfl⟩
theorem tw_102 : (Jvm.Cond.code ({ cls := "BusRing", name := "highest", desc := "(I)I" } : Jvm.MethodName) prog_1_method_15_code (3 : Nat) (Option.some Jvm.ClassFile.FieldType.int)) ∈ lw_gt := List.mem_filter.mpr ⟨List.mem_of_getElem? (i := 111) rfl, rfl⟩
theorem tw_103 : (Jvm.Cond.methodLink "BusRingLaw" (61 : Nat) ({ cls := "BusRing", name := "tokenHolder", desc := "()I" } : Jvm.MethodName)) ∈ lw_gt := List.mem_filter.mpr ⟨List.mem_of_getElem? (i := 112) rfl, rfl⟩
theorem tw_104 : (Jvm.Cond.instanceMethod ({ cls := "BusRing", name := "tokenHolder", desc := "()I" } : Jvm.MethodName)) ∈ lw_gt := List.mem_filter.mpr ⟨List.mem_of_getElem? (i := 113) rfl, rfl⟩
theorem tw_105 : (Jvm.Cond.selects "BusRing" ({ cls := "BusRing", name := "tokenHolder", desc := "()I" } : Jvm.MethodName) ({ cls := "BusRing", name := "tokenHolder", desc := "()I" } : Jvm.MethodName)) ∈ lw_gt := List.mem_filter.mpr ⟨List.mem_of_getElem? (i := 114) rfl, rfl⟩
theorem tw_106 : (Jvm.Cond.code ({ cls := "BusRing", name := "tokenHolder", desc := "()I" } : Jvm.MethodName) prog_1_method_17_code (1 : Nat) (Option.some Jvm.ClassFile.FieldType.int)) ∈ lw_gt := List.mem_filter.mpr ⟨List.mem_of_getElem? (i := 115) rfl, rfl⟩
theorem tw_107 : (Jvm.Cond.methodLink "BusRingLaw" (65 : Nat) ({ cls := "BusRing", name := "successor", desc := "(I)I" } : Jvm.MethodName)) ∈ lw_gt := List.mem_filter.mpr ⟨List.mem_of_getElem? (i := 116) rfl, rfl⟩
theorem tw_108 : (Jvm.Cond.instanceMethod ({ cls := "BusRing", name := "successor", desc := "(I)I" } : Jvm.MethodName)) ∈ lw_gt := List.mem_filter.mpr ⟨List.mem_of_getElem? (i := 117) rfl, rfl⟩
theorem tw_109 : (Jvm.Cond.selects "BusRing" ({ cls := "BusRing", name := "successor", desc := "(I)I" } : Jvm.MethodName) ({ cls := "BusRing", name := "successor", desc := "(I)I" } : Jvm.MethodName)) ∈ lw_gt := List.mem_filter.mpr ⟨List.mem_of_getElem? (i := 118) rfl, rfl⟩
theorem tw_110 : (Jvm.Cond.code ({ cls := "BusRing", name := "successor", desc := "(I)I" } : Jvm.MethodName) prog_1_method_18_code (2 : Nat) (Option.some Jvm.ClassFile.FieldType.int)) ∈ lw_gt := List.mem_filter.mpr ⟨List.mem_of_getElem? (i := 119) rfl, rfl⟩
theorem tw_111 : (Jvm.Cond.methodLink "BusRingLaw" (69 : Nat) ({ cls := "BusRing", name := "receivedBy", desc := "(I)I" } : Jvm.MethodName)) ∈ lw_gt := List.mem_filter.mpr ⟨List.mem_of_getElem? (i := 120) rfl, rfl⟩
theorem tw_112 : (Jvm.Cond.instanceMethod ({ cls := "BusRing", name := "receivedBy", desc := "(I)I" } : Jvm.MethodName)) ∈ lw_gt := List.mem_filter.mpr ⟨List.mem_of_getElem? (i := 121) rfl, rfl⟩
theorem tw_113 : (Jvm.Cond.selects "BusRing" ({ cls := "BusRing", name := "receivedBy", desc := "(I)I" } : Jvm.MethodName) ({ cls := "BusRing", name := "receivedBy", desc := "(I)I" } : Jvm.MethodName)) ∈ lw_gt := List.mem_filter.mpr ⟨List.mem_of_getElem? (i := 122) rfl, rfl⟩
theorem tw_114 : (Jvm.Cond.code ({ cls := "BusRing", name := "receivedBy", desc := "(I)I" } : Jvm.MethodName) prog_1_method_19_code (2 : Nat) (Option.some Jvm.ClassFile.FieldType.int)) ∈ lw_gt := List.mem_filter.mpr ⟨List.mem_of_getElem? (i := 123) rfl, rfl⟩
theorem tw_115 : (Jvm.Cond.methodLink "BusRingLaw" (73 : Nat) ({ cls := "BusRing", name := "state", desc := "(I)I" } : Jvm.MethodName)) ∈ lw_gt := List.mem_filter.mpr ⟨List.mem_of_getElem? (i := 124) rfl, rfl⟩
theorem tw_116 : (Jvm.Cond.instanceMethod ({ cls := "BusRing", name := "state", desc := "(I)I" } : Jvm.MethodName)) ∈ lw_gt := List.mem_filter.mpr ⟨List.mem_of_getElem? (i := 125) rfl, rfl⟩
theorem tw_117 : (Jvm.Cond.selects "BusRing" ({ cls := "BusRing", name := "state", desc := "(I)I" } : Jvm.MethodName) ({ cls := "BusRing", name := "state", desc := "(I)I" } : Jvm.MethodName)) ∈ lw_gt := List.mem_filter.mpr ⟨List.mem_of_getElem? (i := 126) rfl, rfl⟩
theorem tw_118 : (Jvm.Cond.code ({ cls := "BusRing", name := "state", desc := "(I)I" } : Jvm.MethodName) prog_1_method_20_code (2 : Nat) (Option.some Jvm.ClassFile.FieldType.int)) ∈ lw_gt := List.mem_filter.mpr ⟨List.mem_of_getElem? (i := 127) rfl, rfl⟩
theorem tw_119 : (Jvm.Cond.methodLink "BusRingLaw" (77 : Nat) ({ cls := "BusRing", name := "waiting", desc := "(I)I" } : Jvm.MethodName)) ∈ lw_gt := List.mem_filter.mpr ⟨List.mem_of_getElem? (i := 128) rfl, rfl⟩
theorem tw_120 : (Jvm.Cond.instanceMethod ({ cls := "BusRing", name := "waiting", desc := "(I)I" } : Jvm.MethodName)) ∈ lw_gt := List.mem_filter.mpr ⟨List.mem_of_getElem? (i := 129) rfl, rfl⟩
theorem tw_121 : (Jvm.Cond.selects "BusRing" ({ cls := "BusRing", name := "waiting", desc := "(I)I" } : Jvm.MethodName) ({ cls := "BusRing", name := "waiting", desc := "(I)I" } : Jvm.MethodName)) ∈ lw_gt := List.mem_filter.mpr ⟨List.mem_of_getElem? (i := 130) rfl, rfl⟩
theorem tw_122 : (Jvm.Cond.code ({ cls := "BusRing", name := "waiting", desc := "(I)I" } : Jvm.MethodName) prog_1_method_21_code (2 : Nat) (Option.some Jvm.ClassFile.FieldType.int)) ∈ lw_gt := List.mem_filter.mpr ⟨List.mem_of_getElem? (i := 131) rfl, rfl⟩
theorem tw_123 : (Jvm.Cond.methodLink "BusRingLaw" (9 : Nat) ({ cls := "BusRingLaw", name := "cell", desc := "([II)I" } : Jvm.MethodName)) ∈ lw_gt := List.mem_filter.mpr ⟨List.mem_of_getElem? (i := 132) rfl, rfl⟩
theorem tw_124 : (Jvm.Cond.static ({ cls := "BusRingLaw", name := "cell", desc := "([II)I" } : Jvm.MethodName)) ∈ lw_gt := List.mem_filter.mpr ⟨List.mem_of_getElem? (i := 133) rfl, rfl⟩
theorem tw_125 : (Jvm.Cond.code ({ cls := "BusRingLaw", name := "cell", desc := "([II)I" } : Jvm.MethodName) method_2_code (2 : Nat) (Option.some Jvm.ClassFile.FieldType.int)) ∈ lw_gt := List.mem_filter.mpr ⟨List.mem_of_getElem? (i := 134) rfl, rfl⟩
theorem tw_126 : (Jvm.Cond.classLink "BusRingLaw" (18 : Nat) "BusRingModel") ∈ lw_gt := List.mem_filter.mpr ⟨List.mem_of_getElem? (i := 135) rfl, rfl⟩
theorem tw_127 : (Jvm.Cond.instantiable "BusRingModel" (9 : Nat)) ∈ lw_gt := List.mem_filter.mpr ⟨List.mem_of_getElem? (i := 136) rfl, rfl⟩
theorem tw_128 : (Jvm.Cond.methodLink "BusRingLaw" (20 : Nat) ({ cls := "BusRingModel", name := "<init>", desc := "(II)V" } : Jvm.MethodName)) ∈ lw_gt := List.mem_filter.mpr ⟨List.mem_of_getElem? (i := 137) rfl, rfl⟩
theorem tw_129 : (Jvm.Cond.instanceMethod ({ cls := "BusRingModel", name := "<init>", desc := "(II)V" } : Jvm.MethodName)) ∈ lw_gt := List.mem_filter.mpr ⟨List.mem_of_getElem? (i := 138) rfl, rfl⟩
theorem tw_130 : (Jvm.Cond.code ({ cls := "BusRingModel", name := "<init>", desc := "(II)V" } : Jvm.MethodName) prog_3_method_1_code (3 : Nat) (Option.none : Option Jvm.ClassFile.FieldType)) ∈ lw_gt := List.mem_filter.mpr ⟨List.mem_of_getElem? (i := 139) rfl, rfl⟩
theorem tw_131 : (Jvm.Cond.methodLink "BusRingModel" (1 : Nat) ({ cls := "java/lang/Object", name := "<init>", desc := "()V" } : Jvm.MethodName)) ∈ lw_gt := List.mem_filter.mpr ⟨List.mem_of_getElem? (i := 140) rfl, rfl⟩
theorem tw_132 : (Jvm.Cond.methodLink "BusRingModel" (32 : Nat) ({ cls := "BusRingModel", name := "init", desc := "()V" } : Jvm.MethodName)) ∈ lw_gt := List.mem_filter.mpr ⟨List.mem_of_getElem? (i := 141) rfl, rfl⟩
theorem tw_133 : (Jvm.Cond.instanceMethod ({ cls := "BusRingModel", name := "init", desc := "()V" } : Jvm.MethodName)) ∈ lw_gt := List.mem_filter.mpr ⟨List.mem_of_getElem? (i := 142) rfl, rfl⟩
theorem tw_134 : (Jvm.Cond.selects "BusRingModel" ({ cls := "BusRingModel", name := "init", desc := "()V" } : Jvm.MethodName) ({ cls := "BusRingModel", name := "init", desc := "()V" } : Jvm.MethodName)) ∈ lw_gt := List.mem_filter.mpr ⟨List.mem_of_getElem? (i := 143) rfl, rfl⟩
theorem tw_135 : (Jvm.Cond.code ({ cls := "BusRingModel", name := "init", desc := "()V" } : Jvm.MethodName) prog_3_method_2_code (2 : Nat) (Option.none : Option Jvm.ClassFile.FieldType)) ∈ lw_gt := List.mem_filter.mpr ⟨List.mem_of_getElem? (i := 144) rfl, rfl⟩
theorem tw_136 : (Jvm.Cond.fieldLink "BusRingModel" (25 : Nat) "BusRingModel" "stations" "I") ∈ lw_gt := List.mem_filter.mpr ⟨List.mem_of_getElem? (i := 145) rfl, rfl⟩
theorem tw_137 : (Jvm.Cond.fieldLink "BusRingModel" (29 : Nat) "BusRingModel" "most" "I") ∈ lw_gt := List.mem_filter.mpr ⟨List.mem_of_getElem? (i := 146) rfl, rfl⟩
theorem tw_138 : (Jvm.Cond.fieldLink "BusRingModel" (7 : Nat) "BusRingModel" "state" "[I") ∈ lw_gt := List.mem_filter.mpr ⟨List.mem_of_getElem? (i := 147) rfl, rfl⟩
theorem tw_139 : (Jvm.Cond.fieldLink "BusRingModel" (13 : Nat) "BusRingModel" "next" "[I") ∈ lw_gt := List.mem_filter.mpr ⟨List.mem_of_getElem? (i := 148) rfl, rfl⟩
theorem tw_140 : (Jvm.Cond.fieldLink "BusRingModel" (16 : Nat) "BusRingModel" "frames" "[I") ∈ lw_gt := List.mem_filter.mpr ⟨List.mem_of_getElem? (i := 149) rfl, rfl⟩
theorem tw_141 : (Jvm.Cond.fieldLink "BusRingModel" (19 : Nat) "BusRingModel" "many" "[I") ∈ lw_gt := List.mem_filter.mpr ⟨List.mem_of_getElem? (i := 150) rfl, rfl⟩
theorem tw_142 : (Jvm.Cond.fieldLink "BusRingModel" (22 : Nat) "BusRingModel" "received" "[I") ∈ lw_gt := List.mem_filter.mpr ⟨List.mem_of_getElem? (i := 151) rfl, rfl⟩
theorem tw_143 : (Jvm.Cond.fieldLink "BusRingModel" (35 : Nat) "BusRingModel" "holder" "I") ∈ lw_gt := List.mem_filter.mpr ⟨List.mem_of_getElem? (i := 152) rfl, rfl⟩
theorem tw_144 : (Jvm.Cond.fieldLink "BusRingModel" (38 : Nat) "BusRingModel" "isUsed" "Z") ∈ lw_gt := List.mem_filter.mpr ⟨List.mem_of_getElem? (i := 153) rfl, rfl⟩
theorem tw_164 : (Jvm.Cond.methodLink "BusRingLaw" (24 : Nat) ({ cls := "BusRingModel", name := "init", desc := "()V" } : Jvm.MethodName)) ∈ lw_gt := List.mem_filter.mpr ⟨List.mem_of_getElem? (i := 173) rfl, rfl⟩
theorem tw_165 : (Jvm.Cond.methodLink "BusRingLaw" (29 : Nat) ({ cls := "BusRingModel", name := "powerOn", desc := "(I)Z" } : Jvm.MethodName)) ∈ lw_gt := List.mem_filter.mpr ⟨List.mem_of_getElem? (i := 174) rfl, rfl⟩
theorem tw_166 : (Jvm.Cond.instanceMethod ({ cls := "BusRingModel", name := "powerOn", desc := "(I)Z" } : Jvm.MethodName)) ∈ lw_gt := List.mem_filter.mpr ⟨List.mem_of_getElem? (i := 175) rfl, rfl⟩
theorem tw_167 : (Jvm.Cond.selects "BusRingModel" ({ cls := "BusRingModel", name := "powerOn", desc := "(I)Z" } : Jvm.MethodName) ({ cls := "BusRingModel", name := "powerOn", desc := "(I)Z" } : Jvm.MethodName)) ∈ lw_gt := List.mem_filter.mpr ⟨List.mem_of_getElem? (i := 176) rfl, rfl⟩
theorem tw_168 : (Jvm.Cond.code ({ cls := "BusRingModel", name := "powerOn", desc := "(I)Z" } : Jvm.MethodName) prog_3_method_5_code (2 : Nat) (Option.some Jvm.ClassFile.FieldType.boolean)) ∈ lw_gt := List.mem_filter.mpr ⟨List.mem_of_getElem? (i := 177) rfl, rfl⟩
theorem tw_169 : (Jvm.Cond.methodLink "BusRingModel" (42 : Nat) ({ cls := "BusRingModel", name := "isStation", desc := "(I)Z" } : Jvm.MethodName)) ∈ lw_gt := List.mem_filter.mpr ⟨List.mem_of_getElem? (i := 178) rfl, rfl⟩
theorem tw_171 : (Jvm.Cond.instanceMethod ({ cls := "BusRingModel", name := "isStation", desc := "(I)Z" } : Jvm.MethodName)) ∈ lw_gt := List.mem_filter.mpr ⟨List.mem_of_getElem? (i := 180) rfl, rfl⟩
theorem tw_172 : (Jvm.Cond.code ({ cls := "BusRingModel", name := "isStation", desc := "(I)Z" } : Jvm.MethodName) prog_3_method_3_code (2 : Nat) (Option.some Jvm.ClassFile.FieldType.boolean)) ∈ lw_gt := List.mem_filter.mpr ⟨List.mem_of_getElem? (i := 181) rfl, rfl⟩
theorem tw_173 : (Jvm.Cond.methodLink "BusRingLaw" (33 : Nat) ({ cls := "BusRingModel", name := "powerOff", desc := "(I)Z" } : Jvm.MethodName)) ∈ lw_gt := List.mem_filter.mpr ⟨List.mem_of_getElem? (i := 182) rfl, rfl⟩
theorem tw_174 : (Jvm.Cond.instanceMethod ({ cls := "BusRingModel", name := "powerOff", desc := "(I)Z" } : Jvm.MethodName)) ∈ lw_gt := List.mem_filter.mpr ⟨List.mem_of_getElem? (i := 183) rfl, rfl⟩
theorem tw_175 : (Jvm.Cond.selects "BusRingModel" ({ cls := "BusRingModel", name := "powerOff", desc := "(I)Z" } : Jvm.MethodName) ({ cls := "BusRingModel", name := "powerOff", desc := "(I)Z" } : Jvm.MethodName)) ∈ lw_gt := List.mem_filter.mpr ⟨List.mem_of_getElem? (i := 184) rfl, rfl⟩
theorem tw_176 : (Jvm.Cond.code ({ cls := "BusRingModel", name := "powerOff", desc := "(I)Z" } : Jvm.MethodName) prog_3_method_6_code (2 : Nat) (Option.some Jvm.ClassFile.FieldType.boolean)) ∈ lw_gt := List.mem_filter.mpr ⟨List.mem_of_getElem? (i := 185) rfl, rfl⟩
theorem tw_177 : (Jvm.Cond.methodLink "BusRingLaw" (38 : Nat) ({ cls := "BusRingModel", name := "queue", desc := "(II)I" } : Jvm.MethodName)) ∈ lw_gt := List.mem_filter.mpr ⟨List.mem_of_getElem? (i := 186) rfl, rfl⟩
theorem tw_178 : (Jvm.Cond.instanceMethod ({ cls := "BusRingModel", name := "queue", desc := "(II)I" } : Jvm.MethodName)) ∈ lw_gt := List.mem_filter.mpr ⟨List.mem_of_getElem? (i := 187) rfl, rfl⟩
theorem tw_179 : (Jvm.Cond.selects "BusRingModel" ({ cls := "BusRingModel", name := "queue", desc := "(II)I" } : Jvm.MethodName) ({ cls := "BusRingModel", name := "queue", desc := "(II)I" } : Jvm.MethodName)) ∈ lw_gt := List.mem_filter.mpr ⟨List.mem_of_getElem? (i := 188) rfl, rfl⟩
theorem tw_180 : (Jvm.Cond.code ({ cls := "BusRingModel", name := "queue", desc := "(II)I" } : Jvm.MethodName) prog_3_method_7_code (3 : Nat) (Option.some Jvm.ClassFile.FieldType.int)) ∈ lw_gt := List.mem_filter.mpr ⟨List.mem_of_getElem? (i := 189) rfl, rfl⟩
theorem tw_181 : (Jvm.Cond.methodLink "BusRingLaw" (43 : Nat) ({ cls := "BusRingModel", name := "useToken", desc := "()I" } : Jvm.MethodName)) ∈ lw_gt := List.mem_filter.mpr ⟨List.mem_of_getElem? (i := 190) rfl, rfl⟩
theorem tw_182 : (Jvm.Cond.instanceMethod ({ cls := "BusRingModel", name := "useToken", desc := "()I" } : Jvm.MethodName)) ∈ lw_gt := List.mem_filter.mpr ⟨List.mem_of_getElem? (i := 191) rfl, rfl⟩
theorem tw_183 : (Jvm.Cond.selects "BusRingModel" ({ cls := "BusRingModel", name := "useToken", desc := "()I" } : Jvm.MethodName) ({ cls := "BusRingModel", name := "useToken", desc := "()I" } : Jvm.MethodName)) ∈ lw_gt := List.mem_filter.mpr ⟨List.mem_of_getElem? (i := 192) rfl, rfl⟩
theorem tw_184 : (Jvm.Cond.code ({ cls := "BusRingModel", name := "useToken", desc := "()I" } : Jvm.MethodName) prog_3_method_8_code (3 : Nat) (Option.some Jvm.ClassFile.FieldType.int)) ∈ lw_gt := List.mem_filter.mpr ⟨List.mem_of_getElem? (i := 193) rfl, rfl⟩
theorem tw_185 : (Jvm.Cond.methodLink "BusRingLaw" (47 : Nat) ({ cls := "BusRingModel", name := "passToken", desc := "()I" } : Jvm.MethodName)) ∈ lw_gt := List.mem_filter.mpr ⟨List.mem_of_getElem? (i := 194) rfl, rfl⟩
theorem tw_186 : (Jvm.Cond.instanceMethod ({ cls := "BusRingModel", name := "passToken", desc := "()I" } : Jvm.MethodName)) ∈ lw_gt := List.mem_filter.mpr ⟨List.mem_of_getElem? (i := 195) rfl, rfl⟩
theorem tw_187 : (Jvm.Cond.selects "BusRingModel" ({ cls := "BusRingModel", name := "passToken", desc := "()I" } : Jvm.MethodName) ({ cls := "BusRingModel", name := "passToken", desc := "()I" } : Jvm.MethodName)) ∈ lw_gt := List.mem_filter.mpr ⟨List.mem_of_getElem? (i := 196) rfl, rfl⟩
theorem tw_188 : (Jvm.Cond.code ({ cls := "BusRingModel", name := "passToken", desc := "()I" } : Jvm.MethodName) prog_3_method_10_code (1 : Nat) (Option.some Jvm.ClassFile.FieldType.int)) ∈ lw_gt := List.mem_filter.mpr ⟨List.mem_of_getElem? (i := 197) rfl, rfl⟩
theorem tw_189 : (Jvm.Cond.methodLink "BusRingModel" (50 : Nat) ({ cls := "BusRingModel", name := "pass", desc := "()V" } : Jvm.MethodName)) ∈ lw_gt := List.mem_filter.mpr ⟨List.mem_of_getElem? (i := 198) rfl, rfl⟩
theorem tw_191 : (Jvm.Cond.instanceMethod ({ cls := "BusRingModel", name := "pass", desc := "()V" } : Jvm.MethodName)) ∈ lw_gt := List.mem_filter.mpr ⟨List.mem_of_getElem? (i := 200) rfl, rfl⟩
theorem tw_192 : (Jvm.Cond.code ({ cls := "BusRingModel", name := "pass", desc := "()V" } : Jvm.MethodName) prog_3_method_9_code (2 : Nat) (Option.none : Option Jvm.ClassFile.FieldType)) ∈ lw_gt := List.mem_filter.mpr ⟨List.mem_of_getElem? (i := 201) rfl, rfl⟩
theorem tw_193 : (Jvm.Cond.methodLink "BusRingModel" (46 : Nat) ({ cls := "BusRingModel", name := "below", desc := "(I)I" } : Jvm.MethodName)) ∈ lw_gt := List.mem_filter.mpr ⟨List.mem_of_getElem? (i := 202) rfl, rfl⟩
theorem tw_195 : (Jvm.Cond.instanceMethod ({ cls := "BusRingModel", name := "below", desc := "(I)I" } : Jvm.MethodName)) ∈ lw_gt := List.mem_filter.mpr ⟨List.mem_of_getElem? (i := 204) rfl, rfl⟩
theorem tw_196 : (Jvm.Cond.code ({ cls := "BusRingModel", name := "below", desc := "(I)I" } : Jvm.MethodName) prog_3_method_4_code (2 : Nat) (Option.some Jvm.ClassFile.FieldType.int)) ∈ lw_gt := List.mem_filter.mpr ⟨List.mem_of_getElem? (i := 205) rfl, rfl⟩
theorem tw_197 : (Jvm.Cond.methodLink "BusRingLaw" (51 : Nat) ({ cls := "BusRingModel", name := "solicit", desc := "()I" } : Jvm.MethodName)) ∈ lw_gt := List.mem_filter.mpr ⟨List.mem_of_getElem? (i := 206) rfl, rfl⟩
theorem tw_198 : (Jvm.Cond.instanceMethod ({ cls := "BusRingModel", name := "solicit", desc := "()I" } : Jvm.MethodName)) ∈ lw_gt := List.mem_filter.mpr ⟨List.mem_of_getElem? (i := 207) rfl, rfl⟩
theorem tw_199 : (Jvm.Cond.selects "BusRingModel" ({ cls := "BusRingModel", name := "solicit", desc := "()I" } : Jvm.MethodName) ({ cls := "BusRingModel", name := "solicit", desc := "()I" } : Jvm.MethodName)) ∈ lw_gt := List.mem_filter.mpr ⟨List.mem_of_getElem? (i := 208) rfl, rfl⟩
theorem tw_200 : (Jvm.Cond.code ({ cls := "BusRingModel", name := "solicit", desc := "()I" } : Jvm.MethodName) prog_3_method_11_code (2 : Nat) (Option.some Jvm.ClassFile.FieldType.int)) ∈ lw_gt := List.mem_filter.mpr ⟨List.mem_of_getElem? (i := 209) rfl, rfl⟩
theorem tw_201 : (Jvm.Cond.methodLink "BusRingLaw" (56 : Nat) ({ cls := "BusRingModel", name := "leave", desc := "(I)I" } : Jvm.MethodName)) ∈ lw_gt := List.mem_filter.mpr ⟨List.mem_of_getElem? (i := 210) rfl, rfl⟩
theorem tw_202 : (Jvm.Cond.instanceMethod ({ cls := "BusRingModel", name := "leave", desc := "(I)I" } : Jvm.MethodName)) ∈ lw_gt := List.mem_filter.mpr ⟨List.mem_of_getElem? (i := 211) rfl, rfl⟩
theorem tw_203 : (Jvm.Cond.selects "BusRingModel" ({ cls := "BusRingModel", name := "leave", desc := "(I)I" } : Jvm.MethodName) ({ cls := "BusRingModel", name := "leave", desc := "(I)I" } : Jvm.MethodName)) ∈ lw_gt := List.mem_filter.mpr ⟨List.mem_of_getElem? (i := 212) rfl, rfl⟩
theorem tw_204 : (Jvm.Cond.code ({ cls := "BusRingModel", name := "leave", desc := "(I)I" } : Jvm.MethodName) prog_3_method_12_code (4 : Nat) (Option.some Jvm.ClassFile.FieldType.int)) ∈ lw_gt := List.mem_filter.mpr ⟨List.mem_of_getElem? (i := 213) rfl, rfl⟩
theorem tw_205 : (Jvm.Cond.methodLink "BusRingLaw" (60 : Nat) ({ cls := "BusRingModel", name := "silence", desc := "()I" } : Jvm.MethodName)) ∈ lw_gt := List.mem_filter.mpr ⟨List.mem_of_getElem? (i := 214) rfl, rfl⟩
theorem tw_206 : (Jvm.Cond.instanceMethod ({ cls := "BusRingModel", name := "silence", desc := "()I" } : Jvm.MethodName)) ∈ lw_gt := List.mem_filter.mpr ⟨List.mem_of_getElem? (i := 215) rfl, rfl⟩
theorem tw_207 : (Jvm.Cond.selects "BusRingModel" ({ cls := "BusRingModel", name := "silence", desc := "()I" } : Jvm.MethodName) ({ cls := "BusRingModel", name := "silence", desc := "()I" } : Jvm.MethodName)) ∈ lw_gt := List.mem_filter.mpr ⟨List.mem_of_getElem? (i := 216) rfl, rfl⟩
theorem tw_208 : (Jvm.Cond.code ({ cls := "BusRingModel", name := "silence", desc := "()I" } : Jvm.MethodName) prog_3_method_13_code (4 : Nat) (Option.some Jvm.ClassFile.FieldType.int)) ∈ lw_gt := List.mem_filter.mpr ⟨List.mem_of_getElem? (i := 217) rfl, rfl⟩
theorem tw_209 : (Jvm.Cond.methodLink "BusRingLaw" (64 : Nat) ({ cls := "BusRingModel", name := "tokenHolder", desc := "()I" } : Jvm.MethodName)) ∈ lw_gt := List.mem_filter.mpr ⟨List.mem_of_getElem? (i := 218) rfl, rfl⟩
theorem tw_210 : (Jvm.Cond.instanceMethod ({ cls := "BusRingModel", name := "tokenHolder", desc := "()I" } : Jvm.MethodName)) ∈ lw_gt := List.mem_filter.mpr ⟨List.mem_of_getElem? (i := 219) rfl, rfl⟩
theorem tw_211 : (Jvm.Cond.selects "BusRingModel" ({ cls := "BusRingModel", name := "tokenHolder", desc := "()I" } : Jvm.MethodName) ({ cls := "BusRingModel", name := "tokenHolder", desc := "()I" } : Jvm.MethodName)) ∈ lw_gt := List.mem_filter.mpr ⟨List.mem_of_getElem? (i := 220) rfl, rfl⟩
theorem tw_212 : (Jvm.Cond.code ({ cls := "BusRingModel", name := "tokenHolder", desc := "()I" } : Jvm.MethodName) prog_3_method_14_code (1 : Nat) (Option.some Jvm.ClassFile.FieldType.int)) ∈ lw_gt := List.mem_filter.mpr ⟨List.mem_of_getElem? (i := 221) rfl, rfl⟩
theorem tw_213 : (Jvm.Cond.methodLink "BusRingLaw" (68 : Nat) ({ cls := "BusRingModel", name := "successor", desc := "(I)I" } : Jvm.MethodName)) ∈ lw_gt := List.mem_filter.mpr ⟨List.mem_of_getElem? (i := 222) rfl, rfl⟩
theorem tw_214 : (Jvm.Cond.instanceMethod ({ cls := "BusRingModel", name := "successor", desc := "(I)I" } : Jvm.MethodName)) ∈ lw_gt := List.mem_filter.mpr ⟨List.mem_of_getElem? (i := 223) rfl, rfl⟩
theorem tw_215 : (Jvm.Cond.selects "BusRingModel" ({ cls := "BusRingModel", name := "successor", desc := "(I)I" } : Jvm.MethodName) ({ cls := "BusRingModel", name := "successor", desc := "(I)I" } : Jvm.MethodName)) ∈ lw_gt := List.mem_filter.mpr ⟨List.mem_of_getElem? (i := 224) rfl, rfl⟩
theorem tw_216 : (Jvm.Cond.code ({ cls := "BusRingModel", name := "successor", desc := "(I)I" } : Jvm.MethodName) prog_3_method_15_code (2 : Nat) (Option.some Jvm.ClassFile.FieldType.int)) ∈ lw_gt := List.mem_filter.mpr ⟨List.mem_of_getElem? (i := 225) rfl, rfl⟩
theorem tw_217 : (Jvm.Cond.methodLink "BusRingLaw" (72 : Nat) ({ cls := "BusRingModel", name := "receivedBy", desc := "(I)I" } : Jvm.MethodName)) ∈ lw_gt := List.mem_filter.mpr ⟨List.mem_of_getElem? (i := 226) rfl, rfl⟩
theorem tw_218 : (Jvm.Cond.instanceMethod ({ cls := "BusRingModel", name := "receivedBy", desc := "(I)I" } : Jvm.MethodName)) ∈ lw_gt := List.mem_filter.mpr ⟨List.mem_of_getElem? (i := 227) rfl, rfl⟩
theorem tw_219 : (Jvm.Cond.selects "BusRingModel" ({ cls := "BusRingModel", name := "receivedBy", desc := "(I)I" } : Jvm.MethodName) ({ cls := "BusRingModel", name := "receivedBy", desc := "(I)I" } : Jvm.MethodName)) ∈ lw_gt := List.mem_filter.mpr ⟨List.mem_of_getElem? (i := 228) rfl, rfl⟩
theorem tw_220 : (Jvm.Cond.code ({ cls := "BusRingModel", name := "receivedBy", desc := "(I)I" } : Jvm.MethodName) prog_3_method_16_code (2 : Nat) (Option.some Jvm.ClassFile.FieldType.int)) ∈ lw_gt := List.mem_filter.mpr ⟨List.mem_of_getElem? (i := 229) rfl, rfl⟩
theorem tw_221 : (Jvm.Cond.methodLink "BusRingLaw" (76 : Nat) ({ cls := "BusRingModel", name := "state", desc := "(I)I" } : Jvm.MethodName)) ∈ lw_gt := List.mem_filter.mpr ⟨List.mem_of_getElem? (i := 230) rfl, rfl⟩
theorem tw_222 : (Jvm.Cond.instanceMethod ({ cls := "BusRingModel", name := "state", desc := "(I)I" } : Jvm.MethodName)) ∈ lw_gt := List.mem_filter.mpr ⟨List.mem_of_getElem? (i := 231) rfl, rfl⟩
theorem tw_223 : (Jvm.Cond.selects "BusRingModel" ({ cls := "BusRingModel", name := "state", desc := "(I)I" } : Jvm.MethodName) ({ cls := "BusRingModel", name := "state", desc := "(I)I" } : Jvm.MethodName)) ∈ lw_gt := List.mem_filter.mpr ⟨List.mem_of_getElem? (i := 232) rfl, rfl⟩
theorem tw_224 : (Jvm.Cond.code ({ cls := "BusRingModel", name := "state", desc := "(I)I" } : Jvm.MethodName) prog_3_method_17_code (2 : Nat) (Option.some Jvm.ClassFile.FieldType.int)) ∈ lw_gt := List.mem_filter.mpr ⟨List.mem_of_getElem? (i := 233) rfl, rfl⟩
theorem tw_225 : (Jvm.Cond.methodLink "BusRingLaw" (80 : Nat) ({ cls := "BusRingModel", name := "waiting", desc := "(I)I" } : Jvm.MethodName)) ∈ lw_gt := List.mem_filter.mpr ⟨List.mem_of_getElem? (i := 234) rfl, rfl⟩
theorem tw_226 : (Jvm.Cond.instanceMethod ({ cls := "BusRingModel", name := "waiting", desc := "(I)I" } : Jvm.MethodName)) ∈ lw_gt := List.mem_filter.mpr ⟨List.mem_of_getElem? (i := 235) rfl, rfl⟩
theorem tw_227 : (Jvm.Cond.selects "BusRingModel" ({ cls := "BusRingModel", name := "waiting", desc := "(I)I" } : Jvm.MethodName) ({ cls := "BusRingModel", name := "waiting", desc := "(I)I" } : Jvm.MethodName)) ∈ lw_gt := List.mem_filter.mpr ⟨List.mem_of_getElem? (i := 236) rfl, rfl⟩
theorem tw_228 : (Jvm.Cond.code ({ cls := "BusRingModel", name := "waiting", desc := "(I)I" } : Jvm.MethodName) prog_3_method_18_code (2 : Nat) (Option.some Jvm.ClassFile.FieldType.int)) ∈ lw_gt := List.mem_filter.mpr ⟨List.mem_of_getElem? (i := 237) rfl, rfl⟩
theorem ts_X_isStation : Cond.selects "BusRing" y_X_isStation y_X_isStation ∈ lw_gt := List.mem_filter.mpr ⟨List.mem_of_getElem? (i := 0) rfl, rfl⟩
theorem ts_X_isOn : Cond.selects "BusRing" y_X_isOn y_X_isOn ∈ lw_gt := List.mem_filter.mpr ⟨List.mem_of_getElem? (i := 1) rfl, rfl⟩
theorem ts_X_repair : Cond.selects "BusRing" y_X_repair y_X_repair ∈ lw_gt := List.mem_filter.mpr ⟨List.mem_of_getElem? (i := 2) rfl, rfl⟩
theorem ts_X_below : Cond.selects "BusRing" y_X_below y_X_below ∈ lw_gt := List.mem_filter.mpr ⟨List.mem_of_getElem? (i := 3) rfl, rfl⟩
theorem ts_X_come : Cond.selects "BusRing" y_X_come y_X_come ∈ lw_gt := List.mem_filter.mpr ⟨List.mem_of_getElem? (i := 4) rfl, rfl⟩
theorem ts_X_highest : Cond.selects "BusRing" y_X_highest y_X_highest ∈ lw_gt := List.mem_filter.mpr ⟨List.mem_of_getElem? (i := 5) rfl, rfl⟩
theorem ts_M_isStation : Cond.selects "BusRingModel" y_M_isStation y_M_isStation ∈ lw_gt := List.mem_filter.mpr ⟨List.mem_of_getElem? (i := 6) rfl, rfl⟩
theorem ts_M_pass : Cond.selects "BusRingModel" y_M_pass y_M_pass ∈ lw_gt := List.mem_filter.mpr ⟨List.mem_of_getElem? (i := 7) rfl, rfl⟩
theorem ts_M_below : Cond.selects "BusRingModel" y_M_below y_M_below ∈ lw_gt := List.mem_filter.mpr ⟨List.mem_of_getElem? (i := 8) rfl, rfl⟩
end
section
theorem d_X_new_0 : decode b_X_new 0 = .ok (.aload_n 0, 1) := by decide +kernel
theorem d_X_new_1 : decode b_X_new 1 = .ok (.invokespecial 1, 3) := by decide +kernel
theorem d_X_new_4 : decode b_X_new 4 = .ok (.aload_n 0, 1) := by decide +kernel
theorem d_X_new_5 : decode b_X_new 5 = .ok (.bipush 16, 2) := by decide +kernel
theorem d_X_new_7 : decode b_X_new 7 = .ok (.newarray .int, 2) := by decide +kernel
theorem d_X_new_9 : decode b_X_new 9 = .ok (.putfield 7, 3) := by decide +kernel
theorem d_X_new_12 : decode b_X_new 12 = .ok (.aload_n 0, 1) := by decide +kernel
theorem d_X_new_13 : decode b_X_new 13 = .ok (.bipush 16, 2) := by decide +kernel
theorem d_X_new_15 : decode b_X_new 15 = .ok (.newarray .int, 2) := by decide +kernel
theorem d_X_new_17 : decode b_X_new 17 = .ok (.putfield 13, 3) := by decide +kernel
theorem d_X_new_20 : decode b_X_new 20 = .ok (.aload_n 0, 1) := by decide +kernel
theorem d_X_new_21 : decode b_X_new 21 = .ok (.sipush 128, 3) := by decide +kernel
theorem d_X_new_24 : decode b_X_new 24 = .ok (.newarray .int, 2) := by decide +kernel
theorem d_X_new_26 : decode b_X_new 26 = .ok (.putfield 16, 3) := by decide +kernel
theorem d_X_new_29 : decode b_X_new 29 = .ok (.aload_n 0, 1) := by decide +kernel
theorem d_X_new_30 : decode b_X_new 30 = .ok (.bipush 16, 2) := by decide +kernel
theorem d_X_new_32 : decode b_X_new 32 = .ok (.newarray .int, 2) := by decide +kernel
theorem d_X_new_34 : decode b_X_new 34 = .ok (.putfield 19, 3) := by decide +kernel
theorem d_X_new_37 : decode b_X_new 37 = .ok (.aload_n 0, 1) := by decide +kernel
theorem d_X_new_38 : decode b_X_new 38 = .ok (.bipush 16, 2) := by decide +kernel
theorem d_X_new_40 : decode b_X_new 40 = .ok (.newarray .int, 2) := by decide +kernel
theorem d_X_new_42 : decode b_X_new 42 = .ok (.putfield 22, 3) := by decide +kernel
theorem d_X_new_45 : decode b_X_new 45 = .ok (.aload_n 0, 1) := by decide +kernel
theorem d_X_new_46 : decode b_X_new 46 = .ok (.bipush 16, 2) := by decide +kernel
theorem d_X_new_48 : decode b_X_new 48 = .ok (.newarray .int, 2) := by decide +kernel
theorem d_X_new_50 : decode b_X_new 50 = .ok (.putfield 25, 3) := by decide +kernel
theorem d_X_new_53 : decode b_X_new 53 = .ok (.aload_n 0, 1) := by decide +kernel
theorem d_X_new_54 : decode b_X_new 54 = .ok (.iload_n 1, 1) := by decide +kernel
theorem d_X_new_55 : decode b_X_new 55 = .ok (.iconst 2, 1) := by decide +kernel
theorem d_X_new_56 : decode b_X_new 56 = .ok (.if_icmp .ge 7, 3) := by decide +kernel
theorem d_X_new_59 : decode b_X_new 59 = .ok (.iconst 2, 1) := by decide +kernel
theorem d_X_new_60 : decode b_X_new 60 = .ok (.goto 15, 3) := by decide +kernel
theorem d_X_new_63 : decode b_X_new 63 = .ok (.iload_n 1, 1) := by decide +kernel
theorem d_X_new_64 : decode b_X_new 64 = .ok (.bipush 16, 2) := by decide +kernel
theorem d_X_new_66 : decode b_X_new 66 = .ok (.if_icmp .le 8, 3) := by decide +kernel
theorem d_X_new_69 : decode b_X_new 69 = .ok (.bipush 16, 2) := by decide +kernel
theorem d_X_new_71 : decode b_X_new 71 = .ok (.goto 4, 3) := by decide +kernel
theorem d_X_new_74 : decode b_X_new 74 = .ok (.iload_n 1, 1) := by decide +kernel
theorem d_X_new_75 : decode b_X_new 75 = .ok (.putfield 28, 3) := by decide +kernel
theorem d_X_new_78 : decode b_X_new 78 = .ok (.aload_n 0, 1) := by decide +kernel
theorem d_X_new_79 : decode b_X_new 79 = .ok (.iload_n 2, 1) := by decide +kernel
theorem d_X_new_80 : decode b_X_new 80 = .ok (.iconst 1, 1) := by decide +kernel
theorem d_X_new_81 : decode b_X_new 81 = .ok (.if_icmp .ge 7, 3) := by decide +kernel
theorem d_X_new_84 : decode b_X_new 84 = .ok (.iconst 1, 1) := by decide +kernel
theorem d_X_new_85 : decode b_X_new 85 = .ok (.goto 15, 3) := by decide +kernel
theorem d_X_new_88 : decode b_X_new 88 = .ok (.iload_n 2, 1) := by decide +kernel
theorem d_X_new_89 : decode b_X_new 89 = .ok (.bipush 8, 2) := by decide +kernel
theorem d_X_new_91 : decode b_X_new 91 = .ok (.if_icmp .le 8, 3) := by decide +kernel
theorem d_X_new_94 : decode b_X_new 94 = .ok (.bipush 8, 2) := by decide +kernel
theorem d_X_new_96 : decode b_X_new 96 = .ok (.goto 4, 3) := by decide +kernel
theorem d_X_new_99 : decode b_X_new 99 = .ok (.iload_n 2, 1) := by decide +kernel
theorem d_X_new_100 : decode b_X_new 100 = .ok (.putfield 32, 3) := by decide +kernel
theorem d_X_new_103 : decode b_X_new 103 = .ok (.aload_n 0, 1) := by decide +kernel
theorem d_X_new_104 : decode b_X_new 104 = .ok (.iconst (-1), 1) := by decide +kernel
theorem d_X_new_105 : decode b_X_new 105 = .ok (.putfield 35, 3) := by decide +kernel
theorem d_X_new_108 : decode b_X_new 108 = .ok (.return_, 1) := by decide +kernel
theorem d_X_init_0 : decode b_X_init 0 = .ok (.iconst 0, 1) := by decide +kernel
theorem d_X_init_1 : decode b_X_init 1 = .ok (.istore_n 1, 1) := by decide +kernel
theorem d_X_init_2 : decode b_X_init 2 = .ok (.iload_n 1, 1) := by decide +kernel
theorem d_X_init_3 : decode b_X_init 3 = .ok (.bipush 16, 2) := by decide +kernel
theorem d_X_init_5 : decode b_X_init 5 = .ok (.if_icmp .ge 30, 3) := by decide +kernel
theorem d_X_init_8 : decode b_X_init 8 = .ok (.aload_n 0, 1) := by decide +kernel
theorem d_X_init_9 : decode b_X_init 9 = .ok (.getfield 7, 3) := by decide +kernel
theorem d_X_init_12 : decode b_X_init 12 = .ok (.iload_n 1, 1) := by decide +kernel
theorem d_X_init_13 : decode b_X_init 13 = .ok (.iconst 0, 1) := by decide +kernel
theorem d_X_init_14 : decode b_X_init 14 = .ok (.iastore, 1) := by decide +kernel
theorem d_X_init_15 : decode b_X_init 15 = .ok (.aload_n 0, 1) := by decide +kernel
theorem d_X_init_16 : decode b_X_init 16 = .ok (.getfield 22, 3) := by decide +kernel
theorem d_X_init_19 : decode b_X_init 19 = .ok (.iload_n 1, 1) := by decide +kernel
theorem d_X_init_20 : decode b_X_init 20 = .ok (.iconst 0, 1) := by decide +kernel
theorem d_X_init_21 : decode b_X_init 21 = .ok (.iastore, 1) := by decide +kernel
theorem d_X_init_22 : decode b_X_init 22 = .ok (.aload_n 0, 1) := by decide +kernel
theorem d_X_init_23 : decode b_X_init 23 = .ok (.getfield 25, 3) := by decide +kernel
theorem d_X_init_26 : decode b_X_init 26 = .ok (.iload_n 1, 1) := by decide +kernel
theorem d_X_init_27 : decode b_X_init 27 = .ok (.iconst 0, 1) := by decide +kernel
theorem d_X_init_28 : decode b_X_init 28 = .ok (.iastore, 1) := by decide +kernel
theorem d_X_init_29 : decode b_X_init 29 = .ok (.iinc 1 1, 3) := by decide +kernel
theorem d_X_init_32 : decode b_X_init 32 = .ok (.goto (-30), 3) := by decide +kernel
theorem d_X_init_35 : decode b_X_init 35 = .ok (.aload_n 0, 1) := by decide +kernel
theorem d_X_init_36 : decode b_X_init 36 = .ok (.iconst (-1), 1) := by decide +kernel
theorem d_X_init_37 : decode b_X_init 37 = .ok (.putfield 35, 3) := by decide +kernel
theorem d_X_init_40 : decode b_X_init 40 = .ok (.aload_n 0, 1) := by decide +kernel
theorem d_X_init_41 : decode b_X_init 41 = .ok (.iconst 0, 1) := by decide +kernel
theorem d_X_init_42 : decode b_X_init 42 = .ok (.putfield 38, 3) := by decide +kernel
theorem d_X_init_45 : decode b_X_init 45 = .ok (.return_, 1) := by decide +kernel
theorem d_X_isStation_0 : decode b_X_isStation 0 = .ok (.iload_n 1, 1) := by decide +kernel
theorem d_X_isStation_1 : decode b_X_isStation 1 = .ok (.ifCond .lt 15, 3) := by decide +kernel
theorem d_X_isStation_4 : decode b_X_isStation 4 = .ok (.iload_n 1, 1) := by decide +kernel
theorem d_X_isStation_5 : decode b_X_isStation 5 = .ok (.aload_n 0, 1) := by decide +kernel
theorem d_X_isStation_6 : decode b_X_isStation 6 = .ok (.getfield 28, 3) := by decide +kernel
theorem d_X_isStation_9 : decode b_X_isStation 9 = .ok (.if_icmp .ge 7, 3) := by decide +kernel
theorem d_X_isStation_12 : decode b_X_isStation 12 = .ok (.iconst 1, 1) := by decide +kernel
theorem d_X_isStation_13 : decode b_X_isStation 13 = .ok (.goto 4, 3) := by decide +kernel
theorem d_X_isStation_16 : decode b_X_isStation 16 = .ok (.iconst 0, 1) := by decide +kernel
theorem d_X_isStation_17 : decode b_X_isStation 17 = .ok (.ireturn, 1) := by decide +kernel
theorem d_X_isOn_0 : decode b_X_isOn 0 = .ok (.aload_n 0, 1) := by decide +kernel
theorem d_X_isOn_1 : decode b_X_isOn 1 = .ok (.iload_n 1, 1) := by decide +kernel
theorem d_X_isOn_2 : decode b_X_isOn 2 = .ok (.invokevirtual 42, 3) := by decide +kernel
theorem d_X_isOn_5 : decode b_X_isOn 5 = .ok (.ifCond .eq 16, 3) := by decide +kernel
theorem d_X_isOn_8 : decode b_X_isOn 8 = .ok (.aload_n 0, 1) := by decide +kernel
theorem d_X_isOn_9 : decode b_X_isOn 9 = .ok (.getfield 7, 3) := by decide +kernel
theorem d_X_isOn_12 : decode b_X_isOn 12 = .ok (.iload_n 1, 1) := by decide +kernel
theorem d_X_isOn_13 : decode b_X_isOn 13 = .ok (.iaload, 1) := by decide +kernel
theorem d_X_isOn_14 : decode b_X_isOn 14 = .ok (.ifCond .eq 7, 3) := by decide +kernel
theorem d_X_isOn_17 : decode b_X_isOn 17 = .ok (.iconst 1, 1) := by decide +kernel
theorem d_X_isOn_18 : decode b_X_isOn 18 = .ok (.goto 4, 3) := by decide +kernel
theorem d_X_isOn_21 : decode b_X_isOn 21 = .ok (.iconst 0, 1) := by decide +kernel
theorem d_X_isOn_22 : decode b_X_isOn 22 = .ok (.ireturn, 1) := by decide +kernel
theorem d_X_below_0 : decode b_X_below 0 = .ok (.iload_n 1, 1) := by decide +kernel
theorem d_X_below_1 : decode b_X_below 1 = .ok (.ifCond .ne 12, 3) := by decide +kernel
theorem d_X_below_4 : decode b_X_below 4 = .ok (.aload_n 0, 1) := by decide +kernel
theorem d_X_below_5 : decode b_X_below 5 = .ok (.getfield 28, 3) := by decide +kernel
theorem d_X_below_8 : decode b_X_below 8 = .ok (.iconst 1, 1) := by decide +kernel
theorem d_X_below_9 : decode b_X_below 9 = .ok (.isub, 1) := by decide +kernel
theorem d_X_below_10 : decode b_X_below 10 = .ok (.goto 6, 3) := by decide +kernel
theorem d_X_below_13 : decode b_X_below 13 = .ok (.iload_n 1, 1) := by decide +kernel
theorem d_X_below_14 : decode b_X_below 14 = .ok (.iconst 1, 1) := by decide +kernel
theorem d_X_below_15 : decode b_X_below 15 = .ok (.isub, 1) := by decide +kernel
theorem d_X_below_16 : decode b_X_below 16 = .ok (.ireturn, 1) := by decide +kernel
theorem d_X_powerOn_0 : decode b_X_powerOn 0 = .ok (.aload_n 0, 1) := by decide +kernel
theorem d_X_powerOn_1 : decode b_X_powerOn 1 = .ok (.iload_n 1, 1) := by decide +kernel
theorem d_X_powerOn_2 : decode b_X_powerOn 2 = .ok (.invokevirtual 42, 3) := by decide +kernel
theorem d_X_powerOn_5 : decode b_X_powerOn 5 = .ok (.ifCond .eq 12, 3) := by decide +kernel
theorem d_X_powerOn_8 : decode b_X_powerOn 8 = .ok (.aload_n 0, 1) := by decide +kernel
theorem d_X_powerOn_9 : decode b_X_powerOn 9 = .ok (.getfield 7, 3) := by decide +kernel
theorem d_X_powerOn_12 : decode b_X_powerOn 12 = .ok (.iload_n 1, 1) := by decide +kernel
theorem d_X_powerOn_13 : decode b_X_powerOn 13 = .ok (.iaload, 1) := by decide +kernel
theorem d_X_powerOn_14 : decode b_X_powerOn 14 = .ok (.ifCond .eq 5, 3) := by decide +kernel
theorem d_X_powerOn_17 : decode b_X_powerOn 17 = .ok (.iconst 0, 1) := by decide +kernel
theorem d_X_powerOn_18 : decode b_X_powerOn 18 = .ok (.ireturn, 1) := by decide +kernel
theorem d_X_powerOn_19 : decode b_X_powerOn 19 = .ok (.aload_n 0, 1) := by decide +kernel
theorem d_X_powerOn_20 : decode b_X_powerOn 20 = .ok (.getfield 7, 3) := by decide +kernel
theorem d_X_powerOn_23 : decode b_X_powerOn 23 = .ok (.iload_n 1, 1) := by decide +kernel
theorem d_X_powerOn_24 : decode b_X_powerOn 24 = .ok (.iconst 2, 1) := by decide +kernel
theorem d_X_powerOn_25 : decode b_X_powerOn 25 = .ok (.iastore, 1) := by decide +kernel
theorem d_X_powerOn_26 : decode b_X_powerOn 26 = .ok (.iconst 1, 1) := by decide +kernel
theorem d_X_powerOn_27 : decode b_X_powerOn 27 = .ok (.ireturn, 1) := by decide +kernel
theorem d_X_powerOff_0 : decode b_X_powerOff 0 = .ok (.aload_n 0, 1) := by decide +kernel
theorem d_X_powerOff_1 : decode b_X_powerOff 1 = .ok (.iload_n 1, 1) := by decide +kernel
theorem d_X_powerOff_2 : decode b_X_powerOff 2 = .ok (.invokevirtual 46, 3) := by decide +kernel
theorem d_X_powerOff_5 : decode b_X_powerOff 5 = .ok (.ifCond .ne 5, 3) := by decide +kernel
theorem d_X_powerOff_8 : decode b_X_powerOff 8 = .ok (.iconst 0, 1) := by decide +kernel
theorem d_X_powerOff_9 : decode b_X_powerOff 9 = .ok (.ireturn, 1) := by decide +kernel
theorem d_X_powerOff_10 : decode b_X_powerOff 10 = .ok (.aload_n 0, 1) := by decide +kernel
theorem d_X_powerOff_11 : decode b_X_powerOff 11 = .ok (.getfield 7, 3) := by decide +kernel
theorem d_X_powerOff_14 : decode b_X_powerOff 14 = .ok (.iload_n 1, 1) := by decide +kernel
theorem d_X_powerOff_15 : decode b_X_powerOff 15 = .ok (.iconst 0, 1) := by decide +kernel
theorem d_X_powerOff_16 : decode b_X_powerOff 16 = .ok (.iastore, 1) := by decide +kernel
theorem d_X_powerOff_17 : decode b_X_powerOff 17 = .ok (.aload_n 0, 1) := by decide +kernel
theorem d_X_powerOff_18 : decode b_X_powerOff 18 = .ok (.getfield 22, 3) := by decide +kernel
theorem d_X_powerOff_21 : decode b_X_powerOff 21 = .ok (.iload_n 1, 1) := by decide +kernel
theorem d_X_powerOff_22 : decode b_X_powerOff 22 = .ok (.iconst 0, 1) := by decide +kernel
theorem d_X_powerOff_23 : decode b_X_powerOff 23 = .ok (.iastore, 1) := by decide +kernel
theorem d_X_powerOff_24 : decode b_X_powerOff 24 = .ok (.aload_n 0, 1) := by decide +kernel
theorem d_X_powerOff_25 : decode b_X_powerOff 25 = .ok (.getfield 35, 3) := by decide +kernel
theorem d_X_powerOff_28 : decode b_X_powerOff 28 = .ok (.iload_n 1, 1) := by decide +kernel
theorem d_X_powerOff_29 : decode b_X_powerOff 29 = .ok (.if_icmp .ne 8, 3) := by decide +kernel
theorem d_X_powerOff_32 : decode b_X_powerOff 32 = .ok (.aload_n 0, 1) := by decide +kernel
theorem d_X_powerOff_33 : decode b_X_powerOff 33 = .ok (.iconst (-1), 1) := by decide +kernel
theorem d_X_powerOff_34 : decode b_X_powerOff 34 = .ok (.putfield 35, 3) := by decide +kernel
theorem d_X_powerOff_37 : decode b_X_powerOff 37 = .ok (.iconst 1, 1) := by decide +kernel
theorem d_X_powerOff_38 : decode b_X_powerOff 38 = .ok (.ireturn, 1) := by decide +kernel
theorem d_X_queue_0 : decode b_X_queue 0 = .ok (.aload_n 0, 1) := by decide +kernel
theorem d_X_queue_1 : decode b_X_queue 1 = .ok (.iload_n 1, 1) := by decide +kernel
theorem d_X_queue_2 : decode b_X_queue 2 = .ok (.invokevirtual 46, 3) := by decide +kernel
theorem d_X_queue_5 : decode b_X_queue 5 = .ok (.ifCond .ne 5, 3) := by decide +kernel
theorem d_X_queue_8 : decode b_X_queue 8 = .ok (.iconst 1, 1) := by decide +kernel
theorem d_X_queue_9 : decode b_X_queue 9 = .ok (.ireturn, 1) := by decide +kernel
theorem d_X_queue_10 : decode b_X_queue 10 = .ok (.aload_n 0, 1) := by decide +kernel
theorem d_X_queue_11 : decode b_X_queue 11 = .ok (.getfield 22, 3) := by decide +kernel
theorem d_X_queue_14 : decode b_X_queue 14 = .ok (.iload_n 1, 1) := by decide +kernel
theorem d_X_queue_15 : decode b_X_queue 15 = .ok (.iaload, 1) := by decide +kernel
theorem d_X_queue_16 : decode b_X_queue 16 = .ok (.aload_n 0, 1) := by decide +kernel
theorem d_X_queue_17 : decode b_X_queue 17 = .ok (.getfield 32, 3) := by decide +kernel
theorem d_X_queue_20 : decode b_X_queue 20 = .ok (.if_icmp .ne 5, 3) := by decide +kernel
theorem d_X_queue_23 : decode b_X_queue 23 = .ok (.iconst 2, 1) := by decide +kernel
theorem d_X_queue_24 : decode b_X_queue 24 = .ok (.ireturn, 1) := by decide +kernel
theorem d_X_queue_25 : decode b_X_queue 25 = .ok (.aload_n 0, 1) := by decide +kernel
theorem d_X_queue_26 : decode b_X_queue 26 = .ok (.getfield 16, 3) := by decide +kernel
theorem d_X_queue_29 : decode b_X_queue 29 = .ok (.bipush 8, 2) := by decide +kernel
theorem d_X_queue_31 : decode b_X_queue 31 = .ok (.iload_n 1, 1) := by decide +kernel
theorem d_X_queue_32 : decode b_X_queue 32 = .ok (.imul, 1) := by decide +kernel
theorem d_X_queue_33 : decode b_X_queue 33 = .ok (.aload_n 0, 1) := by decide +kernel
theorem d_X_queue_34 : decode b_X_queue 34 = .ok (.getfield 19, 3) := by decide +kernel
theorem d_X_queue_37 : decode b_X_queue 37 = .ok (.iload_n 1, 1) := by decide +kernel
theorem d_X_queue_38 : decode b_X_queue 38 = .ok (.iaload, 1) := by decide +kernel
theorem d_X_queue_39 : decode b_X_queue 39 = .ok (.aload_n 0, 1) := by decide +kernel
theorem d_X_queue_40 : decode b_X_queue 40 = .ok (.getfield 22, 3) := by decide +kernel
theorem d_X_queue_43 : decode b_X_queue 43 = .ok (.iload_n 1, 1) := by decide +kernel
theorem d_X_queue_44 : decode b_X_queue 44 = .ok (.iaload, 1) := by decide +kernel
theorem d_X_queue_45 : decode b_X_queue 45 = .ok (.iadd, 1) := by decide +kernel
theorem d_X_queue_46 : decode b_X_queue 46 = .ok (.bipush 8, 2) := by decide +kernel
theorem d_X_queue_48 : decode b_X_queue 48 = .ok (.irem, 1) := by decide +kernel
theorem d_X_queue_49 : decode b_X_queue 49 = .ok (.iadd, 1) := by decide +kernel
theorem d_X_queue_50 : decode b_X_queue 50 = .ok (.iload_n 2, 1) := by decide +kernel
theorem d_X_queue_51 : decode b_X_queue 51 = .ok (.iastore, 1) := by decide +kernel
theorem d_X_queue_52 : decode b_X_queue 52 = .ok (.aload_n 0, 1) := by decide +kernel
theorem d_X_queue_53 : decode b_X_queue 53 = .ok (.getfield 22, 3) := by decide +kernel
theorem d_X_queue_56 : decode b_X_queue 56 = .ok (.iload_n 1, 1) := by decide +kernel
theorem d_X_queue_57 : decode b_X_queue 57 = .ok (.dup2, 1) := by decide +kernel
theorem d_X_queue_58 : decode b_X_queue 58 = .ok (.iaload, 1) := by decide +kernel
theorem d_X_queue_59 : decode b_X_queue 59 = .ok (.iconst 1, 1) := by decide +kernel
theorem d_X_queue_60 : decode b_X_queue 60 = .ok (.iadd, 1) := by decide +kernel
theorem d_X_queue_61 : decode b_X_queue 61 = .ok (.iastore, 1) := by decide +kernel
theorem d_X_queue_62 : decode b_X_queue 62 = .ok (.iconst 0, 1) := by decide +kernel
theorem d_X_queue_63 : decode b_X_queue 63 = .ok (.ireturn, 1) := by decide +kernel
theorem d_X_useToken_0 : decode b_X_useToken 0 = .ok (.aload_n 0, 1) := by decide +kernel
theorem d_X_useToken_1 : decode b_X_useToken 1 = .ok (.getfield 35, 3) := by decide +kernel
theorem d_X_useToken_4 : decode b_X_useToken 4 = .ok (.ifCond .lt 22, 3) := by decide +kernel
theorem d_X_useToken_7 : decode b_X_useToken 7 = .ok (.aload_n 0, 1) := by decide +kernel
theorem d_X_useToken_8 : decode b_X_useToken 8 = .ok (.getfield 38, 3) := by decide +kernel
theorem d_X_useToken_11 : decode b_X_useToken 11 = .ok (.ifCond .ne 15, 3) := by decide +kernel
theorem d_X_useToken_14 : decode b_X_useToken 14 = .ok (.aload_n 0, 1) := by decide +kernel
theorem d_X_useToken_15 : decode b_X_useToken 15 = .ok (.getfield 22, 3) := by decide +kernel
theorem d_X_useToken_18 : decode b_X_useToken 18 = .ok (.aload_n 0, 1) := by decide +kernel
theorem d_X_useToken_19 : decode b_X_useToken 19 = .ok (.getfield 35, 3) := by decide +kernel
theorem d_X_useToken_22 : decode b_X_useToken 22 = .ok (.iaload, 1) := by decide +kernel
theorem d_X_useToken_23 : decode b_X_useToken 23 = .ok (.ifCond .ne 5, 3) := by decide +kernel
theorem d_X_useToken_26 : decode b_X_useToken 26 = .ok (.iconst (-1), 1) := by decide +kernel
theorem d_X_useToken_27 : decode b_X_useToken 27 = .ok (.ireturn, 1) := by decide +kernel
theorem d_X_useToken_28 : decode b_X_useToken 28 = .ok (.aload_n 0, 1) := by decide +kernel
theorem d_X_useToken_29 : decode b_X_useToken 29 = .ok (.getfield 16, 3) := by decide +kernel
theorem d_X_useToken_32 : decode b_X_useToken 32 = .ok (.bipush 8, 2) := by decide +kernel
theorem d_X_useToken_34 : decode b_X_useToken 34 = .ok (.aload_n 0, 1) := by decide +kernel
theorem d_X_useToken_35 : decode b_X_useToken 35 = .ok (.getfield 35, 3) := by decide +kernel
theorem d_X_useToken_38 : decode b_X_useToken 38 = .ok (.imul, 1) := by decide +kernel
theorem d_X_useToken_39 : decode b_X_useToken 39 = .ok (.aload_n 0, 1) := by decide +kernel
theorem d_X_useToken_40 : decode b_X_useToken 40 = .ok (.getfield 19, 3) := by decide +kernel
theorem d_X_useToken_43 : decode b_X_useToken 43 = .ok (.aload_n 0, 1) := by decide +kernel
theorem d_X_useToken_44 : decode b_X_useToken 44 = .ok (.getfield 35, 3) := by decide +kernel
theorem d_X_useToken_47 : decode b_X_useToken 47 = .ok (.iaload, 1) := by decide +kernel
theorem d_X_useToken_48 : decode b_X_useToken 48 = .ok (.iadd, 1) := by decide +kernel
theorem d_X_useToken_49 : decode b_X_useToken 49 = .ok (.iaload, 1) := by decide +kernel
theorem d_X_useToken_50 : decode b_X_useToken 50 = .ok (.istore_n 1, 1) := by decide +kernel
theorem d_X_useToken_51 : decode b_X_useToken 51 = .ok (.aload_n 0, 1) := by decide +kernel
theorem d_X_useToken_52 : decode b_X_useToken 52 = .ok (.getfield 19, 3) := by decide +kernel
theorem d_X_useToken_55 : decode b_X_useToken 55 = .ok (.aload_n 0, 1) := by decide +kernel
theorem d_X_useToken_56 : decode b_X_useToken 56 = .ok (.getfield 35, 3) := by decide +kernel
theorem d_X_useToken_59 : decode b_X_useToken 59 = .ok (.aload_n 0, 1) := by decide +kernel
theorem d_X_useToken_60 : decode b_X_useToken 60 = .ok (.getfield 19, 3) := by decide +kernel
theorem d_X_useToken_63 : decode b_X_useToken 63 = .ok (.aload_n 0, 1) := by decide +kernel
theorem d_X_useToken_64 : decode b_X_useToken 64 = .ok (.getfield 35, 3) := by decide +kernel
theorem d_X_useToken_67 : decode b_X_useToken 67 = .ok (.iaload, 1) := by decide +kernel
theorem d_X_useToken_68 : decode b_X_useToken 68 = .ok (.iconst 1, 1) := by decide +kernel
theorem d_X_useToken_69 : decode b_X_useToken 69 = .ok (.iadd, 1) := by decide +kernel
theorem d_X_useToken_70 : decode b_X_useToken 70 = .ok (.bipush 8, 2) := by decide +kernel
theorem d_X_useToken_72 : decode b_X_useToken 72 = .ok (.irem, 1) := by decide +kernel
theorem d_X_useToken_73 : decode b_X_useToken 73 = .ok (.iastore, 1) := by decide +kernel
theorem d_X_useToken_74 : decode b_X_useToken 74 = .ok (.aload_n 0, 1) := by decide +kernel
theorem d_X_useToken_75 : decode b_X_useToken 75 = .ok (.getfield 22, 3) := by decide +kernel
theorem d_X_useToken_78 : decode b_X_useToken 78 = .ok (.aload_n 0, 1) := by decide +kernel
theorem d_X_useToken_79 : decode b_X_useToken 79 = .ok (.getfield 35, 3) := by decide +kernel
theorem d_X_useToken_82 : decode b_X_useToken 82 = .ok (.dup2, 1) := by decide +kernel
theorem d_X_useToken_83 : decode b_X_useToken 83 = .ok (.iaload, 1) := by decide +kernel
theorem d_X_useToken_84 : decode b_X_useToken 84 = .ok (.iconst 1, 1) := by decide +kernel
theorem d_X_useToken_85 : decode b_X_useToken 85 = .ok (.isub, 1) := by decide +kernel
theorem d_X_useToken_86 : decode b_X_useToken 86 = .ok (.iastore, 1) := by decide +kernel
theorem d_X_useToken_87 : decode b_X_useToken 87 = .ok (.aload_n 0, 1) := by decide +kernel
theorem d_X_useToken_88 : decode b_X_useToken 88 = .ok (.iconst 1, 1) := by decide +kernel
theorem d_X_useToken_89 : decode b_X_useToken 89 = .ok (.putfield 38, 3) := by decide +kernel
theorem d_X_useToken_92 : decode b_X_useToken 92 = .ok (.iconst 0, 1) := by decide +kernel
theorem d_X_useToken_93 : decode b_X_useToken 93 = .ok (.istore_n 2, 1) := by decide +kernel
theorem d_X_useToken_94 : decode b_X_useToken 94 = .ok (.iload_n 2, 1) := by decide +kernel
theorem d_X_useToken_95 : decode b_X_useToken 95 = .ok (.aload_n 0, 1) := by decide +kernel
theorem d_X_useToken_96 : decode b_X_useToken 96 = .ok (.getfield 28, 3) := by decide +kernel
theorem d_X_useToken_99 : decode b_X_useToken 99 = .ok (.if_icmp .ge 36, 3) := by decide +kernel
theorem d_X_useToken_102 : decode b_X_useToken 102 = .ok (.iload_n 2, 1) := by decide +kernel
theorem d_X_useToken_103 : decode b_X_useToken 103 = .ok (.aload_n 0, 1) := by decide +kernel
theorem d_X_useToken_104 : decode b_X_useToken 104 = .ok (.getfield 35, 3) := by decide +kernel
theorem d_X_useToken_107 : decode b_X_useToken 107 = .ok (.if_icmp .eq 22, 3) := by decide +kernel
theorem d_X_useToken_110 : decode b_X_useToken 110 = .ok (.aload_n 0, 1) := by decide +kernel
theorem d_X_useToken_111 : decode b_X_useToken 111 = .ok (.getfield 7, 3) := by decide +kernel
theorem d_X_useToken_114 : decode b_X_useToken 114 = .ok (.iload_n 2, 1) := by decide +kernel
theorem d_X_useToken_115 : decode b_X_useToken 115 = .ok (.iaload, 1) := by decide +kernel
theorem d_X_useToken_116 : decode b_X_useToken 116 = .ok (.ifCond .eq 13, 3) := by decide +kernel
theorem d_X_useToken_119 : decode b_X_useToken 119 = .ok (.aload_n 0, 1) := by decide +kernel
theorem d_X_useToken_120 : decode b_X_useToken 120 = .ok (.getfield 25, 3) := by decide +kernel
theorem d_X_useToken_123 : decode b_X_useToken 123 = .ok (.iload_n 2, 1) := by decide +kernel
theorem d_X_useToken_124 : decode b_X_useToken 124 = .ok (.dup2, 1) := by decide +kernel
theorem d_X_useToken_125 : decode b_X_useToken 125 = .ok (.iaload, 1) := by decide +kernel
theorem d_X_useToken_126 : decode b_X_useToken 126 = .ok (.iconst 1, 1) := by decide +kernel
theorem d_X_useToken_127 : decode b_X_useToken 127 = .ok (.iadd, 1) := by decide +kernel
theorem d_X_useToken_128 : decode b_X_useToken 128 = .ok (.iastore, 1) := by decide +kernel
theorem d_X_useToken_129 : decode b_X_useToken 129 = .ok (.iinc 2 1, 3) := by decide +kernel
theorem d_X_useToken_132 : decode b_X_useToken 132 = .ok (.goto (-38), 3) := by decide +kernel
theorem d_X_useToken_135 : decode b_X_useToken 135 = .ok (.iload_n 1, 1) := by decide +kernel
theorem d_X_useToken_136 : decode b_X_useToken 136 = .ok (.ireturn, 1) := by decide +kernel
theorem d_X_come_0 : decode b_X_come 0 = .ok (.aload_n 0, 1) := by decide +kernel
theorem d_X_come_1 : decode b_X_come 1 = .ok (.iload_n 1, 1) := by decide +kernel
theorem d_X_come_2 : decode b_X_come 2 = .ok (.putfield 35, 3) := by decide +kernel
theorem d_X_come_5 : decode b_X_come 5 = .ok (.aload_n 0, 1) := by decide +kernel
theorem d_X_come_6 : decode b_X_come 6 = .ok (.iconst 0, 1) := by decide +kernel
theorem d_X_come_7 : decode b_X_come 7 = .ok (.putfield 38, 3) := by decide +kernel
theorem d_X_come_10 : decode b_X_come 10 = .ok (.return_, 1) := by decide +kernel
theorem d_X_repair_0 : decode b_X_repair 0 = .ok (.aload_n 0, 1) := by decide +kernel
theorem d_X_repair_1 : decode b_X_repair 1 = .ok (.getfield 13, 3) := by decide +kernel
theorem d_X_repair_4 : decode b_X_repair 4 = .ok (.aload_n 0, 1) := by decide +kernel
theorem d_X_repair_5 : decode b_X_repair 5 = .ok (.getfield 35, 3) := by decide +kernel
theorem d_X_repair_8 : decode b_X_repair 8 = .ok (.iaload, 1) := by decide +kernel
theorem d_X_repair_9 : decode b_X_repair 9 = .ok (.istore_n 1, 1) := by decide +kernel
theorem d_X_repair_10 : decode b_X_repair 10 = .ok (.aload_n 0, 1) := by decide +kernel
theorem d_X_repair_11 : decode b_X_repair 11 = .ok (.getfield 7, 3) := by decide +kernel
theorem d_X_repair_14 : decode b_X_repair 14 = .ok (.iload_n 1, 1) := by decide +kernel
theorem d_X_repair_15 : decode b_X_repair 15 = .ok (.iaload, 1) := by decide +kernel
theorem d_X_repair_16 : decode b_X_repair 16 = .ok (.iconst 3, 1) := by decide +kernel
theorem d_X_repair_17 : decode b_X_repair 17 = .ok (.if_icmp .eq 12, 3) := by decide +kernel
theorem d_X_repair_20 : decode b_X_repair 20 = .ok (.aload_n 0, 1) := by decide +kernel
theorem d_X_repair_21 : decode b_X_repair 21 = .ok (.iload_n 1, 1) := by decide +kernel
theorem d_X_repair_22 : decode b_X_repair 22 = .ok (.invokevirtual 49, 3) := by decide +kernel
theorem d_X_repair_25 : decode b_X_repair 25 = .ok (.istore_n 1, 1) := by decide +kernel
theorem d_X_repair_26 : decode b_X_repair 26 = .ok (.goto (-16), 3) := by decide +kernel
theorem d_X_repair_29 : decode b_X_repair 29 = .ok (.aload_n 0, 1) := by decide +kernel
theorem d_X_repair_30 : decode b_X_repair 30 = .ok (.getfield 13, 3) := by decide +kernel
theorem d_X_repair_33 : decode b_X_repair 33 = .ok (.aload_n 0, 1) := by decide +kernel
theorem d_X_repair_34 : decode b_X_repair 34 = .ok (.getfield 35, 3) := by decide +kernel
theorem d_X_repair_37 : decode b_X_repair 37 = .ok (.iload_n 1, 1) := by decide +kernel
theorem d_X_repair_38 : decode b_X_repair 38 = .ok (.iastore, 1) := by decide +kernel
theorem d_X_repair_39 : decode b_X_repair 39 = .ok (.return_, 1) := by decide +kernel
theorem d_X_passToken_0 : decode b_X_passToken 0 = .ok (.aload_n 0, 1) := by decide +kernel
theorem d_X_passToken_1 : decode b_X_passToken 1 = .ok (.getfield 35, 3) := by decide +kernel
theorem d_X_passToken_4 : decode b_X_passToken 4 = .ok (.ifCond .ge 5, 3) := by decide +kernel
theorem d_X_passToken_7 : decode b_X_passToken 7 = .ok (.iconst (-1), 1) := by decide +kernel
theorem d_X_passToken_8 : decode b_X_passToken 8 = .ok (.ireturn, 1) := by decide +kernel
theorem d_X_passToken_9 : decode b_X_passToken 9 = .ok (.aload_n 0, 1) := by decide +kernel
theorem d_X_passToken_10 : decode b_X_passToken 10 = .ok (.invokevirtual 53, 3) := by decide +kernel
theorem d_X_passToken_13 : decode b_X_passToken 13 = .ok (.aload_n 0, 1) := by decide +kernel
theorem d_X_passToken_14 : decode b_X_passToken 14 = .ok (.aload_n 0, 1) := by decide +kernel
theorem d_X_passToken_15 : decode b_X_passToken 15 = .ok (.getfield 13, 3) := by decide +kernel
theorem d_X_passToken_18 : decode b_X_passToken 18 = .ok (.aload_n 0, 1) := by decide +kernel
theorem d_X_passToken_19 : decode b_X_passToken 19 = .ok (.getfield 35, 3) := by decide +kernel
theorem d_X_passToken_22 : decode b_X_passToken 22 = .ok (.iaload, 1) := by decide +kernel
theorem d_X_passToken_23 : decode b_X_passToken 23 = .ok (.invokevirtual 56, 3) := by decide +kernel
theorem d_X_passToken_26 : decode b_X_passToken 26 = .ok (.aload_n 0, 1) := by decide +kernel
theorem d_X_passToken_27 : decode b_X_passToken 27 = .ok (.getfield 35, 3) := by decide +kernel
theorem d_X_passToken_30 : decode b_X_passToken 30 = .ok (.ireturn, 1) := by decide +kernel
theorem d_X_solicit_0 : decode b_X_solicit 0 = .ok (.aload_n 0, 1) := by decide +kernel
theorem d_X_solicit_1 : decode b_X_solicit 1 = .ok (.getfield 35, 3) := by decide +kernel
theorem d_X_solicit_4 : decode b_X_solicit 4 = .ok (.ifCond .ge 5, 3) := by decide +kernel
theorem d_X_solicit_7 : decode b_X_solicit 7 = .ok (.iconst (-1), 1) := by decide +kernel
theorem d_X_solicit_8 : decode b_X_solicit 8 = .ok (.ireturn, 1) := by decide +kernel
theorem d_X_solicit_9 : decode b_X_solicit 9 = .ok (.aload_n 0, 1) := by decide +kernel
theorem d_X_solicit_10 : decode b_X_solicit 10 = .ok (.aload_n 0, 1) := by decide +kernel
theorem d_X_solicit_11 : decode b_X_solicit 11 = .ok (.getfield 35, 3) := by decide +kernel
theorem d_X_solicit_14 : decode b_X_solicit 14 = .ok (.invokevirtual 49, 3) := by decide +kernel
theorem d_X_solicit_17 : decode b_X_solicit 17 = .ok (.istore_n 1, 1) := by decide +kernel
theorem d_X_solicit_18 : decode b_X_solicit 18 = .ok (.iload_n 1, 1) := by decide +kernel
theorem d_X_solicit_19 : decode b_X_solicit 19 = .ok (.aload_n 0, 1) := by decide +kernel
theorem d_X_solicit_20 : decode b_X_solicit 20 = .ok (.getfield 35, 3) := by decide +kernel
theorem d_X_solicit_23 : decode b_X_solicit 23 = .ok (.if_icmp .eq 35, 3) := by decide +kernel
theorem d_X_solicit_26 : decode b_X_solicit 26 = .ok (.iload_n 1, 1) := by decide +kernel
theorem d_X_solicit_27 : decode b_X_solicit 27 = .ok (.aload_n 0, 1) := by decide +kernel
theorem d_X_solicit_28 : decode b_X_solicit 28 = .ok (.getfield 13, 3) := by decide +kernel
theorem d_X_solicit_31 : decode b_X_solicit 31 = .ok (.aload_n 0, 1) := by decide +kernel
theorem d_X_solicit_32 : decode b_X_solicit 32 = .ok (.getfield 35, 3) := by decide +kernel
theorem d_X_solicit_35 : decode b_X_solicit 35 = .ok (.iaload, 1) := by decide +kernel
theorem d_X_solicit_36 : decode b_X_solicit 36 = .ok (.if_icmp .eq 22, 3) := by decide +kernel
theorem d_X_solicit_39 : decode b_X_solicit 39 = .ok (.aload_n 0, 1) := by decide +kernel
theorem d_X_solicit_40 : decode b_X_solicit 40 = .ok (.getfield 7, 3) := by decide +kernel
theorem d_X_solicit_43 : decode b_X_solicit 43 = .ok (.iload_n 1, 1) := by decide +kernel
theorem d_X_solicit_44 : decode b_X_solicit 44 = .ok (.iaload, 1) := by decide +kernel
theorem d_X_solicit_45 : decode b_X_solicit 45 = .ok (.iconst 2, 1) := by decide +kernel
theorem d_X_solicit_46 : decode b_X_solicit 46 = .ok (.if_icmp .eq 12, 3) := by decide +kernel
theorem d_X_solicit_49 : decode b_X_solicit 49 = .ok (.aload_n 0, 1) := by decide +kernel
theorem d_X_solicit_50 : decode b_X_solicit 50 = .ok (.iload_n 1, 1) := by decide +kernel
theorem d_X_solicit_51 : decode b_X_solicit 51 = .ok (.invokevirtual 49, 3) := by decide +kernel
theorem d_X_solicit_54 : decode b_X_solicit 54 = .ok (.istore_n 1, 1) := by decide +kernel
theorem d_X_solicit_55 : decode b_X_solicit 55 = .ok (.goto (-37), 3) := by decide +kernel
theorem d_X_solicit_58 : decode b_X_solicit 58 = .ok (.iload_n 1, 1) := by decide +kernel
theorem d_X_solicit_59 : decode b_X_solicit 59 = .ok (.aload_n 0, 1) := by decide +kernel
theorem d_X_solicit_60 : decode b_X_solicit 60 = .ok (.getfield 35, 3) := by decide +kernel
theorem d_X_solicit_63 : decode b_X_solicit 63 = .ok (.if_icmp .eq 16, 3) := by decide +kernel
theorem d_X_solicit_66 : decode b_X_solicit 66 = .ok (.iload_n 1, 1) := by decide +kernel
theorem d_X_solicit_67 : decode b_X_solicit 67 = .ok (.aload_n 0, 1) := by decide +kernel
theorem d_X_solicit_68 : decode b_X_solicit 68 = .ok (.getfield 13, 3) := by decide +kernel
theorem d_X_solicit_71 : decode b_X_solicit 71 = .ok (.aload_n 0, 1) := by decide +kernel
theorem d_X_solicit_72 : decode b_X_solicit 72 = .ok (.getfield 35, 3) := by decide +kernel
theorem d_X_solicit_75 : decode b_X_solicit 75 = .ok (.iaload, 1) := by decide +kernel
theorem d_X_solicit_76 : decode b_X_solicit 76 = .ok (.if_icmp .ne 5, 3) := by decide +kernel
theorem d_X_solicit_79 : decode b_X_solicit 79 = .ok (.iconst (-1), 1) := by decide +kernel
theorem d_X_solicit_80 : decode b_X_solicit 80 = .ok (.ireturn, 1) := by decide +kernel
theorem d_X_solicit_81 : decode b_X_solicit 81 = .ok (.aload_n 0, 1) := by decide +kernel
theorem d_X_solicit_82 : decode b_X_solicit 82 = .ok (.getfield 7, 3) := by decide +kernel
theorem d_X_solicit_85 : decode b_X_solicit 85 = .ok (.iload_n 1, 1) := by decide +kernel
theorem d_X_solicit_86 : decode b_X_solicit 86 = .ok (.iconst 3, 1) := by decide +kernel
theorem d_X_solicit_87 : decode b_X_solicit 87 = .ok (.iastore, 1) := by decide +kernel
theorem d_X_solicit_88 : decode b_X_solicit 88 = .ok (.aload_n 0, 1) := by decide +kernel
theorem d_X_solicit_89 : decode b_X_solicit 89 = .ok (.getfield 13, 3) := by decide +kernel
theorem d_X_solicit_92 : decode b_X_solicit 92 = .ok (.iload_n 1, 1) := by decide +kernel
theorem d_X_solicit_93 : decode b_X_solicit 93 = .ok (.aload_n 0, 1) := by decide +kernel
theorem d_X_solicit_94 : decode b_X_solicit 94 = .ok (.getfield 13, 3) := by decide +kernel
theorem d_X_solicit_97 : decode b_X_solicit 97 = .ok (.aload_n 0, 1) := by decide +kernel
theorem d_X_solicit_98 : decode b_X_solicit 98 = .ok (.getfield 35, 3) := by decide +kernel
theorem d_X_solicit_101 : decode b_X_solicit 101 = .ok (.iaload, 1) := by decide +kernel
theorem d_X_solicit_102 : decode b_X_solicit 102 = .ok (.iastore, 1) := by decide +kernel
theorem d_X_solicit_103 : decode b_X_solicit 103 = .ok (.aload_n 0, 1) := by decide +kernel
theorem d_X_solicit_104 : decode b_X_solicit 104 = .ok (.getfield 13, 3) := by decide +kernel
theorem d_X_solicit_107 : decode b_X_solicit 107 = .ok (.aload_n 0, 1) := by decide +kernel
theorem d_X_solicit_108 : decode b_X_solicit 108 = .ok (.getfield 35, 3) := by decide +kernel
theorem d_X_solicit_111 : decode b_X_solicit 111 = .ok (.iload_n 1, 1) := by decide +kernel
theorem d_X_solicit_112 : decode b_X_solicit 112 = .ok (.iastore, 1) := by decide +kernel
theorem d_X_solicit_113 : decode b_X_solicit 113 = .ok (.iload_n 1, 1) := by decide +kernel
theorem d_X_solicit_114 : decode b_X_solicit 114 = .ok (.ireturn, 1) := by decide +kernel
theorem d_X_leave_0 : decode b_X_leave 0 = .ok (.aload_n 0, 1) := by decide +kernel
theorem d_X_leave_1 : decode b_X_leave 1 = .ok (.getfield 35, 3) := by decide +kernel
theorem d_X_leave_4 : decode b_X_leave 4 = .ok (.ifCond .lt 11, 3) := by decide +kernel
theorem d_X_leave_7 : decode b_X_leave 7 = .ok (.iload_n 1, 1) := by decide +kernel
theorem d_X_leave_8 : decode b_X_leave 8 = .ok (.aload_n 0, 1) := by decide +kernel
theorem d_X_leave_9 : decode b_X_leave 9 = .ok (.getfield 35, 3) := by decide +kernel
theorem d_X_leave_12 : decode b_X_leave 12 = .ok (.if_icmp .eq 5, 3) := by decide +kernel
theorem d_X_leave_15 : decode b_X_leave 15 = .ok (.iconst 1, 1) := by decide +kernel
theorem d_X_leave_16 : decode b_X_leave 16 = .ok (.ireturn, 1) := by decide +kernel
theorem d_X_leave_17 : decode b_X_leave 17 = .ok (.aload_n 0, 1) := by decide +kernel
theorem d_X_leave_18 : decode b_X_leave 18 = .ok (.invokevirtual 53, 3) := by decide +kernel
theorem d_X_leave_21 : decode b_X_leave 21 = .ok (.aload_n 0, 1) := by decide +kernel
theorem d_X_leave_22 : decode b_X_leave 22 = .ok (.getfield 13, 3) := by decide +kernel
theorem d_X_leave_25 : decode b_X_leave 25 = .ok (.iload_n 1, 1) := by decide +kernel
theorem d_X_leave_26 : decode b_X_leave 26 = .ok (.iaload, 1) := by decide +kernel
theorem d_X_leave_27 : decode b_X_leave 27 = .ok (.istore_n 2, 1) := by decide +kernel
theorem d_X_leave_28 : decode b_X_leave 28 = .ok (.iconst 0, 1) := by decide +kernel
theorem d_X_leave_29 : decode b_X_leave 29 = .ok (.istore_n 3, 1) := by decide +kernel
theorem d_X_leave_30 : decode b_X_leave 30 = .ok (.iload_n 3, 1) := by decide +kernel
theorem d_X_leave_31 : decode b_X_leave 31 = .ok (.aload_n 0, 1) := by decide +kernel
theorem d_X_leave_32 : decode b_X_leave 32 = .ok (.getfield 28, 3) := by decide +kernel
theorem d_X_leave_35 : decode b_X_leave 35 = .ok (.if_icmp .ge 36, 3) := by decide +kernel
theorem d_X_leave_38 : decode b_X_leave 38 = .ok (.aload_n 0, 1) := by decide +kernel
theorem d_X_leave_39 : decode b_X_leave 39 = .ok (.getfield 7, 3) := by decide +kernel
theorem d_X_leave_42 : decode b_X_leave 42 = .ok (.iload_n 3, 1) := by decide +kernel
theorem d_X_leave_43 : decode b_X_leave 43 = .ok (.iaload, 1) := by decide +kernel
theorem d_X_leave_44 : decode b_X_leave 44 = .ok (.iconst 3, 1) := by decide +kernel
theorem d_X_leave_45 : decode b_X_leave 45 = .ok (.if_icmp .ne 20, 3) := by decide +kernel
theorem d_X_leave_48 : decode b_X_leave 48 = .ok (.aload_n 0, 1) := by decide +kernel
theorem d_X_leave_49 : decode b_X_leave 49 = .ok (.getfield 13, 3) := by decide +kernel
theorem d_X_leave_52 : decode b_X_leave 52 = .ok (.iload_n 3, 1) := by decide +kernel
theorem d_X_leave_53 : decode b_X_leave 53 = .ok (.iaload, 1) := by decide +kernel
theorem d_X_leave_54 : decode b_X_leave 54 = .ok (.iload_n 1, 1) := by decide +kernel
theorem d_X_leave_55 : decode b_X_leave 55 = .ok (.if_icmp .ne 10, 3) := by decide +kernel
theorem d_X_leave_58 : decode b_X_leave 58 = .ok (.aload_n 0, 1) := by decide +kernel
theorem d_X_leave_59 : decode b_X_leave 59 = .ok (.getfield 13, 3) := by decide +kernel
theorem d_X_leave_62 : decode b_X_leave 62 = .ok (.iload_n 3, 1) := by decide +kernel
theorem d_X_leave_63 : decode b_X_leave 63 = .ok (.iload_n 2, 1) := by decide +kernel
theorem d_X_leave_64 : decode b_X_leave 64 = .ok (.iastore, 1) := by decide +kernel
theorem d_X_leave_65 : decode b_X_leave 65 = .ok (.iinc 3 1, 3) := by decide +kernel
theorem d_X_leave_68 : decode b_X_leave 68 = .ok (.goto (-38), 3) := by decide +kernel
theorem d_X_leave_71 : decode b_X_leave 71 = .ok (.aload_n 0, 1) := by decide +kernel
theorem d_X_leave_72 : decode b_X_leave 72 = .ok (.getfield 7, 3) := by decide +kernel
theorem d_X_leave_75 : decode b_X_leave 75 = .ok (.iload_n 1, 1) := by decide +kernel
theorem d_X_leave_76 : decode b_X_leave 76 = .ok (.iconst 1, 1) := by decide +kernel
theorem d_X_leave_77 : decode b_X_leave 77 = .ok (.iastore, 1) := by decide +kernel
theorem d_X_leave_78 : decode b_X_leave 78 = .ok (.iload_n 2, 1) := by decide +kernel
theorem d_X_leave_79 : decode b_X_leave 79 = .ok (.iload_n 1, 1) := by decide +kernel
theorem d_X_leave_80 : decode b_X_leave 80 = .ok (.if_icmp .ne 11, 3) := by decide +kernel
theorem d_X_leave_83 : decode b_X_leave 83 = .ok (.aload_n 0, 1) := by decide +kernel
theorem d_X_leave_84 : decode b_X_leave 84 = .ok (.iconst (-1), 1) := by decide +kernel
theorem d_X_leave_85 : decode b_X_leave 85 = .ok (.putfield 35, 3) := by decide +kernel
theorem d_X_leave_88 : decode b_X_leave 88 = .ok (.goto 8, 3) := by decide +kernel
theorem d_X_leave_91 : decode b_X_leave 91 = .ok (.aload_n 0, 1) := by decide +kernel
theorem d_X_leave_92 : decode b_X_leave 92 = .ok (.iload_n 2, 1) := by decide +kernel
theorem d_X_leave_93 : decode b_X_leave 93 = .ok (.invokevirtual 56, 3) := by decide +kernel
theorem d_X_leave_96 : decode b_X_leave 96 = .ok (.iconst 0, 1) := by decide +kernel
theorem d_X_leave_97 : decode b_X_leave 97 = .ok (.ireturn, 1) := by decide +kernel
theorem d_X_highest_0 : decode b_X_highest 0 = .ok (.aload_n 0, 1) := by decide +kernel
theorem d_X_highest_1 : decode b_X_highest 1 = .ok (.getfield 28, 3) := by decide +kernel
theorem d_X_highest_4 : decode b_X_highest 4 = .ok (.iconst 1, 1) := by decide +kernel
theorem d_X_highest_5 : decode b_X_highest 5 = .ok (.isub, 1) := by decide +kernel
theorem d_X_highest_6 : decode b_X_highest 6 = .ok (.istore_n 2, 1) := by decide +kernel
theorem d_X_highest_7 : decode b_X_highest 7 = .ok (.iload_n 2, 1) := by decide +kernel
theorem d_X_highest_8 : decode b_X_highest 8 = .ok (.ifCond .lt 19, 3) := by decide +kernel
theorem d_X_highest_11 : decode b_X_highest 11 = .ok (.aload_n 0, 1) := by decide +kernel
theorem d_X_highest_12 : decode b_X_highest 12 = .ok (.getfield 7, 3) := by decide +kernel
theorem d_X_highest_15 : decode b_X_highest 15 = .ok (.iload_n 2, 1) := by decide +kernel
theorem d_X_highest_16 : decode b_X_highest 16 = .ok (.iaload, 1) := by decide +kernel
theorem d_X_highest_17 : decode b_X_highest 17 = .ok (.iload_n 1, 1) := by decide +kernel
theorem d_X_highest_18 : decode b_X_highest 18 = .ok (.if_icmp .ge 9, 3) := by decide +kernel
theorem d_X_highest_21 : decode b_X_highest 21 = .ok (.iinc 2 (-1), 3) := by decide +kernel
theorem d_X_highest_24 : decode b_X_highest 24 = .ok (.goto (-17), 3) := by decide +kernel
theorem d_X_highest_27 : decode b_X_highest 27 = .ok (.iload_n 2, 1) := by decide +kernel
theorem d_X_highest_28 : decode b_X_highest 28 = .ok (.ireturn, 1) := by decide +kernel
theorem d_X_silence_0 : decode b_X_silence 0 = .ok (.aload_n 0, 1) := by decide +kernel
theorem d_X_silence_1 : decode b_X_silence 1 = .ok (.getfield 35, 3) := by decide +kernel
theorem d_X_silence_4 : decode b_X_silence 4 = .ok (.ifCond .lt 5, 3) := by decide +kernel
theorem d_X_silence_7 : decode b_X_silence 7 = .ok (.iconst (-1), 1) := by decide +kernel
theorem d_X_silence_8 : decode b_X_silence 8 = .ok (.ireturn, 1) := by decide +kernel
theorem d_X_silence_9 : decode b_X_silence 9 = .ok (.aload_n 0, 1) := by decide +kernel
theorem d_X_silence_10 : decode b_X_silence 10 = .ok (.iconst 3, 1) := by decide +kernel
theorem d_X_silence_11 : decode b_X_silence 11 = .ok (.invokevirtual 60, 3) := by decide +kernel
theorem d_X_silence_14 : decode b_X_silence 14 = .ok (.istore_n 1, 1) := by decide +kernel
theorem d_X_silence_15 : decode b_X_silence 15 = .ok (.iload_n 1, 1) := by decide +kernel
theorem d_X_silence_16 : decode b_X_silence 16 = .ok (.ifCond .ge 29, 3) := by decide +kernel
theorem d_X_silence_19 : decode b_X_silence 19 = .ok (.aload_n 0, 1) := by decide +kernel
theorem d_X_silence_20 : decode b_X_silence 20 = .ok (.iconst 1, 1) := by decide +kernel
theorem d_X_silence_21 : decode b_X_silence 21 = .ok (.invokevirtual 60, 3) := by decide +kernel
theorem d_X_silence_24 : decode b_X_silence 24 = .ok (.istore_n 1, 1) := by decide +kernel
theorem d_X_silence_25 : decode b_X_silence 25 = .ok (.iload_n 1, 1) := by decide +kernel
theorem d_X_silence_26 : decode b_X_silence 26 = .ok (.ifCond .ge 5, 3) := by decide +kernel
theorem d_X_silence_29 : decode b_X_silence 29 = .ok (.iconst (-1), 1) := by decide +kernel
theorem d_X_silence_30 : decode b_X_silence 30 = .ok (.ireturn, 1) := by decide +kernel
theorem d_X_silence_31 : decode b_X_silence 31 = .ok (.aload_n 0, 1) := by decide +kernel
theorem d_X_silence_32 : decode b_X_silence 32 = .ok (.getfield 7, 3) := by decide +kernel
theorem d_X_silence_35 : decode b_X_silence 35 = .ok (.iload_n 1, 1) := by decide +kernel
theorem d_X_silence_36 : decode b_X_silence 36 = .ok (.iconst 3, 1) := by decide +kernel
theorem d_X_silence_37 : decode b_X_silence 37 = .ok (.iastore, 1) := by decide +kernel
theorem d_X_silence_38 : decode b_X_silence 38 = .ok (.aload_n 0, 1) := by decide +kernel
theorem d_X_silence_39 : decode b_X_silence 39 = .ok (.getfield 13, 3) := by decide +kernel
theorem d_X_silence_42 : decode b_X_silence 42 = .ok (.iload_n 1, 1) := by decide +kernel
theorem d_X_silence_43 : decode b_X_silence 43 = .ok (.iload_n 1, 1) := by decide +kernel
theorem d_X_silence_44 : decode b_X_silence 44 = .ok (.iastore, 1) := by decide +kernel
theorem d_X_silence_45 : decode b_X_silence 45 = .ok (.aload_n 0, 1) := by decide +kernel
theorem d_X_silence_46 : decode b_X_silence 46 = .ok (.iload_n 1, 1) := by decide +kernel
theorem d_X_silence_47 : decode b_X_silence 47 = .ok (.invokevirtual 56, 3) := by decide +kernel
theorem d_X_silence_50 : decode b_X_silence 50 = .ok (.iload_n 1, 1) := by decide +kernel
theorem d_X_silence_51 : decode b_X_silence 51 = .ok (.ireturn, 1) := by decide +kernel
theorem d_X_tokenHolder_0 : decode b_X_tokenHolder 0 = .ok (.aload_n 0, 1) := by decide +kernel
theorem d_X_tokenHolder_1 : decode b_X_tokenHolder 1 = .ok (.getfield 35, 3) := by decide +kernel
theorem d_X_tokenHolder_4 : decode b_X_tokenHolder 4 = .ok (.ireturn, 1) := by decide +kernel
theorem d_X_successor_0 : decode b_X_successor 0 = .ok (.aload_n 0, 1) := by decide +kernel
theorem d_X_successor_1 : decode b_X_successor 1 = .ok (.iload_n 1, 1) := by decide +kernel
theorem d_X_successor_2 : decode b_X_successor 2 = .ok (.invokevirtual 46, 3) := by decide +kernel
theorem d_X_successor_5 : decode b_X_successor 5 = .ok (.ifCond .eq 22, 3) := by decide +kernel
theorem d_X_successor_8 : decode b_X_successor 8 = .ok (.aload_n 0, 1) := by decide +kernel
theorem d_X_successor_9 : decode b_X_successor 9 = .ok (.getfield 7, 3) := by decide +kernel
theorem d_X_successor_12 : decode b_X_successor 12 = .ok (.iload_n 1, 1) := by decide +kernel
theorem d_X_successor_13 : decode b_X_successor 13 = .ok (.iaload, 1) := by decide +kernel
theorem d_X_successor_14 : decode b_X_successor 14 = .ok (.iconst 3, 1) := by decide +kernel
theorem d_X_successor_15 : decode b_X_successor 15 = .ok (.if_icmp .ne 12, 3) := by decide +kernel
theorem d_X_successor_18 : decode b_X_successor 18 = .ok (.aload_n 0, 1) := by decide +kernel
theorem d_X_successor_19 : decode b_X_successor 19 = .ok (.getfield 13, 3) := by decide +kernel
theorem d_X_successor_22 : decode b_X_successor 22 = .ok (.iload_n 1, 1) := by decide +kernel
theorem d_X_successor_23 : decode b_X_successor 23 = .ok (.iaload, 1) := by decide +kernel
theorem d_X_successor_24 : decode b_X_successor 24 = .ok (.goto 4, 3) := by decide +kernel
theorem d_X_successor_27 : decode b_X_successor 27 = .ok (.iconst (-1), 1) := by decide +kernel
theorem d_X_successor_28 : decode b_X_successor 28 = .ok (.ireturn, 1) := by decide +kernel
theorem d_X_receivedBy_0 : decode b_X_receivedBy 0 = .ok (.aload_n 0, 1) := by decide +kernel
theorem d_X_receivedBy_1 : decode b_X_receivedBy 1 = .ok (.iload_n 1, 1) := by decide +kernel
theorem d_X_receivedBy_2 : decode b_X_receivedBy 2 = .ok (.invokevirtual 42, 3) := by decide +kernel
theorem d_X_receivedBy_5 : decode b_X_receivedBy 5 = .ok (.ifCond .eq 12, 3) := by decide +kernel
theorem d_X_receivedBy_8 : decode b_X_receivedBy 8 = .ok (.aload_n 0, 1) := by decide +kernel
theorem d_X_receivedBy_9 : decode b_X_receivedBy 9 = .ok (.getfield 25, 3) := by decide +kernel
theorem d_X_receivedBy_12 : decode b_X_receivedBy 12 = .ok (.iload_n 1, 1) := by decide +kernel
theorem d_X_receivedBy_13 : decode b_X_receivedBy 13 = .ok (.iaload, 1) := by decide +kernel
theorem d_X_receivedBy_14 : decode b_X_receivedBy 14 = .ok (.goto 4, 3) := by decide +kernel
theorem d_X_receivedBy_17 : decode b_X_receivedBy 17 = .ok (.iconst 0, 1) := by decide +kernel
theorem d_X_receivedBy_18 : decode b_X_receivedBy 18 = .ok (.ireturn, 1) := by decide +kernel
theorem d_X_state_0 : decode b_X_state 0 = .ok (.aload_n 0, 1) := by decide +kernel
theorem d_X_state_1 : decode b_X_state 1 = .ok (.iload_n 1, 1) := by decide +kernel
theorem d_X_state_2 : decode b_X_state 2 = .ok (.invokevirtual 42, 3) := by decide +kernel
theorem d_X_state_5 : decode b_X_state 5 = .ok (.ifCond .eq 12, 3) := by decide +kernel
theorem d_X_state_8 : decode b_X_state 8 = .ok (.aload_n 0, 1) := by decide +kernel
theorem d_X_state_9 : decode b_X_state 9 = .ok (.getfield 7, 3) := by decide +kernel
theorem d_X_state_12 : decode b_X_state 12 = .ok (.iload_n 1, 1) := by decide +kernel
theorem d_X_state_13 : decode b_X_state 13 = .ok (.iaload, 1) := by decide +kernel
theorem d_X_state_14 : decode b_X_state 14 = .ok (.goto 4, 3) := by decide +kernel
theorem d_X_state_17 : decode b_X_state 17 = .ok (.iconst (-1), 1) := by decide +kernel
theorem d_X_state_18 : decode b_X_state 18 = .ok (.ireturn, 1) := by decide +kernel
theorem d_X_waiting_0 : decode b_X_waiting 0 = .ok (.aload_n 0, 1) := by decide +kernel
theorem d_X_waiting_1 : decode b_X_waiting 1 = .ok (.iload_n 1, 1) := by decide +kernel
theorem d_X_waiting_2 : decode b_X_waiting 2 = .ok (.invokevirtual 42, 3) := by decide +kernel
theorem d_X_waiting_5 : decode b_X_waiting 5 = .ok (.ifCond .eq 12, 3) := by decide +kernel
theorem d_X_waiting_8 : decode b_X_waiting 8 = .ok (.aload_n 0, 1) := by decide +kernel
theorem d_X_waiting_9 : decode b_X_waiting 9 = .ok (.getfield 22, 3) := by decide +kernel
theorem d_X_waiting_12 : decode b_X_waiting 12 = .ok (.iload_n 1, 1) := by decide +kernel
theorem d_X_waiting_13 : decode b_X_waiting 13 = .ok (.iaload, 1) := by decide +kernel
theorem d_X_waiting_14 : decode b_X_waiting 14 = .ok (.goto 4, 3) := by decide +kernel
theorem d_X_waiting_17 : decode b_X_waiting 17 = .ok (.iconst 0, 1) := by decide +kernel
theorem d_X_waiting_18 : decode b_X_waiting 18 = .ok (.ireturn, 1) := by decide +kernel
end
section
theorem d_M_new_0 : decode b_M_new 0 = .ok (.aload_n 0, 1) := by decide +kernel
theorem d_M_new_1 : decode b_M_new 1 = .ok (.invokespecial 1, 3) := by decide +kernel
theorem d_M_new_4 : decode b_M_new 4 = .ok (.aload_n 0, 1) := by decide +kernel
theorem d_M_new_5 : decode b_M_new 5 = .ok (.bipush 16, 2) := by decide +kernel
theorem d_M_new_7 : decode b_M_new 7 = .ok (.newarray .int, 2) := by decide +kernel
theorem d_M_new_9 : decode b_M_new 9 = .ok (.putfield 7, 3) := by decide +kernel
theorem d_M_new_12 : decode b_M_new 12 = .ok (.aload_n 0, 1) := by decide +kernel
theorem d_M_new_13 : decode b_M_new 13 = .ok (.bipush 16, 2) := by decide +kernel
theorem d_M_new_15 : decode b_M_new 15 = .ok (.newarray .int, 2) := by decide +kernel
theorem d_M_new_17 : decode b_M_new 17 = .ok (.putfield 13, 3) := by decide +kernel
theorem d_M_new_20 : decode b_M_new 20 = .ok (.aload_n 0, 1) := by decide +kernel
theorem d_M_new_21 : decode b_M_new 21 = .ok (.sipush 128, 3) := by decide +kernel
theorem d_M_new_24 : decode b_M_new 24 = .ok (.newarray .int, 2) := by decide +kernel
theorem d_M_new_26 : decode b_M_new 26 = .ok (.putfield 16, 3) := by decide +kernel
theorem d_M_new_29 : decode b_M_new 29 = .ok (.aload_n 0, 1) := by decide +kernel
theorem d_M_new_30 : decode b_M_new 30 = .ok (.bipush 16, 2) := by decide +kernel
theorem d_M_new_32 : decode b_M_new 32 = .ok (.newarray .int, 2) := by decide +kernel
theorem d_M_new_34 : decode b_M_new 34 = .ok (.putfield 19, 3) := by decide +kernel
theorem d_M_new_37 : decode b_M_new 37 = .ok (.aload_n 0, 1) := by decide +kernel
theorem d_M_new_38 : decode b_M_new 38 = .ok (.bipush 16, 2) := by decide +kernel
theorem d_M_new_40 : decode b_M_new 40 = .ok (.newarray .int, 2) := by decide +kernel
theorem d_M_new_42 : decode b_M_new 42 = .ok (.putfield 22, 3) := by decide +kernel
theorem d_M_new_45 : decode b_M_new 45 = .ok (.aload_n 0, 1) := by decide +kernel
theorem d_M_new_46 : decode b_M_new 46 = .ok (.iload_n 1, 1) := by decide +kernel
theorem d_M_new_47 : decode b_M_new 47 = .ok (.iconst 2, 1) := by decide +kernel
theorem d_M_new_48 : decode b_M_new 48 = .ok (.if_icmp .ge 7, 3) := by decide +kernel
theorem d_M_new_51 : decode b_M_new 51 = .ok (.iconst 2, 1) := by decide +kernel
theorem d_M_new_52 : decode b_M_new 52 = .ok (.goto 15, 3) := by decide +kernel
theorem d_M_new_55 : decode b_M_new 55 = .ok (.iload_n 1, 1) := by decide +kernel
theorem d_M_new_56 : decode b_M_new 56 = .ok (.bipush 16, 2) := by decide +kernel
theorem d_M_new_58 : decode b_M_new 58 = .ok (.if_icmp .le 8, 3) := by decide +kernel
theorem d_M_new_61 : decode b_M_new 61 = .ok (.bipush 16, 2) := by decide +kernel
theorem d_M_new_63 : decode b_M_new 63 = .ok (.goto 4, 3) := by decide +kernel
theorem d_M_new_66 : decode b_M_new 66 = .ok (.iload_n 1, 1) := by decide +kernel
theorem d_M_new_67 : decode b_M_new 67 = .ok (.putfield 25, 3) := by decide +kernel
theorem d_M_new_70 : decode b_M_new 70 = .ok (.aload_n 0, 1) := by decide +kernel
theorem d_M_new_71 : decode b_M_new 71 = .ok (.iload_n 2, 1) := by decide +kernel
theorem d_M_new_72 : decode b_M_new 72 = .ok (.iconst 1, 1) := by decide +kernel
theorem d_M_new_73 : decode b_M_new 73 = .ok (.if_icmp .ge 7, 3) := by decide +kernel
theorem d_M_new_76 : decode b_M_new 76 = .ok (.iconst 1, 1) := by decide +kernel
theorem d_M_new_77 : decode b_M_new 77 = .ok (.goto 15, 3) := by decide +kernel
theorem d_M_new_80 : decode b_M_new 80 = .ok (.iload_n 2, 1) := by decide +kernel
theorem d_M_new_81 : decode b_M_new 81 = .ok (.bipush 8, 2) := by decide +kernel
theorem d_M_new_83 : decode b_M_new 83 = .ok (.if_icmp .le 8, 3) := by decide +kernel
theorem d_M_new_86 : decode b_M_new 86 = .ok (.bipush 8, 2) := by decide +kernel
theorem d_M_new_88 : decode b_M_new 88 = .ok (.goto 4, 3) := by decide +kernel
theorem d_M_new_91 : decode b_M_new 91 = .ok (.iload_n 2, 1) := by decide +kernel
theorem d_M_new_92 : decode b_M_new 92 = .ok (.putfield 29, 3) := by decide +kernel
theorem d_M_new_95 : decode b_M_new 95 = .ok (.aload_n 0, 1) := by decide +kernel
theorem d_M_new_96 : decode b_M_new 96 = .ok (.invokevirtual 32, 3) := by decide +kernel
theorem d_M_new_99 : decode b_M_new 99 = .ok (.return_, 1) := by decide +kernel
theorem d_M_init_0 : decode b_M_init 0 = .ok (.iconst 0, 1) := by decide +kernel
theorem d_M_init_1 : decode b_M_init 1 = .ok (.istore_n 1, 1) := by decide +kernel
theorem d_M_init_2 : decode b_M_init 2 = .ok (.iload_n 1, 1) := by decide +kernel
theorem d_M_init_3 : decode b_M_init 3 = .ok (.bipush 16, 2) := by decide +kernel
theorem d_M_init_5 : decode b_M_init 5 = .ok (.if_icmp .ge 30, 3) := by decide +kernel
theorem d_M_init_8 : decode b_M_init 8 = .ok (.aload_n 0, 1) := by decide +kernel
theorem d_M_init_9 : decode b_M_init 9 = .ok (.getfield 7, 3) := by decide +kernel
theorem d_M_init_12 : decode b_M_init 12 = .ok (.iload_n 1, 1) := by decide +kernel
theorem d_M_init_13 : decode b_M_init 13 = .ok (.iconst 0, 1) := by decide +kernel
theorem d_M_init_14 : decode b_M_init 14 = .ok (.iastore, 1) := by decide +kernel
theorem d_M_init_15 : decode b_M_init 15 = .ok (.aload_n 0, 1) := by decide +kernel
theorem d_M_init_16 : decode b_M_init 16 = .ok (.getfield 19, 3) := by decide +kernel
theorem d_M_init_19 : decode b_M_init 19 = .ok (.iload_n 1, 1) := by decide +kernel
theorem d_M_init_20 : decode b_M_init 20 = .ok (.iconst 0, 1) := by decide +kernel
theorem d_M_init_21 : decode b_M_init 21 = .ok (.iastore, 1) := by decide +kernel
theorem d_M_init_22 : decode b_M_init 22 = .ok (.aload_n 0, 1) := by decide +kernel
theorem d_M_init_23 : decode b_M_init 23 = .ok (.getfield 22, 3) := by decide +kernel
theorem d_M_init_26 : decode b_M_init 26 = .ok (.iload_n 1, 1) := by decide +kernel
theorem d_M_init_27 : decode b_M_init 27 = .ok (.iconst 0, 1) := by decide +kernel
theorem d_M_init_28 : decode b_M_init 28 = .ok (.iastore, 1) := by decide +kernel
theorem d_M_init_29 : decode b_M_init 29 = .ok (.iinc 1 1, 3) := by decide +kernel
theorem d_M_init_32 : decode b_M_init 32 = .ok (.goto (-30), 3) := by decide +kernel
theorem d_M_init_35 : decode b_M_init 35 = .ok (.aload_n 0, 1) := by decide +kernel
theorem d_M_init_36 : decode b_M_init 36 = .ok (.iconst (-1), 1) := by decide +kernel
theorem d_M_init_37 : decode b_M_init 37 = .ok (.putfield 35, 3) := by decide +kernel
theorem d_M_init_40 : decode b_M_init 40 = .ok (.aload_n 0, 1) := by decide +kernel
theorem d_M_init_41 : decode b_M_init 41 = .ok (.iconst 0, 1) := by decide +kernel
theorem d_M_init_42 : decode b_M_init 42 = .ok (.putfield 38, 3) := by decide +kernel
theorem d_M_init_45 : decode b_M_init 45 = .ok (.return_, 1) := by decide +kernel
theorem d_M_isStation_0 : decode b_M_isStation 0 = .ok (.iload_n 1, 1) := by decide +kernel
theorem d_M_isStation_1 : decode b_M_isStation 1 = .ok (.ifCond .lt 15, 3) := by decide +kernel
theorem d_M_isStation_4 : decode b_M_isStation 4 = .ok (.iload_n 1, 1) := by decide +kernel
theorem d_M_isStation_5 : decode b_M_isStation 5 = .ok (.aload_n 0, 1) := by decide +kernel
theorem d_M_isStation_6 : decode b_M_isStation 6 = .ok (.getfield 25, 3) := by decide +kernel
theorem d_M_isStation_9 : decode b_M_isStation 9 = .ok (.if_icmp .ge 7, 3) := by decide +kernel
theorem d_M_isStation_12 : decode b_M_isStation 12 = .ok (.iconst 1, 1) := by decide +kernel
theorem d_M_isStation_13 : decode b_M_isStation 13 = .ok (.goto 4, 3) := by decide +kernel
theorem d_M_isStation_16 : decode b_M_isStation 16 = .ok (.iconst 0, 1) := by decide +kernel
theorem d_M_isStation_17 : decode b_M_isStation 17 = .ok (.ireturn, 1) := by decide +kernel
theorem d_M_below_0 : decode b_M_below 0 = .ok (.iload_n 1, 1) := by decide +kernel
theorem d_M_below_1 : decode b_M_below 1 = .ok (.aload_n 0, 1) := by decide +kernel
theorem d_M_below_2 : decode b_M_below 2 = .ok (.getfield 25, 3) := by decide +kernel
theorem d_M_below_5 : decode b_M_below 5 = .ok (.iadd, 1) := by decide +kernel
theorem d_M_below_6 : decode b_M_below 6 = .ok (.iconst 1, 1) := by decide +kernel
theorem d_M_below_7 : decode b_M_below 7 = .ok (.isub, 1) := by decide +kernel
theorem d_M_below_8 : decode b_M_below 8 = .ok (.aload_n 0, 1) := by decide +kernel
theorem d_M_below_9 : decode b_M_below 9 = .ok (.getfield 25, 3) := by decide +kernel
theorem d_M_below_12 : decode b_M_below 12 = .ok (.irem, 1) := by decide +kernel
theorem d_M_below_13 : decode b_M_below 13 = .ok (.ireturn, 1) := by decide +kernel
theorem d_M_powerOn_0 : decode b_M_powerOn 0 = .ok (.aload_n 0, 1) := by decide +kernel
theorem d_M_powerOn_1 : decode b_M_powerOn 1 = .ok (.iload_n 1, 1) := by decide +kernel
theorem d_M_powerOn_2 : decode b_M_powerOn 2 = .ok (.invokevirtual 42, 3) := by decide +kernel
theorem d_M_powerOn_5 : decode b_M_powerOn 5 = .ok (.ifCond .eq 12, 3) := by decide +kernel
theorem d_M_powerOn_8 : decode b_M_powerOn 8 = .ok (.aload_n 0, 1) := by decide +kernel
theorem d_M_powerOn_9 : decode b_M_powerOn 9 = .ok (.getfield 7, 3) := by decide +kernel
theorem d_M_powerOn_12 : decode b_M_powerOn 12 = .ok (.iload_n 1, 1) := by decide +kernel
theorem d_M_powerOn_13 : decode b_M_powerOn 13 = .ok (.iaload, 1) := by decide +kernel
theorem d_M_powerOn_14 : decode b_M_powerOn 14 = .ok (.ifCond .eq 5, 3) := by decide +kernel
theorem d_M_powerOn_17 : decode b_M_powerOn 17 = .ok (.iconst 0, 1) := by decide +kernel
theorem d_M_powerOn_18 : decode b_M_powerOn 18 = .ok (.ireturn, 1) := by decide +kernel
theorem d_M_powerOn_19 : decode b_M_powerOn 19 = .ok (.aload_n 0, 1) := by decide +kernel
theorem d_M_powerOn_20 : decode b_M_powerOn 20 = .ok (.getfield 7, 3) := by decide +kernel
theorem d_M_powerOn_23 : decode b_M_powerOn 23 = .ok (.iload_n 1, 1) := by decide +kernel
theorem d_M_powerOn_24 : decode b_M_powerOn 24 = .ok (.iconst 2, 1) := by decide +kernel
theorem d_M_powerOn_25 : decode b_M_powerOn 25 = .ok (.iastore, 1) := by decide +kernel
theorem d_M_powerOn_26 : decode b_M_powerOn 26 = .ok (.iconst 1, 1) := by decide +kernel
theorem d_M_powerOn_27 : decode b_M_powerOn 27 = .ok (.ireturn, 1) := by decide +kernel
theorem d_M_powerOff_0 : decode b_M_powerOff 0 = .ok (.aload_n 0, 1) := by decide +kernel
theorem d_M_powerOff_1 : decode b_M_powerOff 1 = .ok (.iload_n 1, 1) := by decide +kernel
theorem d_M_powerOff_2 : decode b_M_powerOff 2 = .ok (.invokevirtual 42, 3) := by decide +kernel
theorem d_M_powerOff_5 : decode b_M_powerOff 5 = .ok (.ifCond .eq 12, 3) := by decide +kernel
theorem d_M_powerOff_8 : decode b_M_powerOff 8 = .ok (.aload_n 0, 1) := by decide +kernel
theorem d_M_powerOff_9 : decode b_M_powerOff 9 = .ok (.getfield 7, 3) := by decide +kernel
theorem d_M_powerOff_12 : decode b_M_powerOff 12 = .ok (.iload_n 1, 1) := by decide +kernel
theorem d_M_powerOff_13 : decode b_M_powerOff 13 = .ok (.iaload, 1) := by decide +kernel
theorem d_M_powerOff_14 : decode b_M_powerOff 14 = .ok (.ifCond .ne 5, 3) := by decide +kernel
theorem d_M_powerOff_17 : decode b_M_powerOff 17 = .ok (.iconst 0, 1) := by decide +kernel
theorem d_M_powerOff_18 : decode b_M_powerOff 18 = .ok (.ireturn, 1) := by decide +kernel
theorem d_M_powerOff_19 : decode b_M_powerOff 19 = .ok (.aload_n 0, 1) := by decide +kernel
theorem d_M_powerOff_20 : decode b_M_powerOff 20 = .ok (.getfield 7, 3) := by decide +kernel
theorem d_M_powerOff_23 : decode b_M_powerOff 23 = .ok (.iload_n 1, 1) := by decide +kernel
theorem d_M_powerOff_24 : decode b_M_powerOff 24 = .ok (.iconst 0, 1) := by decide +kernel
theorem d_M_powerOff_25 : decode b_M_powerOff 25 = .ok (.iastore, 1) := by decide +kernel
theorem d_M_powerOff_26 : decode b_M_powerOff 26 = .ok (.aload_n 0, 1) := by decide +kernel
theorem d_M_powerOff_27 : decode b_M_powerOff 27 = .ok (.getfield 19, 3) := by decide +kernel
theorem d_M_powerOff_30 : decode b_M_powerOff 30 = .ok (.iload_n 1, 1) := by decide +kernel
theorem d_M_powerOff_31 : decode b_M_powerOff 31 = .ok (.iconst 0, 1) := by decide +kernel
theorem d_M_powerOff_32 : decode b_M_powerOff 32 = .ok (.iastore, 1) := by decide +kernel
theorem d_M_powerOff_33 : decode b_M_powerOff 33 = .ok (.aload_n 0, 1) := by decide +kernel
theorem d_M_powerOff_34 : decode b_M_powerOff 34 = .ok (.aload_n 0, 1) := by decide +kernel
theorem d_M_powerOff_35 : decode b_M_powerOff 35 = .ok (.getfield 35, 3) := by decide +kernel
theorem d_M_powerOff_38 : decode b_M_powerOff 38 = .ok (.iload_n 1, 1) := by decide +kernel
theorem d_M_powerOff_39 : decode b_M_powerOff 39 = .ok (.if_icmp .ne 7, 3) := by decide +kernel
theorem d_M_powerOff_42 : decode b_M_powerOff 42 = .ok (.iconst (-1), 1) := by decide +kernel
theorem d_M_powerOff_43 : decode b_M_powerOff 43 = .ok (.goto 7, 3) := by decide +kernel
theorem d_M_powerOff_46 : decode b_M_powerOff 46 = .ok (.aload_n 0, 1) := by decide +kernel
theorem d_M_powerOff_47 : decode b_M_powerOff 47 = .ok (.getfield 35, 3) := by decide +kernel
theorem d_M_powerOff_50 : decode b_M_powerOff 50 = .ok (.putfield 35, 3) := by decide +kernel
theorem d_M_powerOff_53 : decode b_M_powerOff 53 = .ok (.iconst 1, 1) := by decide +kernel
theorem d_M_powerOff_54 : decode b_M_powerOff 54 = .ok (.ireturn, 1) := by decide +kernel
theorem d_M_queue_0 : decode b_M_queue 0 = .ok (.aload_n 0, 1) := by decide +kernel
theorem d_M_queue_1 : decode b_M_queue 1 = .ok (.iload_n 1, 1) := by decide +kernel
theorem d_M_queue_2 : decode b_M_queue 2 = .ok (.invokevirtual 42, 3) := by decide +kernel
theorem d_M_queue_5 : decode b_M_queue 5 = .ok (.ifCond .eq 12, 3) := by decide +kernel
theorem d_M_queue_8 : decode b_M_queue 8 = .ok (.aload_n 0, 1) := by decide +kernel
theorem d_M_queue_9 : decode b_M_queue 9 = .ok (.getfield 7, 3) := by decide +kernel
theorem d_M_queue_12 : decode b_M_queue 12 = .ok (.iload_n 1, 1) := by decide +kernel
theorem d_M_queue_13 : decode b_M_queue 13 = .ok (.iaload, 1) := by decide +kernel
theorem d_M_queue_14 : decode b_M_queue 14 = .ok (.ifCond .ne 5, 3) := by decide +kernel
theorem d_M_queue_17 : decode b_M_queue 17 = .ok (.iconst 1, 1) := by decide +kernel
theorem d_M_queue_18 : decode b_M_queue 18 = .ok (.ireturn, 1) := by decide +kernel
theorem d_M_queue_19 : decode b_M_queue 19 = .ok (.aload_n 0, 1) := by decide +kernel
theorem d_M_queue_20 : decode b_M_queue 20 = .ok (.getfield 19, 3) := by decide +kernel
theorem d_M_queue_23 : decode b_M_queue 23 = .ok (.iload_n 1, 1) := by decide +kernel
theorem d_M_queue_24 : decode b_M_queue 24 = .ok (.iaload, 1) := by decide +kernel
theorem d_M_queue_25 : decode b_M_queue 25 = .ok (.aload_n 0, 1) := by decide +kernel
theorem d_M_queue_26 : decode b_M_queue 26 = .ok (.getfield 29, 3) := by decide +kernel
theorem d_M_queue_29 : decode b_M_queue 29 = .ok (.if_icmp .ne 5, 3) := by decide +kernel
theorem d_M_queue_32 : decode b_M_queue 32 = .ok (.iconst 2, 1) := by decide +kernel
theorem d_M_queue_33 : decode b_M_queue 33 = .ok (.ireturn, 1) := by decide +kernel
theorem d_M_queue_34 : decode b_M_queue 34 = .ok (.aload_n 0, 1) := by decide +kernel
theorem d_M_queue_35 : decode b_M_queue 35 = .ok (.getfield 16, 3) := by decide +kernel
theorem d_M_queue_38 : decode b_M_queue 38 = .ok (.bipush 8, 2) := by decide +kernel
theorem d_M_queue_40 : decode b_M_queue 40 = .ok (.iload_n 1, 1) := by decide +kernel
theorem d_M_queue_41 : decode b_M_queue 41 = .ok (.imul, 1) := by decide +kernel
theorem d_M_queue_42 : decode b_M_queue 42 = .ok (.aload_n 0, 1) := by decide +kernel
theorem d_M_queue_43 : decode b_M_queue 43 = .ok (.getfield 19, 3) := by decide +kernel
theorem d_M_queue_46 : decode b_M_queue 46 = .ok (.iload_n 1, 1) := by decide +kernel
theorem d_M_queue_47 : decode b_M_queue 47 = .ok (.iaload, 1) := by decide +kernel
theorem d_M_queue_48 : decode b_M_queue 48 = .ok (.iadd, 1) := by decide +kernel
theorem d_M_queue_49 : decode b_M_queue 49 = .ok (.iload_n 2, 1) := by decide +kernel
theorem d_M_queue_50 : decode b_M_queue 50 = .ok (.iastore, 1) := by decide +kernel
theorem d_M_queue_51 : decode b_M_queue 51 = .ok (.aload_n 0, 1) := by decide +kernel
theorem d_M_queue_52 : decode b_M_queue 52 = .ok (.getfield 19, 3) := by decide +kernel
theorem d_M_queue_55 : decode b_M_queue 55 = .ok (.iload_n 1, 1) := by decide +kernel
theorem d_M_queue_56 : decode b_M_queue 56 = .ok (.dup2, 1) := by decide +kernel
theorem d_M_queue_57 : decode b_M_queue 57 = .ok (.iaload, 1) := by decide +kernel
theorem d_M_queue_58 : decode b_M_queue 58 = .ok (.iconst 1, 1) := by decide +kernel
theorem d_M_queue_59 : decode b_M_queue 59 = .ok (.iadd, 1) := by decide +kernel
theorem d_M_queue_60 : decode b_M_queue 60 = .ok (.iastore, 1) := by decide +kernel
theorem d_M_queue_61 : decode b_M_queue 61 = .ok (.iconst 0, 1) := by decide +kernel
theorem d_M_queue_62 : decode b_M_queue 62 = .ok (.ireturn, 1) := by decide +kernel
theorem d_M_useToken_0 : decode b_M_useToken 0 = .ok (.aload_n 0, 1) := by decide +kernel
theorem d_M_useToken_1 : decode b_M_useToken 1 = .ok (.getfield 35, 3) := by decide +kernel
theorem d_M_useToken_4 : decode b_M_useToken 4 = .ok (.ifCond .lt 22, 3) := by decide +kernel
theorem d_M_useToken_7 : decode b_M_useToken 7 = .ok (.aload_n 0, 1) := by decide +kernel
theorem d_M_useToken_8 : decode b_M_useToken 8 = .ok (.getfield 38, 3) := by decide +kernel
theorem d_M_useToken_11 : decode b_M_useToken 11 = .ok (.ifCond .ne 15, 3) := by decide +kernel
theorem d_M_useToken_14 : decode b_M_useToken 14 = .ok (.aload_n 0, 1) := by decide +kernel
theorem d_M_useToken_15 : decode b_M_useToken 15 = .ok (.getfield 19, 3) := by decide +kernel
theorem d_M_useToken_18 : decode b_M_useToken 18 = .ok (.aload_n 0, 1) := by decide +kernel
theorem d_M_useToken_19 : decode b_M_useToken 19 = .ok (.getfield 35, 3) := by decide +kernel
theorem d_M_useToken_22 : decode b_M_useToken 22 = .ok (.iaload, 1) := by decide +kernel
theorem d_M_useToken_23 : decode b_M_useToken 23 = .ok (.ifCond .ne 5, 3) := by decide +kernel
theorem d_M_useToken_26 : decode b_M_useToken 26 = .ok (.iconst (-1), 1) := by decide +kernel
theorem d_M_useToken_27 : decode b_M_useToken 27 = .ok (.ireturn, 1) := by decide +kernel
theorem d_M_useToken_28 : decode b_M_useToken 28 = .ok (.aload_n 0, 1) := by decide +kernel
theorem d_M_useToken_29 : decode b_M_useToken 29 = .ok (.getfield 16, 3) := by decide +kernel
theorem d_M_useToken_32 : decode b_M_useToken 32 = .ok (.bipush 8, 2) := by decide +kernel
theorem d_M_useToken_34 : decode b_M_useToken 34 = .ok (.aload_n 0, 1) := by decide +kernel
theorem d_M_useToken_35 : decode b_M_useToken 35 = .ok (.getfield 35, 3) := by decide +kernel
theorem d_M_useToken_38 : decode b_M_useToken 38 = .ok (.imul, 1) := by decide +kernel
theorem d_M_useToken_39 : decode b_M_useToken 39 = .ok (.iaload, 1) := by decide +kernel
theorem d_M_useToken_40 : decode b_M_useToken 40 = .ok (.istore_n 1, 1) := by decide +kernel
theorem d_M_useToken_41 : decode b_M_useToken 41 = .ok (.aload_n 0, 1) := by decide +kernel
theorem d_M_useToken_42 : decode b_M_useToken 42 = .ok (.getfield 19, 3) := by decide +kernel
theorem d_M_useToken_45 : decode b_M_useToken 45 = .ok (.aload_n 0, 1) := by decide +kernel
theorem d_M_useToken_46 : decode b_M_useToken 46 = .ok (.getfield 35, 3) := by decide +kernel
theorem d_M_useToken_49 : decode b_M_useToken 49 = .ok (.dup2, 1) := by decide +kernel
theorem d_M_useToken_50 : decode b_M_useToken 50 = .ok (.iaload, 1) := by decide +kernel
theorem d_M_useToken_51 : decode b_M_useToken 51 = .ok (.iconst 1, 1) := by decide +kernel
theorem d_M_useToken_52 : decode b_M_useToken 52 = .ok (.isub, 1) := by decide +kernel
theorem d_M_useToken_53 : decode b_M_useToken 53 = .ok (.iastore, 1) := by decide +kernel
theorem d_M_useToken_54 : decode b_M_useToken 54 = .ok (.iconst 0, 1) := by decide +kernel
theorem d_M_useToken_55 : decode b_M_useToken 55 = .ok (.istore_n 2, 1) := by decide +kernel
theorem d_M_useToken_56 : decode b_M_useToken 56 = .ok (.iload_n 2, 1) := by decide +kernel
theorem d_M_useToken_57 : decode b_M_useToken 57 = .ok (.aload_n 0, 1) := by decide +kernel
theorem d_M_useToken_58 : decode b_M_useToken 58 = .ok (.getfield 19, 3) := by decide +kernel
theorem d_M_useToken_61 : decode b_M_useToken 61 = .ok (.aload_n 0, 1) := by decide +kernel
theorem d_M_useToken_62 : decode b_M_useToken 62 = .ok (.getfield 35, 3) := by decide +kernel
theorem d_M_useToken_65 : decode b_M_useToken 65 = .ok (.iaload, 1) := by decide +kernel
theorem d_M_useToken_66 : decode b_M_useToken 66 = .ok (.if_icmp .ge 39, 3) := by decide +kernel
theorem d_M_useToken_69 : decode b_M_useToken 69 = .ok (.aload_n 0, 1) := by decide +kernel
theorem d_M_useToken_70 : decode b_M_useToken 70 = .ok (.getfield 16, 3) := by decide +kernel
theorem d_M_useToken_73 : decode b_M_useToken 73 = .ok (.bipush 8, 2) := by decide +kernel
theorem d_M_useToken_75 : decode b_M_useToken 75 = .ok (.aload_n 0, 1) := by decide +kernel
theorem d_M_useToken_76 : decode b_M_useToken 76 = .ok (.getfield 35, 3) := by decide +kernel
theorem d_M_useToken_79 : decode b_M_useToken 79 = .ok (.imul, 1) := by decide +kernel
theorem d_M_useToken_80 : decode b_M_useToken 80 = .ok (.iload_n 2, 1) := by decide +kernel
theorem d_M_useToken_81 : decode b_M_useToken 81 = .ok (.iadd, 1) := by decide +kernel
theorem d_M_useToken_82 : decode b_M_useToken 82 = .ok (.aload_n 0, 1) := by decide +kernel
theorem d_M_useToken_83 : decode b_M_useToken 83 = .ok (.getfield 16, 3) := by decide +kernel
theorem d_M_useToken_86 : decode b_M_useToken 86 = .ok (.bipush 8, 2) := by decide +kernel
theorem d_M_useToken_88 : decode b_M_useToken 88 = .ok (.aload_n 0, 1) := by decide +kernel
theorem d_M_useToken_89 : decode b_M_useToken 89 = .ok (.getfield 35, 3) := by decide +kernel
theorem d_M_useToken_92 : decode b_M_useToken 92 = .ok (.imul, 1) := by decide +kernel
theorem d_M_useToken_93 : decode b_M_useToken 93 = .ok (.iload_n 2, 1) := by decide +kernel
theorem d_M_useToken_94 : decode b_M_useToken 94 = .ok (.iadd, 1) := by decide +kernel
theorem d_M_useToken_95 : decode b_M_useToken 95 = .ok (.iconst 1, 1) := by decide +kernel
theorem d_M_useToken_96 : decode b_M_useToken 96 = .ok (.iadd, 1) := by decide +kernel
theorem d_M_useToken_97 : decode b_M_useToken 97 = .ok (.iaload, 1) := by decide +kernel
theorem d_M_useToken_98 : decode b_M_useToken 98 = .ok (.iastore, 1) := by decide +kernel
theorem d_M_useToken_99 : decode b_M_useToken 99 = .ok (.iinc 2 1, 3) := by decide +kernel
theorem d_M_useToken_102 : decode b_M_useToken 102 = .ok (.goto (-46), 3) := by decide +kernel
theorem d_M_useToken_105 : decode b_M_useToken 105 = .ok (.iconst 0, 1) := by decide +kernel
theorem d_M_useToken_106 : decode b_M_useToken 106 = .ok (.istore_n 2, 1) := by decide +kernel
theorem d_M_useToken_107 : decode b_M_useToken 107 = .ok (.iload_n 2, 1) := by decide +kernel
theorem d_M_useToken_108 : decode b_M_useToken 108 = .ok (.aload_n 0, 1) := by decide +kernel
theorem d_M_useToken_109 : decode b_M_useToken 109 = .ok (.getfield 25, 3) := by decide +kernel
theorem d_M_useToken_112 : decode b_M_useToken 112 = .ok (.if_icmp .ge 49, 3) := by decide +kernel
theorem d_M_useToken_115 : decode b_M_useToken 115 = .ok (.aload_n 0, 1) := by decide +kernel
theorem d_M_useToken_116 : decode b_M_useToken 116 = .ok (.getfield 22, 3) := by decide +kernel
theorem d_M_useToken_119 : decode b_M_useToken 119 = .ok (.iload_n 2, 1) := by decide +kernel
theorem d_M_useToken_120 : decode b_M_useToken 120 = .ok (.iload_n 2, 1) := by decide +kernel
theorem d_M_useToken_121 : decode b_M_useToken 121 = .ok (.aload_n 0, 1) := by decide +kernel
theorem d_M_useToken_122 : decode b_M_useToken 122 = .ok (.getfield 35, 3) := by decide +kernel
theorem d_M_useToken_125 : decode b_M_useToken 125 = .ok (.if_icmp .eq 23, 3) := by decide +kernel
theorem d_M_useToken_128 : decode b_M_useToken 128 = .ok (.aload_n 0, 1) := by decide +kernel
theorem d_M_useToken_129 : decode b_M_useToken 129 = .ok (.getfield 7, 3) := by decide +kernel
theorem d_M_useToken_132 : decode b_M_useToken 132 = .ok (.iload_n 2, 1) := by decide +kernel
theorem d_M_useToken_133 : decode b_M_useToken 133 = .ok (.iaload, 1) := by decide +kernel
theorem d_M_useToken_134 : decode b_M_useToken 134 = .ok (.ifCond .eq 14, 3) := by decide +kernel
theorem d_M_useToken_137 : decode b_M_useToken 137 = .ok (.aload_n 0, 1) := by decide +kernel
theorem d_M_useToken_138 : decode b_M_useToken 138 = .ok (.getfield 22, 3) := by decide +kernel
theorem d_M_useToken_141 : decode b_M_useToken 141 = .ok (.iload_n 2, 1) := by decide +kernel
theorem d_M_useToken_142 : decode b_M_useToken 142 = .ok (.iaload, 1) := by decide +kernel
theorem d_M_useToken_143 : decode b_M_useToken 143 = .ok (.iconst 1, 1) := by decide +kernel
theorem d_M_useToken_144 : decode b_M_useToken 144 = .ok (.iadd, 1) := by decide +kernel
theorem d_M_useToken_145 : decode b_M_useToken 145 = .ok (.goto 9, 3) := by decide +kernel
theorem d_M_useToken_148 : decode b_M_useToken 148 = .ok (.aload_n 0, 1) := by decide +kernel
theorem d_M_useToken_149 : decode b_M_useToken 149 = .ok (.getfield 22, 3) := by decide +kernel
theorem d_M_useToken_152 : decode b_M_useToken 152 = .ok (.iload_n 2, 1) := by decide +kernel
theorem d_M_useToken_153 : decode b_M_useToken 153 = .ok (.iaload, 1) := by decide +kernel
theorem d_M_useToken_154 : decode b_M_useToken 154 = .ok (.iastore, 1) := by decide +kernel
theorem d_M_useToken_155 : decode b_M_useToken 155 = .ok (.iinc 2 1, 3) := by decide +kernel
theorem d_M_useToken_158 : decode b_M_useToken 158 = .ok (.goto (-51), 3) := by decide +kernel
theorem d_M_useToken_161 : decode b_M_useToken 161 = .ok (.aload_n 0, 1) := by decide +kernel
theorem d_M_useToken_162 : decode b_M_useToken 162 = .ok (.iconst 1, 1) := by decide +kernel
theorem d_M_useToken_163 : decode b_M_useToken 163 = .ok (.putfield 38, 3) := by decide +kernel
theorem d_M_useToken_166 : decode b_M_useToken 166 = .ok (.iload_n 1, 1) := by decide +kernel
theorem d_M_useToken_167 : decode b_M_useToken 167 = .ok (.ireturn, 1) := by decide +kernel
theorem d_M_pass_0 : decode b_M_pass 0 = .ok (.aload_n 0, 1) := by decide +kernel
theorem d_M_pass_1 : decode b_M_pass 1 = .ok (.getfield 13, 3) := by decide +kernel
theorem d_M_pass_4 : decode b_M_pass 4 = .ok (.aload_n 0, 1) := by decide +kernel
theorem d_M_pass_5 : decode b_M_pass 5 = .ok (.getfield 35, 3) := by decide +kernel
theorem d_M_pass_8 : decode b_M_pass 8 = .ok (.iaload, 1) := by decide +kernel
theorem d_M_pass_9 : decode b_M_pass 9 = .ok (.istore_n 1, 1) := by decide +kernel
theorem d_M_pass_10 : decode b_M_pass 10 = .ok (.aload_n 0, 1) := by decide +kernel
theorem d_M_pass_11 : decode b_M_pass 11 = .ok (.getfield 7, 3) := by decide +kernel
theorem d_M_pass_14 : decode b_M_pass 14 = .ok (.iload_n 1, 1) := by decide +kernel
theorem d_M_pass_15 : decode b_M_pass 15 = .ok (.iaload, 1) := by decide +kernel
theorem d_M_pass_16 : decode b_M_pass 16 = .ok (.iconst 3, 1) := by decide +kernel
theorem d_M_pass_17 : decode b_M_pass 17 = .ok (.if_icmp .eq 38, 3) := by decide +kernel
theorem d_M_pass_20 : decode b_M_pass 20 = .ok (.aload_n 0, 1) := by decide +kernel
theorem d_M_pass_21 : decode b_M_pass 21 = .ok (.iload_n 1, 1) := by decide +kernel
theorem d_M_pass_22 : decode b_M_pass 22 = .ok (.invokevirtual 46, 3) := by decide +kernel
theorem d_M_pass_25 : decode b_M_pass 25 = .ok (.istore_n 1, 1) := by decide +kernel
theorem d_M_pass_26 : decode b_M_pass 26 = .ok (.aload_n 0, 1) := by decide +kernel
theorem d_M_pass_27 : decode b_M_pass 27 = .ok (.getfield 7, 3) := by decide +kernel
theorem d_M_pass_30 : decode b_M_pass 30 = .ok (.iload_n 1, 1) := by decide +kernel
theorem d_M_pass_31 : decode b_M_pass 31 = .ok (.iaload, 1) := by decide +kernel
theorem d_M_pass_32 : decode b_M_pass 32 = .ok (.iconst 3, 1) := by decide +kernel
theorem d_M_pass_33 : decode b_M_pass 33 = .ok (.if_icmp .eq 12, 3) := by decide +kernel
theorem d_M_pass_36 : decode b_M_pass 36 = .ok (.aload_n 0, 1) := by decide +kernel
theorem d_M_pass_37 : decode b_M_pass 37 = .ok (.iload_n 1, 1) := by decide +kernel
theorem d_M_pass_38 : decode b_M_pass 38 = .ok (.invokevirtual 46, 3) := by decide +kernel
theorem d_M_pass_41 : decode b_M_pass 41 = .ok (.istore_n 1, 1) := by decide +kernel
theorem d_M_pass_42 : decode b_M_pass 42 = .ok (.goto (-16), 3) := by decide +kernel
theorem d_M_pass_45 : decode b_M_pass 45 = .ok (.aload_n 0, 1) := by decide +kernel
theorem d_M_pass_46 : decode b_M_pass 46 = .ok (.getfield 13, 3) := by decide +kernel
theorem d_M_pass_49 : decode b_M_pass 49 = .ok (.aload_n 0, 1) := by decide +kernel
theorem d_M_pass_50 : decode b_M_pass 50 = .ok (.getfield 35, 3) := by decide +kernel
theorem d_M_pass_53 : decode b_M_pass 53 = .ok (.iload_n 1, 1) := by decide +kernel
theorem d_M_pass_54 : decode b_M_pass 54 = .ok (.iastore, 1) := by decide +kernel
theorem d_M_pass_55 : decode b_M_pass 55 = .ok (.aload_n 0, 1) := by decide +kernel
theorem d_M_pass_56 : decode b_M_pass 56 = .ok (.iload_n 1, 1) := by decide +kernel
theorem d_M_pass_57 : decode b_M_pass 57 = .ok (.putfield 35, 3) := by decide +kernel
theorem d_M_pass_60 : decode b_M_pass 60 = .ok (.aload_n 0, 1) := by decide +kernel
theorem d_M_pass_61 : decode b_M_pass 61 = .ok (.iconst 0, 1) := by decide +kernel
theorem d_M_pass_62 : decode b_M_pass 62 = .ok (.putfield 38, 3) := by decide +kernel
theorem d_M_pass_65 : decode b_M_pass 65 = .ok (.return_, 1) := by decide +kernel
theorem d_M_passToken_0 : decode b_M_passToken 0 = .ok (.aload_n 0, 1) := by decide +kernel
theorem d_M_passToken_1 : decode b_M_passToken 1 = .ok (.getfield 35, 3) := by decide +kernel
theorem d_M_passToken_4 : decode b_M_passToken 4 = .ok (.ifCond .lt 7, 3) := by decide +kernel
theorem d_M_passToken_7 : decode b_M_passToken 7 = .ok (.aload_n 0, 1) := by decide +kernel
theorem d_M_passToken_8 : decode b_M_passToken 8 = .ok (.invokevirtual 50, 3) := by decide +kernel
theorem d_M_passToken_11 : decode b_M_passToken 11 = .ok (.aload_n 0, 1) := by decide +kernel
theorem d_M_passToken_12 : decode b_M_passToken 12 = .ok (.getfield 35, 3) := by decide +kernel
theorem d_M_passToken_15 : decode b_M_passToken 15 = .ok (.ireturn, 1) := by decide +kernel
theorem d_M_solicit_0 : decode b_M_solicit 0 = .ok (.aload_n 0, 1) := by decide +kernel
theorem d_M_solicit_1 : decode b_M_solicit 1 = .ok (.getfield 35, 3) := by decide +kernel
theorem d_M_solicit_4 : decode b_M_solicit 4 = .ok (.ifCond .ge 5, 3) := by decide +kernel
theorem d_M_solicit_7 : decode b_M_solicit 7 = .ok (.iconst (-1), 1) := by decide +kernel
theorem d_M_solicit_8 : decode b_M_solicit 8 = .ok (.ireturn, 1) := by decide +kernel
theorem d_M_solicit_9 : decode b_M_solicit 9 = .ok (.aload_n 0, 1) := by decide +kernel
theorem d_M_solicit_10 : decode b_M_solicit 10 = .ok (.aload_n 0, 1) := by decide +kernel
theorem d_M_solicit_11 : decode b_M_solicit 11 = .ok (.getfield 35, 3) := by decide +kernel
theorem d_M_solicit_14 : decode b_M_solicit 14 = .ok (.invokevirtual 46, 3) := by decide +kernel
theorem d_M_solicit_17 : decode b_M_solicit 17 = .ok (.istore_n 1, 1) := by decide +kernel
theorem d_M_solicit_18 : decode b_M_solicit 18 = .ok (.iload_n 1, 1) := by decide +kernel
theorem d_M_solicit_19 : decode b_M_solicit 19 = .ok (.aload_n 0, 1) := by decide +kernel
theorem d_M_solicit_20 : decode b_M_solicit 20 = .ok (.getfield 35, 3) := by decide +kernel
theorem d_M_solicit_23 : decode b_M_solicit 23 = .ok (.if_icmp .eq 35, 3) := by decide +kernel
theorem d_M_solicit_26 : decode b_M_solicit 26 = .ok (.iload_n 1, 1) := by decide +kernel
theorem d_M_solicit_27 : decode b_M_solicit 27 = .ok (.aload_n 0, 1) := by decide +kernel
theorem d_M_solicit_28 : decode b_M_solicit 28 = .ok (.getfield 13, 3) := by decide +kernel
theorem d_M_solicit_31 : decode b_M_solicit 31 = .ok (.aload_n 0, 1) := by decide +kernel
theorem d_M_solicit_32 : decode b_M_solicit 32 = .ok (.getfield 35, 3) := by decide +kernel
theorem d_M_solicit_35 : decode b_M_solicit 35 = .ok (.iaload, 1) := by decide +kernel
theorem d_M_solicit_36 : decode b_M_solicit 36 = .ok (.if_icmp .eq 22, 3) := by decide +kernel
theorem d_M_solicit_39 : decode b_M_solicit 39 = .ok (.aload_n 0, 1) := by decide +kernel
theorem d_M_solicit_40 : decode b_M_solicit 40 = .ok (.getfield 7, 3) := by decide +kernel
theorem d_M_solicit_43 : decode b_M_solicit 43 = .ok (.iload_n 1, 1) := by decide +kernel
theorem d_M_solicit_44 : decode b_M_solicit 44 = .ok (.iaload, 1) := by decide +kernel
theorem d_M_solicit_45 : decode b_M_solicit 45 = .ok (.iconst 2, 1) := by decide +kernel
theorem d_M_solicit_46 : decode b_M_solicit 46 = .ok (.if_icmp .eq 12, 3) := by decide +kernel
theorem d_M_solicit_49 : decode b_M_solicit 49 = .ok (.aload_n 0, 1) := by decide +kernel
theorem d_M_solicit_50 : decode b_M_solicit 50 = .ok (.iload_n 1, 1) := by decide +kernel
theorem d_M_solicit_51 : decode b_M_solicit 51 = .ok (.invokevirtual 46, 3) := by decide +kernel
theorem d_M_solicit_54 : decode b_M_solicit 54 = .ok (.istore_n 1, 1) := by decide +kernel
theorem d_M_solicit_55 : decode b_M_solicit 55 = .ok (.goto (-37), 3) := by decide +kernel
theorem d_M_solicit_58 : decode b_M_solicit 58 = .ok (.iload_n 1, 1) := by decide +kernel
theorem d_M_solicit_59 : decode b_M_solicit 59 = .ok (.aload_n 0, 1) := by decide +kernel
theorem d_M_solicit_60 : decode b_M_solicit 60 = .ok (.getfield 35, 3) := by decide +kernel
theorem d_M_solicit_63 : decode b_M_solicit 63 = .ok (.if_icmp .eq 16, 3) := by decide +kernel
theorem d_M_solicit_66 : decode b_M_solicit 66 = .ok (.iload_n 1, 1) := by decide +kernel
theorem d_M_solicit_67 : decode b_M_solicit 67 = .ok (.aload_n 0, 1) := by decide +kernel
theorem d_M_solicit_68 : decode b_M_solicit 68 = .ok (.getfield 13, 3) := by decide +kernel
theorem d_M_solicit_71 : decode b_M_solicit 71 = .ok (.aload_n 0, 1) := by decide +kernel
theorem d_M_solicit_72 : decode b_M_solicit 72 = .ok (.getfield 35, 3) := by decide +kernel
theorem d_M_solicit_75 : decode b_M_solicit 75 = .ok (.iaload, 1) := by decide +kernel
theorem d_M_solicit_76 : decode b_M_solicit 76 = .ok (.if_icmp .ne 5, 3) := by decide +kernel
theorem d_M_solicit_79 : decode b_M_solicit 79 = .ok (.iconst (-1), 1) := by decide +kernel
theorem d_M_solicit_80 : decode b_M_solicit 80 = .ok (.ireturn, 1) := by decide +kernel
theorem d_M_solicit_81 : decode b_M_solicit 81 = .ok (.aload_n 0, 1) := by decide +kernel
theorem d_M_solicit_82 : decode b_M_solicit 82 = .ok (.getfield 7, 3) := by decide +kernel
theorem d_M_solicit_85 : decode b_M_solicit 85 = .ok (.iload_n 1, 1) := by decide +kernel
theorem d_M_solicit_86 : decode b_M_solicit 86 = .ok (.iconst 3, 1) := by decide +kernel
theorem d_M_solicit_87 : decode b_M_solicit 87 = .ok (.iastore, 1) := by decide +kernel
theorem d_M_solicit_88 : decode b_M_solicit 88 = .ok (.aload_n 0, 1) := by decide +kernel
theorem d_M_solicit_89 : decode b_M_solicit 89 = .ok (.getfield 13, 3) := by decide +kernel
theorem d_M_solicit_92 : decode b_M_solicit 92 = .ok (.iload_n 1, 1) := by decide +kernel
theorem d_M_solicit_93 : decode b_M_solicit 93 = .ok (.aload_n 0, 1) := by decide +kernel
theorem d_M_solicit_94 : decode b_M_solicit 94 = .ok (.getfield 13, 3) := by decide +kernel
theorem d_M_solicit_97 : decode b_M_solicit 97 = .ok (.aload_n 0, 1) := by decide +kernel
theorem d_M_solicit_98 : decode b_M_solicit 98 = .ok (.getfield 35, 3) := by decide +kernel
theorem d_M_solicit_101 : decode b_M_solicit 101 = .ok (.iaload, 1) := by decide +kernel
theorem d_M_solicit_102 : decode b_M_solicit 102 = .ok (.iastore, 1) := by decide +kernel
theorem d_M_solicit_103 : decode b_M_solicit 103 = .ok (.aload_n 0, 1) := by decide +kernel
theorem d_M_solicit_104 : decode b_M_solicit 104 = .ok (.getfield 13, 3) := by decide +kernel
theorem d_M_solicit_107 : decode b_M_solicit 107 = .ok (.aload_n 0, 1) := by decide +kernel
theorem d_M_solicit_108 : decode b_M_solicit 108 = .ok (.getfield 35, 3) := by decide +kernel
theorem d_M_solicit_111 : decode b_M_solicit 111 = .ok (.iload_n 1, 1) := by decide +kernel
theorem d_M_solicit_112 : decode b_M_solicit 112 = .ok (.iastore, 1) := by decide +kernel
theorem d_M_solicit_113 : decode b_M_solicit 113 = .ok (.iload_n 1, 1) := by decide +kernel
theorem d_M_solicit_114 : decode b_M_solicit 114 = .ok (.ireturn, 1) := by decide +kernel
theorem d_M_leave_0 : decode b_M_leave 0 = .ok (.aload_n 0, 1) := by decide +kernel
theorem d_M_leave_1 : decode b_M_leave 1 = .ok (.getfield 35, 3) := by decide +kernel
theorem d_M_leave_4 : decode b_M_leave 4 = .ok (.ifCond .lt 11, 3) := by decide +kernel
theorem d_M_leave_7 : decode b_M_leave 7 = .ok (.aload_n 0, 1) := by decide +kernel
theorem d_M_leave_8 : decode b_M_leave 8 = .ok (.getfield 35, 3) := by decide +kernel
theorem d_M_leave_11 : decode b_M_leave 11 = .ok (.iload_n 1, 1) := by decide +kernel
theorem d_M_leave_12 : decode b_M_leave 12 = .ok (.if_icmp .eq 5, 3) := by decide +kernel
theorem d_M_leave_15 : decode b_M_leave 15 = .ok (.iconst 1, 1) := by decide +kernel
theorem d_M_leave_16 : decode b_M_leave 16 = .ok (.ireturn, 1) := by decide +kernel
theorem d_M_leave_17 : decode b_M_leave 17 = .ok (.aload_n 0, 1) := by decide +kernel
theorem d_M_leave_18 : decode b_M_leave 18 = .ok (.invokevirtual 50, 3) := by decide +kernel
theorem d_M_leave_21 : decode b_M_leave 21 = .ok (.aload_n 0, 1) := by decide +kernel
theorem d_M_leave_22 : decode b_M_leave 22 = .ok (.getfield 35, 3) := by decide +kernel
theorem d_M_leave_25 : decode b_M_leave 25 = .ok (.istore_n 2, 1) := by decide +kernel
theorem d_M_leave_26 : decode b_M_leave 26 = .ok (.iconst 0, 1) := by decide +kernel
theorem d_M_leave_27 : decode b_M_leave 27 = .ok (.istore_n 3, 1) := by decide +kernel
theorem d_M_leave_28 : decode b_M_leave 28 = .ok (.iload_n 3, 1) := by decide +kernel
theorem d_M_leave_29 : decode b_M_leave 29 = .ok (.aload_n 0, 1) := by decide +kernel
theorem d_M_leave_30 : decode b_M_leave 30 = .ok (.getfield 25, 3) := by decide +kernel
theorem d_M_leave_33 : decode b_M_leave 33 = .ok (.if_icmp .ge 35, 3) := by decide +kernel
theorem d_M_leave_36 : decode b_M_leave 36 = .ok (.aload_n 0, 1) := by decide +kernel
theorem d_M_leave_37 : decode b_M_leave 37 = .ok (.getfield 13, 3) := by decide +kernel
theorem d_M_leave_40 : decode b_M_leave 40 = .ok (.iload_n 3, 1) := by decide +kernel
theorem d_M_leave_41 : decode b_M_leave 41 = .ok (.aload_n 0, 1) := by decide +kernel
theorem d_M_leave_42 : decode b_M_leave 42 = .ok (.getfield 13, 3) := by decide +kernel
theorem d_M_leave_45 : decode b_M_leave 45 = .ok (.iload_n 3, 1) := by decide +kernel
theorem d_M_leave_46 : decode b_M_leave 46 = .ok (.iaload, 1) := by decide +kernel
theorem d_M_leave_47 : decode b_M_leave 47 = .ok (.iload_n 1, 1) := by decide +kernel
theorem d_M_leave_48 : decode b_M_leave 48 = .ok (.if_icmp .ne 7, 3) := by decide +kernel
theorem d_M_leave_51 : decode b_M_leave 51 = .ok (.iload_n 2, 1) := by decide +kernel
theorem d_M_leave_52 : decode b_M_leave 52 = .ok (.goto 9, 3) := by decide +kernel
theorem d_M_leave_55 : decode b_M_leave 55 = .ok (.aload_n 0, 1) := by decide +kernel
theorem d_M_leave_56 : decode b_M_leave 56 = .ok (.getfield 13, 3) := by decide +kernel
theorem d_M_leave_59 : decode b_M_leave 59 = .ok (.iload_n 3, 1) := by decide +kernel
theorem d_M_leave_60 : decode b_M_leave 60 = .ok (.iaload, 1) := by decide +kernel
theorem d_M_leave_61 : decode b_M_leave 61 = .ok (.iastore, 1) := by decide +kernel
theorem d_M_leave_62 : decode b_M_leave 62 = .ok (.iinc 3 1, 3) := by decide +kernel
theorem d_M_leave_65 : decode b_M_leave 65 = .ok (.goto (-37), 3) := by decide +kernel
theorem d_M_leave_68 : decode b_M_leave 68 = .ok (.aload_n 0, 1) := by decide +kernel
theorem d_M_leave_69 : decode b_M_leave 69 = .ok (.getfield 7, 3) := by decide +kernel
theorem d_M_leave_72 : decode b_M_leave 72 = .ok (.iload_n 1, 1) := by decide +kernel
theorem d_M_leave_73 : decode b_M_leave 73 = .ok (.iconst 1, 1) := by decide +kernel
theorem d_M_leave_74 : decode b_M_leave 74 = .ok (.iastore, 1) := by decide +kernel
theorem d_M_leave_75 : decode b_M_leave 75 = .ok (.aload_n 0, 1) := by decide +kernel
theorem d_M_leave_76 : decode b_M_leave 76 = .ok (.iload_n 2, 1) := by decide +kernel
theorem d_M_leave_77 : decode b_M_leave 77 = .ok (.iload_n 1, 1) := by decide +kernel
theorem d_M_leave_78 : decode b_M_leave 78 = .ok (.if_icmp .ne 7, 3) := by decide +kernel
theorem d_M_leave_81 : decode b_M_leave 81 = .ok (.iconst (-1), 1) := by decide +kernel
theorem d_M_leave_82 : decode b_M_leave 82 = .ok (.goto 4, 3) := by decide +kernel
theorem d_M_leave_85 : decode b_M_leave 85 = .ok (.iload_n 2, 1) := by decide +kernel
theorem d_M_leave_86 : decode b_M_leave 86 = .ok (.putfield 35, 3) := by decide +kernel
theorem d_M_leave_89 : decode b_M_leave 89 = .ok (.iconst 0, 1) := by decide +kernel
theorem d_M_leave_90 : decode b_M_leave 90 = .ok (.ireturn, 1) := by decide +kernel
theorem d_M_silence_0 : decode b_M_silence 0 = .ok (.aload_n 0, 1) := by decide +kernel
theorem d_M_silence_1 : decode b_M_silence 1 = .ok (.getfield 35, 3) := by decide +kernel
theorem d_M_silence_4 : decode b_M_silence 4 = .ok (.ifCond .lt 5, 3) := by decide +kernel
theorem d_M_silence_7 : decode b_M_silence 7 = .ok (.iconst (-1), 1) := by decide +kernel
theorem d_M_silence_8 : decode b_M_silence 8 = .ok (.ireturn, 1) := by decide +kernel
theorem d_M_silence_9 : decode b_M_silence 9 = .ok (.iconst (-1), 1) := by decide +kernel
theorem d_M_silence_10 : decode b_M_silence 10 = .ok (.istore_n 1, 1) := by decide +kernel
theorem d_M_silence_11 : decode b_M_silence 11 = .ok (.iconst (-1), 1) := by decide +kernel
theorem d_M_silence_12 : decode b_M_silence 12 = .ok (.istore_n 2, 1) := by decide +kernel
theorem d_M_silence_13 : decode b_M_silence 13 = .ok (.iconst 0, 1) := by decide +kernel
theorem d_M_silence_14 : decode b_M_silence 14 = .ok (.istore_n 3, 1) := by decide +kernel
theorem d_M_silence_15 : decode b_M_silence 15 = .ok (.iload_n 3, 1) := by decide +kernel
theorem d_M_silence_16 : decode b_M_silence 16 = .ok (.aload_n 0, 1) := by decide +kernel
theorem d_M_silence_17 : decode b_M_silence 17 = .ok (.getfield 25, 3) := by decide +kernel
theorem d_M_silence_20 : decode b_M_silence 20 = .ok (.if_icmp .ge 40, 3) := by decide +kernel
theorem d_M_silence_23 : decode b_M_silence 23 = .ok (.aload_n 0, 1) := by decide +kernel
theorem d_M_silence_24 : decode b_M_silence 24 = .ok (.getfield 7, 3) := by decide +kernel
theorem d_M_silence_27 : decode b_M_silence 27 = .ok (.iload_n 3, 1) := by decide +kernel
theorem d_M_silence_28 : decode b_M_silence 28 = .ok (.iaload, 1) := by decide +kernel
theorem d_M_silence_29 : decode b_M_silence 29 = .ok (.iconst 3, 1) := by decide +kernel
theorem d_M_silence_30 : decode b_M_silence 30 = .ok (.if_icmp .ne 7, 3) := by decide +kernel
theorem d_M_silence_33 : decode b_M_silence 33 = .ok (.iload_n 3, 1) := by decide +kernel
theorem d_M_silence_34 : decode b_M_silence 34 = .ok (.goto 4, 3) := by decide +kernel
theorem d_M_silence_37 : decode b_M_silence 37 = .ok (.iload_n 1, 1) := by decide +kernel
theorem d_M_silence_38 : decode b_M_silence 38 = .ok (.istore_n 1, 1) := by decide +kernel
theorem d_M_silence_39 : decode b_M_silence 39 = .ok (.aload_n 0, 1) := by decide +kernel
theorem d_M_silence_40 : decode b_M_silence 40 = .ok (.getfield 7, 3) := by decide +kernel
theorem d_M_silence_43 : decode b_M_silence 43 = .ok (.iload_n 3, 1) := by decide +kernel
theorem d_M_silence_44 : decode b_M_silence 44 = .ok (.iaload, 1) := by decide +kernel
theorem d_M_silence_45 : decode b_M_silence 45 = .ok (.ifCond .eq 7, 3) := by decide +kernel
theorem d_M_silence_48 : decode b_M_silence 48 = .ok (.iload_n 3, 1) := by decide +kernel
theorem d_M_silence_49 : decode b_M_silence 49 = .ok (.goto 4, 3) := by decide +kernel
theorem d_M_silence_52 : decode b_M_silence 52 = .ok (.iload_n 2, 1) := by decide +kernel
theorem d_M_silence_53 : decode b_M_silence 53 = .ok (.istore_n 2, 1) := by decide +kernel
theorem d_M_silence_54 : decode b_M_silence 54 = .ok (.iinc 3 1, 3) := by decide +kernel
theorem d_M_silence_57 : decode b_M_silence 57 = .ok (.goto (-42), 3) := by decide +kernel
theorem d_M_silence_60 : decode b_M_silence 60 = .ok (.iload_n 1, 1) := by decide +kernel
theorem d_M_silence_61 : decode b_M_silence 61 = .ok (.ifCond .ge 23, 3) := by decide +kernel
theorem d_M_silence_64 : decode b_M_silence 64 = .ok (.iload_n 2, 1) := by decide +kernel
theorem d_M_silence_65 : decode b_M_silence 65 = .ok (.ifCond .lt 19, 3) := by decide +kernel
theorem d_M_silence_68 : decode b_M_silence 68 = .ok (.aload_n 0, 1) := by decide +kernel
theorem d_M_silence_69 : decode b_M_silence 69 = .ok (.getfield 7, 3) := by decide +kernel
theorem d_M_silence_72 : decode b_M_silence 72 = .ok (.iload_n 2, 1) := by decide +kernel
theorem d_M_silence_73 : decode b_M_silence 73 = .ok (.iconst 3, 1) := by decide +kernel
theorem d_M_silence_74 : decode b_M_silence 74 = .ok (.iastore, 1) := by decide +kernel
theorem d_M_silence_75 : decode b_M_silence 75 = .ok (.aload_n 0, 1) := by decide +kernel
theorem d_M_silence_76 : decode b_M_silence 76 = .ok (.getfield 13, 3) := by decide +kernel
theorem d_M_silence_79 : decode b_M_silence 79 = .ok (.iload_n 2, 1) := by decide +kernel
theorem d_M_silence_80 : decode b_M_silence 80 = .ok (.iload_n 2, 1) := by decide +kernel
theorem d_M_silence_81 : decode b_M_silence 81 = .ok (.iastore, 1) := by decide +kernel
theorem d_M_silence_82 : decode b_M_silence 82 = .ok (.iload_n 2, 1) := by decide +kernel
theorem d_M_silence_83 : decode b_M_silence 83 = .ok (.istore_n 1, 1) := by decide +kernel
theorem d_M_silence_84 : decode b_M_silence 84 = .ok (.aload_n 0, 1) := by decide +kernel
theorem d_M_silence_85 : decode b_M_silence 85 = .ok (.iload_n 1, 1) := by decide +kernel
theorem d_M_silence_86 : decode b_M_silence 86 = .ok (.putfield 35, 3) := by decide +kernel
theorem d_M_silence_89 : decode b_M_silence 89 = .ok (.aload_n 0, 1) := by decide +kernel
theorem d_M_silence_90 : decode b_M_silence 90 = .ok (.iconst 0, 1) := by decide +kernel
theorem d_M_silence_91 : decode b_M_silence 91 = .ok (.putfield 38, 3) := by decide +kernel
theorem d_M_silence_94 : decode b_M_silence 94 = .ok (.iload_n 1, 1) := by decide +kernel
theorem d_M_silence_95 : decode b_M_silence 95 = .ok (.ireturn, 1) := by decide +kernel
theorem d_M_tokenHolder_0 : decode b_M_tokenHolder 0 = .ok (.aload_n 0, 1) := by decide +kernel
theorem d_M_tokenHolder_1 : decode b_M_tokenHolder 1 = .ok (.getfield 35, 3) := by decide +kernel
theorem d_M_tokenHolder_4 : decode b_M_tokenHolder 4 = .ok (.ireturn, 1) := by decide +kernel
theorem d_M_successor_0 : decode b_M_successor 0 = .ok (.aload_n 0, 1) := by decide +kernel
theorem d_M_successor_1 : decode b_M_successor 1 = .ok (.iload_n 1, 1) := by decide +kernel
theorem d_M_successor_2 : decode b_M_successor 2 = .ok (.invokevirtual 42, 3) := by decide +kernel
theorem d_M_successor_5 : decode b_M_successor 5 = .ok (.ifCond .eq 22, 3) := by decide +kernel
theorem d_M_successor_8 : decode b_M_successor 8 = .ok (.aload_n 0, 1) := by decide +kernel
theorem d_M_successor_9 : decode b_M_successor 9 = .ok (.getfield 7, 3) := by decide +kernel
theorem d_M_successor_12 : decode b_M_successor 12 = .ok (.iload_n 1, 1) := by decide +kernel
theorem d_M_successor_13 : decode b_M_successor 13 = .ok (.iaload, 1) := by decide +kernel
theorem d_M_successor_14 : decode b_M_successor 14 = .ok (.iconst 3, 1) := by decide +kernel
theorem d_M_successor_15 : decode b_M_successor 15 = .ok (.if_icmp .ne 12, 3) := by decide +kernel
theorem d_M_successor_18 : decode b_M_successor 18 = .ok (.aload_n 0, 1) := by decide +kernel
theorem d_M_successor_19 : decode b_M_successor 19 = .ok (.getfield 13, 3) := by decide +kernel
theorem d_M_successor_22 : decode b_M_successor 22 = .ok (.iload_n 1, 1) := by decide +kernel
theorem d_M_successor_23 : decode b_M_successor 23 = .ok (.iaload, 1) := by decide +kernel
theorem d_M_successor_24 : decode b_M_successor 24 = .ok (.goto 4, 3) := by decide +kernel
theorem d_M_successor_27 : decode b_M_successor 27 = .ok (.iconst (-1), 1) := by decide +kernel
theorem d_M_successor_28 : decode b_M_successor 28 = .ok (.ireturn, 1) := by decide +kernel
theorem d_M_receivedBy_0 : decode b_M_receivedBy 0 = .ok (.aload_n 0, 1) := by decide +kernel
theorem d_M_receivedBy_1 : decode b_M_receivedBy 1 = .ok (.iload_n 1, 1) := by decide +kernel
theorem d_M_receivedBy_2 : decode b_M_receivedBy 2 = .ok (.invokevirtual 42, 3) := by decide +kernel
theorem d_M_receivedBy_5 : decode b_M_receivedBy 5 = .ok (.ifCond .eq 12, 3) := by decide +kernel
theorem d_M_receivedBy_8 : decode b_M_receivedBy 8 = .ok (.aload_n 0, 1) := by decide +kernel
theorem d_M_receivedBy_9 : decode b_M_receivedBy 9 = .ok (.getfield 22, 3) := by decide +kernel
theorem d_M_receivedBy_12 : decode b_M_receivedBy 12 = .ok (.iload_n 1, 1) := by decide +kernel
theorem d_M_receivedBy_13 : decode b_M_receivedBy 13 = .ok (.iaload, 1) := by decide +kernel
theorem d_M_receivedBy_14 : decode b_M_receivedBy 14 = .ok (.goto 4, 3) := by decide +kernel
theorem d_M_receivedBy_17 : decode b_M_receivedBy 17 = .ok (.iconst 0, 1) := by decide +kernel
theorem d_M_receivedBy_18 : decode b_M_receivedBy 18 = .ok (.ireturn, 1) := by decide +kernel
theorem d_M_state_0 : decode b_M_state 0 = .ok (.aload_n 0, 1) := by decide +kernel
theorem d_M_state_1 : decode b_M_state 1 = .ok (.iload_n 1, 1) := by decide +kernel
theorem d_M_state_2 : decode b_M_state 2 = .ok (.invokevirtual 42, 3) := by decide +kernel
theorem d_M_state_5 : decode b_M_state 5 = .ok (.ifCond .eq 12, 3) := by decide +kernel
theorem d_M_state_8 : decode b_M_state 8 = .ok (.aload_n 0, 1) := by decide +kernel
theorem d_M_state_9 : decode b_M_state 9 = .ok (.getfield 7, 3) := by decide +kernel
theorem d_M_state_12 : decode b_M_state 12 = .ok (.iload_n 1, 1) := by decide +kernel
theorem d_M_state_13 : decode b_M_state 13 = .ok (.iaload, 1) := by decide +kernel
theorem d_M_state_14 : decode b_M_state 14 = .ok (.goto 4, 3) := by decide +kernel
theorem d_M_state_17 : decode b_M_state 17 = .ok (.iconst (-1), 1) := by decide +kernel
theorem d_M_state_18 : decode b_M_state 18 = .ok (.ireturn, 1) := by decide +kernel
theorem d_M_waiting_0 : decode b_M_waiting 0 = .ok (.aload_n 0, 1) := by decide +kernel
theorem d_M_waiting_1 : decode b_M_waiting 1 = .ok (.iload_n 1, 1) := by decide +kernel
theorem d_M_waiting_2 : decode b_M_waiting 2 = .ok (.invokevirtual 42, 3) := by decide +kernel
theorem d_M_waiting_5 : decode b_M_waiting 5 = .ok (.ifCond .eq 12, 3) := by decide +kernel
theorem d_M_waiting_8 : decode b_M_waiting 8 = .ok (.aload_n 0, 1) := by decide +kernel
theorem d_M_waiting_9 : decode b_M_waiting 9 = .ok (.getfield 19, 3) := by decide +kernel
theorem d_M_waiting_12 : decode b_M_waiting 12 = .ok (.iload_n 1, 1) := by decide +kernel
theorem d_M_waiting_13 : decode b_M_waiting 13 = .ok (.iaload, 1) := by decide +kernel
theorem d_M_waiting_14 : decode b_M_waiting 14 = .ok (.goto 4, 3) := by decide +kernel
theorem d_M_waiting_17 : decode b_M_waiting 17 = .ok (.iconst 0, 1) := by decide +kernel
theorem d_M_waiting_18 : decode b_M_waiting 18 = .ok (.ireturn, 1) := by decide +kernel
end
section
theorem d_L_cell_0 : decode b_L_cell 0 = .ok (.iload_n 1, 1) := by decide +kernel
theorem d_L_cell_1 : decode b_L_cell 1 = .ok (.aload_n 0, 1) := by decide +kernel
theorem d_L_cell_2 : decode b_L_cell 2 = .ok (.arraylength, 1) := by decide +kernel
theorem d_L_cell_3 : decode b_L_cell 3 = .ok (.if_icmp .ge 9, 3) := by decide +kernel
theorem d_L_cell_6 : decode b_L_cell 6 = .ok (.aload_n 0, 1) := by decide +kernel
theorem d_L_cell_7 : decode b_L_cell 7 = .ok (.iload_n 1, 1) := by decide +kernel
theorem d_L_cell_8 : decode b_L_cell 8 = .ok (.iaload, 1) := by decide +kernel
theorem d_L_cell_9 : decode b_L_cell 9 = .ok (.goto 4, 3) := by decide +kernel
theorem d_L_cell_12 : decode b_L_cell 12 = .ok (.iconst 0, 1) := by decide +kernel
theorem d_L_cell_13 : decode b_L_cell 13 = .ok (.ireturn, 1) := by decide +kernel
theorem d_L_law_0 : decode code 0 = .ok (.new 7, 3) := by decide +kernel
theorem d_L_law_3 : decode code 3 = .ok (.dup, 1) := by decide +kernel
theorem d_L_law_4 : decode code 4 = .ok (.aload_n 0, 1) := by decide +kernel
theorem d_L_law_5 : decode code 5 = .ok (.iconst 0, 1) := by decide +kernel
theorem d_L_law_6 : decode code 6 = .ok (.invokestatic 9, 3) := by decide +kernel
theorem d_L_law_9 : decode code 9 = .ok (.aload_n 0, 1) := by decide +kernel
theorem d_L_law_10 : decode code 10 = .ok (.iconst 1, 1) := by decide +kernel
theorem d_L_law_11 : decode code 11 = .ok (.invokestatic 9, 3) := by decide +kernel
theorem d_L_law_14 : decode code 14 = .ok (.invokespecial 15, 3) := by decide +kernel
theorem d_L_law_17 : decode code 17 = .ok (.astore_n 1, 1) := by decide +kernel
theorem d_L_law_18 : decode code 18 = .ok (.new 18, 3) := by decide +kernel
theorem d_L_law_21 : decode code 21 = .ok (.dup, 1) := by decide +kernel
theorem d_L_law_22 : decode code 22 = .ok (.aload_n 0, 1) := by decide +kernel
theorem d_L_law_23 : decode code 23 = .ok (.iconst 0, 1) := by decide +kernel
theorem d_L_law_24 : decode code 24 = .ok (.invokestatic 9, 3) := by decide +kernel
theorem d_L_law_27 : decode code 27 = .ok (.aload_n 0, 1) := by decide +kernel
theorem d_L_law_28 : decode code 28 = .ok (.iconst 1, 1) := by decide +kernel
theorem d_L_law_29 : decode code 29 = .ok (.invokestatic 9, 3) := by decide +kernel
theorem d_L_law_32 : decode code 32 = .ok (.invokespecial 20, 3) := by decide +kernel
theorem d_L_law_35 : decode code 35 = .ok (.astore_n 2, 1) := by decide +kernel
theorem d_L_law_36 : decode code 36 = .ok (.iconst 2, 1) := by decide +kernel
theorem d_L_law_37 : decode code 37 = .ok (.istore_n 3, 1) := by decide +kernel
theorem d_L_law_38 : decode code 38 = .ok (.iload_n 3, 1) := by decide +kernel
theorem d_L_law_39 : decode code 39 = .ok (.aload_n 0, 1) := by decide +kernel
theorem d_L_law_40 : decode code 40 = .ok (.arraylength, 1) := by decide +kernel
theorem d_L_law_41 : decode code 41 = .ok (.iconst 3, 1) := by decide +kernel
theorem d_L_law_42 : decode code 42 = .ok (.isub, 1) := by decide +kernel
theorem d_L_law_43 : decode code 43 = .ok (.if_icmp .gt 357, 3) := by decide +kernel
theorem d_L_law_46 : decode code 46 = .ok (.aload_n 0, 1) := by decide +kernel
theorem d_L_law_47 : decode code 47 = .ok (.iload_n 3, 1) := by decide +kernel
theorem d_L_law_48 : decode code 48 = .ok (.iaload, 1) := by decide +kernel
theorem d_L_law_49 : decode code 49 = .ok (.bipush 15, 2) := by decide +kernel
theorem d_L_law_51 : decode code 51 = .ok (.iand, 1) := by decide +kernel
theorem d_L_law_52 : decode code 52 = .ok (.tableswitch 342 0 13 #[72, 83, 106, 129, 162, 175, 188, 201, 224, 237, 250, 273, 296, 319], 72) := by decide +kernel
theorem d_L_law_124 : decode code 124 = .ok (.aload_n 1, 1) := by decide +kernel
theorem d_L_law_125 : decode code 125 = .ok (.invokevirtual 21, 3) := by decide +kernel
theorem d_L_law_128 : decode code 128 = .ok (.aload_n 2, 1) := by decide +kernel
theorem d_L_law_129 : decode code 129 = .ok (.invokevirtual 24, 3) := by decide +kernel
theorem d_L_law_132 : decode code 132 = .ok (.goto 262, 3) := by decide +kernel
theorem d_L_law_135 : decode code 135 = .ok (.aload_n 1, 1) := by decide +kernel
theorem d_L_law_136 : decode code 136 = .ok (.aload_n 0, 1) := by decide +kernel
theorem d_L_law_137 : decode code 137 = .ok (.iload_n 3, 1) := by decide +kernel
theorem d_L_law_138 : decode code 138 = .ok (.iconst 1, 1) := by decide +kernel
theorem d_L_law_139 : decode code 139 = .ok (.iadd, 1) := by decide +kernel
theorem d_L_law_140 : decode code 140 = .ok (.iaload, 1) := by decide +kernel
theorem d_L_law_141 : decode code 141 = .ok (.invokevirtual 25, 3) := by decide +kernel
theorem d_L_law_144 : decode code 144 = .ok (.aload_n 2, 1) := by decide +kernel
theorem d_L_law_145 : decode code 145 = .ok (.aload_n 0, 1) := by decide +kernel
theorem d_L_law_146 : decode code 146 = .ok (.iload_n 3, 1) := by decide +kernel
theorem d_L_law_147 : decode code 147 = .ok (.iconst 1, 1) := by decide +kernel
theorem d_L_law_148 : decode code 148 = .ok (.iadd, 1) := by decide +kernel
theorem d_L_law_149 : decode code 149 = .ok (.iaload, 1) := by decide +kernel
theorem d_L_law_150 : decode code 150 = .ok (.invokevirtual 29, 3) := by decide +kernel
theorem d_L_law_153 : decode code 153 = .ok (.if_icmp .eq 241, 3) := by decide +kernel
theorem d_L_law_156 : decode code 156 = .ok (.iconst 0, 1) := by decide +kernel
theorem d_L_law_157 : decode code 157 = .ok (.ireturn, 1) := by decide +kernel
theorem d_L_law_158 : decode code 158 = .ok (.aload_n 1, 1) := by decide +kernel
theorem d_L_law_159 : decode code 159 = .ok (.aload_n 0, 1) := by decide +kernel
theorem d_L_law_160 : decode code 160 = .ok (.iload_n 3, 1) := by decide +kernel
theorem d_L_law_161 : decode code 161 = .ok (.iconst 1, 1) := by decide +kernel
theorem d_L_law_162 : decode code 162 = .ok (.iadd, 1) := by decide +kernel
theorem d_L_law_163 : decode code 163 = .ok (.iaload, 1) := by decide +kernel
theorem d_L_law_164 : decode code 164 = .ok (.invokevirtual 30, 3) := by decide +kernel
theorem d_L_law_167 : decode code 167 = .ok (.aload_n 2, 1) := by decide +kernel
theorem d_L_law_168 : decode code 168 = .ok (.aload_n 0, 1) := by decide +kernel
theorem d_L_law_169 : decode code 169 = .ok (.iload_n 3, 1) := by decide +kernel
theorem d_L_law_170 : decode code 170 = .ok (.iconst 1, 1) := by decide +kernel
theorem d_L_law_171 : decode code 171 = .ok (.iadd, 1) := by decide +kernel
theorem d_L_law_172 : decode code 172 = .ok (.iaload, 1) := by decide +kernel
theorem d_L_law_173 : decode code 173 = .ok (.invokevirtual 33, 3) := by decide +kernel
theorem d_L_law_176 : decode code 176 = .ok (.if_icmp .eq 218, 3) := by decide +kernel
theorem d_L_law_179 : decode code 179 = .ok (.iconst 0, 1) := by decide +kernel
theorem d_L_law_180 : decode code 180 = .ok (.ireturn, 1) := by decide +kernel
theorem d_L_law_181 : decode code 181 = .ok (.aload_n 1, 1) := by decide +kernel
theorem d_L_law_182 : decode code 182 = .ok (.aload_n 0, 1) := by decide +kernel
theorem d_L_law_183 : decode code 183 = .ok (.iload_n 3, 1) := by decide +kernel
theorem d_L_law_184 : decode code 184 = .ok (.iconst 1, 1) := by decide +kernel
theorem d_L_law_185 : decode code 185 = .ok (.iadd, 1) := by decide +kernel
theorem d_L_law_186 : decode code 186 = .ok (.iaload, 1) := by decide +kernel
theorem d_L_law_187 : decode code 187 = .ok (.aload_n 0, 1) := by decide +kernel
theorem d_L_law_188 : decode code 188 = .ok (.iload_n 3, 1) := by decide +kernel
theorem d_L_law_189 : decode code 189 = .ok (.iconst 2, 1) := by decide +kernel
theorem d_L_law_190 : decode code 190 = .ok (.iadd, 1) := by decide +kernel
theorem d_L_law_191 : decode code 191 = .ok (.iaload, 1) := by decide +kernel
theorem d_L_law_192 : decode code 192 = .ok (.invokevirtual 34, 3) := by decide +kernel
theorem d_L_law_195 : decode code 195 = .ok (.aload_n 2, 1) := by decide +kernel
theorem d_L_law_196 : decode code 196 = .ok (.aload_n 0, 1) := by decide +kernel
theorem d_L_law_197 : decode code 197 = .ok (.iload_n 3, 1) := by decide +kernel
theorem d_L_law_198 : decode code 198 = .ok (.iconst 1, 1) := by decide +kernel
theorem d_L_law_199 : decode code 199 = .ok (.iadd, 1) := by decide +kernel
theorem d_L_law_200 : decode code 200 = .ok (.iaload, 1) := by decide +kernel
theorem d_L_law_201 : decode code 201 = .ok (.aload_n 0, 1) := by decide +kernel
theorem d_L_law_202 : decode code 202 = .ok (.iload_n 3, 1) := by decide +kernel
theorem d_L_law_203 : decode code 203 = .ok (.iconst 2, 1) := by decide +kernel
theorem d_L_law_204 : decode code 204 = .ok (.iadd, 1) := by decide +kernel
theorem d_L_law_205 : decode code 205 = .ok (.iaload, 1) := by decide +kernel
theorem d_L_law_206 : decode code 206 = .ok (.invokevirtual 38, 3) := by decide +kernel
theorem d_L_law_209 : decode code 209 = .ok (.if_icmp .eq 185, 3) := by decide +kernel
theorem d_L_law_212 : decode code 212 = .ok (.iconst 0, 1) := by decide +kernel
theorem d_L_law_213 : decode code 213 = .ok (.ireturn, 1) := by decide +kernel
theorem d_L_law_214 : decode code 214 = .ok (.aload_n 1, 1) := by decide +kernel
theorem d_L_law_215 : decode code 215 = .ok (.invokevirtual 39, 3) := by decide +kernel
theorem d_L_law_218 : decode code 218 = .ok (.aload_n 2, 1) := by decide +kernel
theorem d_L_law_219 : decode code 219 = .ok (.invokevirtual 43, 3) := by decide +kernel
theorem d_L_law_222 : decode code 222 = .ok (.if_icmp .eq 172, 3) := by decide +kernel
theorem d_L_law_225 : decode code 225 = .ok (.iconst 0, 1) := by decide +kernel
theorem d_L_law_226 : decode code 226 = .ok (.ireturn, 1) := by decide +kernel
theorem d_L_law_227 : decode code 227 = .ok (.aload_n 1, 1) := by decide +kernel
theorem d_L_law_228 : decode code 228 = .ok (.invokevirtual 44, 3) := by decide +kernel
theorem d_L_law_231 : decode code 231 = .ok (.aload_n 2, 1) := by decide +kernel
theorem d_L_law_232 : decode code 232 = .ok (.invokevirtual 47, 3) := by decide +kernel
theorem d_L_law_235 : decode code 235 = .ok (.if_icmp .eq 159, 3) := by decide +kernel
theorem d_L_law_238 : decode code 238 = .ok (.iconst 0, 1) := by decide +kernel
theorem d_L_law_239 : decode code 239 = .ok (.ireturn, 1) := by decide +kernel
theorem d_L_law_240 : decode code 240 = .ok (.aload_n 1, 1) := by decide +kernel
theorem d_L_law_241 : decode code 241 = .ok (.invokevirtual 48, 3) := by decide +kernel
theorem d_L_law_244 : decode code 244 = .ok (.aload_n 2, 1) := by decide +kernel
theorem d_L_law_245 : decode code 245 = .ok (.invokevirtual 51, 3) := by decide +kernel
theorem d_L_law_248 : decode code 248 = .ok (.if_icmp .eq 146, 3) := by decide +kernel
theorem d_L_law_251 : decode code 251 = .ok (.iconst 0, 1) := by decide +kernel
theorem d_L_law_252 : decode code 252 = .ok (.ireturn, 1) := by decide +kernel
theorem d_L_law_253 : decode code 253 = .ok (.aload_n 1, 1) := by decide +kernel
theorem d_L_law_254 : decode code 254 = .ok (.aload_n 0, 1) := by decide +kernel
theorem d_L_law_255 : decode code 255 = .ok (.iload_n 3, 1) := by decide +kernel
theorem d_L_law_256 : decode code 256 = .ok (.iconst 1, 1) := by decide +kernel
theorem d_L_law_257 : decode code 257 = .ok (.iadd, 1) := by decide +kernel
theorem d_L_law_258 : decode code 258 = .ok (.iaload, 1) := by decide +kernel
theorem d_L_law_259 : decode code 259 = .ok (.invokevirtual 52, 3) := by decide +kernel
theorem d_L_law_262 : decode code 262 = .ok (.aload_n 2, 1) := by decide +kernel
theorem d_L_law_263 : decode code 263 = .ok (.aload_n 0, 1) := by decide +kernel
theorem d_L_law_264 : decode code 264 = .ok (.iload_n 3, 1) := by decide +kernel
theorem d_L_law_265 : decode code 265 = .ok (.iconst 1, 1) := by decide +kernel
theorem d_L_law_266 : decode code 266 = .ok (.iadd, 1) := by decide +kernel
theorem d_L_law_267 : decode code 267 = .ok (.iaload, 1) := by decide +kernel
theorem d_L_law_268 : decode code 268 = .ok (.invokevirtual 56, 3) := by decide +kernel
theorem d_L_law_271 : decode code 271 = .ok (.if_icmp .eq 123, 3) := by decide +kernel
theorem d_L_law_274 : decode code 274 = .ok (.iconst 0, 1) := by decide +kernel
theorem d_L_law_275 : decode code 275 = .ok (.ireturn, 1) := by decide +kernel
theorem d_L_law_276 : decode code 276 = .ok (.aload_n 1, 1) := by decide +kernel
theorem d_L_law_277 : decode code 277 = .ok (.invokevirtual 57, 3) := by decide +kernel
theorem d_L_law_280 : decode code 280 = .ok (.aload_n 2, 1) := by decide +kernel
theorem d_L_law_281 : decode code 281 = .ok (.invokevirtual 60, 3) := by decide +kernel
theorem d_L_law_284 : decode code 284 = .ok (.if_icmp .eq 110, 3) := by decide +kernel
theorem d_L_law_287 : decode code 287 = .ok (.iconst 0, 1) := by decide +kernel
theorem d_L_law_288 : decode code 288 = .ok (.ireturn, 1) := by decide +kernel
theorem d_L_law_289 : decode code 289 = .ok (.aload_n 1, 1) := by decide +kernel
theorem d_L_law_290 : decode code 290 = .ok (.invokevirtual 61, 3) := by decide +kernel
theorem d_L_law_293 : decode code 293 = .ok (.aload_n 2, 1) := by decide +kernel
theorem d_L_law_294 : decode code 294 = .ok (.invokevirtual 64, 3) := by decide +kernel
theorem d_L_law_297 : decode code 297 = .ok (.if_icmp .eq 97, 3) := by decide +kernel
theorem d_L_law_300 : decode code 300 = .ok (.iconst 0, 1) := by decide +kernel
theorem d_L_law_301 : decode code 301 = .ok (.ireturn, 1) := by decide +kernel
theorem d_L_law_302 : decode code 302 = .ok (.aload_n 1, 1) := by decide +kernel
theorem d_L_law_303 : decode code 303 = .ok (.aload_n 0, 1) := by decide +kernel
theorem d_L_law_304 : decode code 304 = .ok (.iload_n 3, 1) := by decide +kernel
theorem d_L_law_305 : decode code 305 = .ok (.iconst 1, 1) := by decide +kernel
theorem d_L_law_306 : decode code 306 = .ok (.iadd, 1) := by decide +kernel
theorem d_L_law_307 : decode code 307 = .ok (.iaload, 1) := by decide +kernel
theorem d_L_law_308 : decode code 308 = .ok (.invokevirtual 65, 3) := by decide +kernel
theorem d_L_law_311 : decode code 311 = .ok (.aload_n 2, 1) := by decide +kernel
theorem d_L_law_312 : decode code 312 = .ok (.aload_n 0, 1) := by decide +kernel
theorem d_L_law_313 : decode code 313 = .ok (.iload_n 3, 1) := by decide +kernel
theorem d_L_law_314 : decode code 314 = .ok (.iconst 1, 1) := by decide +kernel
theorem d_L_law_315 : decode code 315 = .ok (.iadd, 1) := by decide +kernel
theorem d_L_law_316 : decode code 316 = .ok (.iaload, 1) := by decide +kernel
theorem d_L_law_317 : decode code 317 = .ok (.invokevirtual 68, 3) := by decide +kernel
theorem d_L_law_320 : decode code 320 = .ok (.if_icmp .eq 74, 3) := by decide +kernel
theorem d_L_law_323 : decode code 323 = .ok (.iconst 0, 1) := by decide +kernel
theorem d_L_law_324 : decode code 324 = .ok (.ireturn, 1) := by decide +kernel
theorem d_L_law_325 : decode code 325 = .ok (.aload_n 1, 1) := by decide +kernel
theorem d_L_law_326 : decode code 326 = .ok (.aload_n 0, 1) := by decide +kernel
theorem d_L_law_327 : decode code 327 = .ok (.iload_n 3, 1) := by decide +kernel
theorem d_L_law_328 : decode code 328 = .ok (.iconst 1, 1) := by decide +kernel
theorem d_L_law_329 : decode code 329 = .ok (.iadd, 1) := by decide +kernel
theorem d_L_law_330 : decode code 330 = .ok (.iaload, 1) := by decide +kernel
theorem d_L_law_331 : decode code 331 = .ok (.invokevirtual 69, 3) := by decide +kernel
theorem d_L_law_334 : decode code 334 = .ok (.aload_n 2, 1) := by decide +kernel
theorem d_L_law_335 : decode code 335 = .ok (.aload_n 0, 1) := by decide +kernel
theorem d_L_law_336 : decode code 336 = .ok (.iload_n 3, 1) := by decide +kernel
theorem d_L_law_337 : decode code 337 = .ok (.iconst 1, 1) := by decide +kernel
theorem d_L_law_338 : decode code 338 = .ok (.iadd, 1) := by decide +kernel
theorem d_L_law_339 : decode code 339 = .ok (.iaload, 1) := by decide +kernel
theorem d_L_law_340 : decode code 340 = .ok (.invokevirtual 72, 3) := by decide +kernel
theorem d_L_law_343 : decode code 343 = .ok (.if_icmp .eq 51, 3) := by decide +kernel
theorem d_L_law_346 : decode code 346 = .ok (.iconst 0, 1) := by decide +kernel
theorem d_L_law_347 : decode code 347 = .ok (.ireturn, 1) := by decide +kernel
theorem d_L_law_348 : decode code 348 = .ok (.aload_n 1, 1) := by decide +kernel
theorem d_L_law_349 : decode code 349 = .ok (.aload_n 0, 1) := by decide +kernel
theorem d_L_law_350 : decode code 350 = .ok (.iload_n 3, 1) := by decide +kernel
theorem d_L_law_351 : decode code 351 = .ok (.iconst 1, 1) := by decide +kernel
theorem d_L_law_352 : decode code 352 = .ok (.iadd, 1) := by decide +kernel
theorem d_L_law_353 : decode code 353 = .ok (.iaload, 1) := by decide +kernel
theorem d_L_law_354 : decode code 354 = .ok (.invokevirtual 73, 3) := by decide +kernel
theorem d_L_law_357 : decode code 357 = .ok (.aload_n 2, 1) := by decide +kernel
theorem d_L_law_358 : decode code 358 = .ok (.aload_n 0, 1) := by decide +kernel
theorem d_L_law_359 : decode code 359 = .ok (.iload_n 3, 1) := by decide +kernel
theorem d_L_law_360 : decode code 360 = .ok (.iconst 1, 1) := by decide +kernel
theorem d_L_law_361 : decode code 361 = .ok (.iadd, 1) := by decide +kernel
theorem d_L_law_362 : decode code 362 = .ok (.iaload, 1) := by decide +kernel
theorem d_L_law_363 : decode code 363 = .ok (.invokevirtual 76, 3) := by decide +kernel
theorem d_L_law_366 : decode code 366 = .ok (.if_icmp .eq 28, 3) := by decide +kernel
theorem d_L_law_369 : decode code 369 = .ok (.iconst 0, 1) := by decide +kernel
theorem d_L_law_370 : decode code 370 = .ok (.ireturn, 1) := by decide +kernel
theorem d_L_law_371 : decode code 371 = .ok (.aload_n 1, 1) := by decide +kernel
theorem d_L_law_372 : decode code 372 = .ok (.aload_n 0, 1) := by decide +kernel
theorem d_L_law_373 : decode code 373 = .ok (.iload_n 3, 1) := by decide +kernel
theorem d_L_law_374 : decode code 374 = .ok (.iconst 1, 1) := by decide +kernel
theorem d_L_law_375 : decode code 375 = .ok (.iadd, 1) := by decide +kernel
theorem d_L_law_376 : decode code 376 = .ok (.iaload, 1) := by decide +kernel
theorem d_L_law_377 : decode code 377 = .ok (.invokevirtual 77, 3) := by decide +kernel
theorem d_L_law_380 : decode code 380 = .ok (.aload_n 2, 1) := by decide +kernel
theorem d_L_law_381 : decode code 381 = .ok (.aload_n 0, 1) := by decide +kernel
theorem d_L_law_382 : decode code 382 = .ok (.iload_n 3, 1) := by decide +kernel
theorem d_L_law_383 : decode code 383 = .ok (.iconst 1, 1) := by decide +kernel
theorem d_L_law_384 : decode code 384 = .ok (.iadd, 1) := by decide +kernel
theorem d_L_law_385 : decode code 385 = .ok (.iaload, 1) := by decide +kernel
theorem d_L_law_386 : decode code 386 = .ok (.invokevirtual 80, 3) := by decide +kernel
theorem d_L_law_389 : decode code 389 = .ok (.if_icmp .eq 5, 3) := by decide +kernel
theorem d_L_law_392 : decode code 392 = .ok (.iconst 0, 1) := by decide +kernel
theorem d_L_law_393 : decode code 393 = .ok (.ireturn, 1) := by decide +kernel
theorem d_L_law_394 : decode code 394 = .ok (.iinc 3 3, 3) := by decide +kernel
theorem d_L_law_397 : decode code 397 = .ok (.goto (-359), 3) := by decide +kernel
theorem d_L_law_400 : decode code 400 = .ok (.iconst 1, 1) := by decide +kernel
theorem d_L_law_401 : decode code 401 = .ok (.ireturn, 1) := by decide +kernel
end
section
-- ===== the pure picture: what the two classes hold, and what their methods do to it =====
/-- a row of naturals as a row of ints -/
def nF (f : Nat → Nat) : Nat → Int32 := fun i => nI (f i)
def upN (f : Nat → Nat) (k v : Nat) : Nat → Nat := fun i => if i = k then v else f i
theorem upN_s (f : Nat → Nat) (k v : Nat) : upN f k v k = v := by simp [upN]
theorem upN_n {f : Nat → Nat} {k v i : Nat} (h : i ≠ k) : upN f k v i = f i := by simp [upN, h]
theorem upN_id (f : Nat → Nat) (k : Nat) : upN f k (f k) = f := by
  funext i; simp only [upN]; split
  · next h => rw [h]
  · rfl
theorem nF_up (f : Nat → Nat) (k v : Nat) : upd (nF f) k (nI v) = nF (upN f k v) := by
  funext i; simp only [upd, nF, upN]; split <;> rfl
/-- the token: a station, or none -/
def tv : Option Nat → Int32 | none => -1 | some k => nI k
def bv : Bool → Int32 | false => 0 | true => 1
/-- an argument p as a station of N -/
def ixR (N : Nat) (p : Int32) : Option Nat → Prop | none => p < 0 ∨ nI N ≤ p | some j => p = nI j ∧ j < N
theorem ixR_ex {N : Nat} (hN : N < 2 ^ 31) (p : Int32) : ∃ a, ixR N p a := by
  rcases pk_ix p hN with h | h | ⟨j, hj, e⟩
  · exact ⟨none, Or.inl h⟩
  · exact ⟨none, Or.inr h⟩
  · exact ⟨some j, e, hj⟩
def bl (N j : Nat) : Nat := if j = 0 then N - 1 else j - 1
theorem bl_lt {N j : Nat} (hN : 2 ≤ N) (hj : j < N) : bl N j < N := by simp only [bl]; split <;> omega
/-- down the ring from j, at most f steps, to where P holds -/
def wk (N : Nat) (P : Nat → Bool) : Nat → Nat → Nat
  | 0, j => j
  | f + 1, j => if P j = true then j else wk N P f (bl N j)
theorem wk_lt {N : Nat} {P : Nat → Bool} (hN : 2 ≤ N) : ∀ f j, j < N → wk N P f j < N := by
  intro f
  induction f with
  | zero => intro j h; exact h
  | succ f ih =>
    intro j h
    simp only [wk]
    split
    · exact h
    · exact ih _ (bl_lt hN h)
theorem wk_at {N : Nat} {P : Nat → Bool} {f j : Nat} (h : P j = true) : wk N P f j = j := by
  cases f with
  | zero => rfl
  | succ f => simp [wk, h]
theorem wk_step {N : Nat} {P : Nat → Bool} {f j : Nat} (h : ¬ P j = true) : wk N P (f + 1) j = wk N P f (bl N j) := by simp [wk, h]
theorem wk_ok {N : Nat} {P : Nat → Bool} (hN : 2 ≤ N) {k : Nat} (hk : k < N) (hP : P k = true) : ∀ d j f, j < N → (if k ≤ j then j - k else j + N - k) = d → d ≤ f → P (wk N P f j) = true := by
  intro d
  induction d with
  | zero =>
    intro j f hj hd hf
    have e : j = k := by
      split at hd <;> omega
    rw [e, wk_at hP]; exact hP
  | succ d ih =>
    intro j f hj hd hf
    by_cases hPj : P j = true
    · rw [wk_at hPj]; exact hPj
    · obtain ⟨f', rfl⟩ : ∃ f', f = f' + 1 := ⟨f - 1, by omega⟩
      rw [wk_step hPj]
      have hne : j ≠ k := fun q => hPj (q ▸ hP)
      refine ih _ _ (bl_lt hN hj) ?_ (by omega)
      simp only [bl]
      split at hd <;> split <;> split <;> omega
theorem wk_16 {N : Nat} {P : Nat → Bool} (hN : 2 ≤ N ∧ N ≤ 16) {k j : Nat} (hk : k < N) (hP : P k = true) (hj : j < N) : P (wk N P 16 j) = true := by
  refine wk_ok hN.1 hk hP _ j 16 hj rfl ?_
  split <;> omega
/-- the highest place below n where P holds -/
def hg (P : Nat → Bool) : Nat → Option Nat
  | 0 => none
  | n + 1 => if P n = true then some n else hg P n
theorem hg_y {P : Nat → Bool} {n : Nat} (h : P n = true) : hg P (n + 1) = some n := by simp [hg, h]
theorem hg_n {P : Nat → Bool} {n : Nat} (h : ¬ P n = true) : hg P (n + 1) = hg P n := by simp [hg, h]
theorem hg_ok {P : Nat → Bool} : ∀ n k, hg P n = some k → k < n ∧ P k = true := by
  intro n
  induction n with
  | zero => intro k h; simp [hg] at h
  | succ n ih =>
    intro k h
    by_cases hP : P n = true
    · rw [hg_y hP] at h; cases h; exact ⟨by omega, hP⟩
    · rw [hg_n hP] at h
      exact ⟨by have := (ih k h).1; omega, (ih k h).2⟩
/-- rows cleared up to k -/
def zr (k : Nat) (f : Nat → Nat) : Nat → Nat := fun i => if i < k then 0 else f i
def zrI (k : Nat) (f : Nat → Int32) : Nat → Int32 := fun i => if i < k then nI 0 else f i
theorem zr_0 (f : Nat → Nat) : zr 0 f = f := by funext i; simp [zr]
theorem zrI_0 (f : Nat → Int32) : zrI 0 f = f := by funext i; simp [zrI]
theorem zr_s (k : Nat) (f : Nat → Nat) : upN (zr k f) k 0 = zr (k + 1) f := by
  funext i; simp only [upN, zr]
  by_cases h : i = k
  · simp [h]
  · by_cases h2 : i < k
    · rw [if_neg h, if_pos h2, if_pos (by omega)]
    · rw [if_neg h, if_neg h2, if_neg (by omega)]
theorem zrI_s (k : Nat) (f : Nat → Int32) : upd (zrI k f) k (nI 0) = zrI (k + 1) f := by
  funext i; simp only [upd, zrI]
  by_cases h : i = k
  · simp [h]
  · by_cases h2 : i < k
    · rw [if_neg h, if_pos h2, if_pos (by omega)]
    · rw [if_neg h, if_neg h2, if_neg (by omega)]
/-- who received: all below n but k that are on -/
def rcv (n k : Nat) (st : Nat → Nat) (rc : Nat → Int32) : Nat → Int32 := fun i => if i < n ∧ i ≠ k ∧ st i ≠ 0 then rc i + nI 1 else rc i
theorem rcv_0 (k : Nat) (st : Nat → Nat) (rc : Nat → Int32) : rcv 0 k st rc = rc := by funext i; simp [rcv]
theorem rcv_at (n k : Nat) (st : Nat → Nat) (rc : Nat → Int32) : rcv n k st rc n = rc n := by simp [rcv]
theorem rcv_n {n k : Nat} {st : Nat → Nat} {rc : Nat → Int32} (h : n = k ∨ st n = 0) : rcv n k st rc = rcv (n + 1) k st rc := by
  funext i; simp only [rcv]
  by_cases h2 : i = n
  · subst h2
    rw [if_neg (by omega), if_neg (by omega)]
  · by_cases h3 : i < n ∧ i ≠ k ∧ st i ≠ 0
    · rw [if_pos h3, if_pos (by omega)]
    · rw [if_neg h3, if_neg (by omega)]
theorem rcv_y {n k : Nat} {st : Nat → Nat} {rc : Nat → Int32} (h : n ≠ k) (h1 : st n ≠ 0) : upd (rcv n k st rc) n (rc n + nI 1) = rcv (n + 1) k st rc := by
  funext i; simp only [upd, rcv]
  by_cases h2 : i = n
  · subst h2
    rw [if_pos rfl, if_pos ⟨by omega, h, h1⟩]
  · rw [if_neg h2]
    by_cases h3 : i < n ∧ i ≠ k ∧ st i ≠ 0
    · rw [if_pos h3, if_pos (by omega)]
    · rw [if_neg h3, if_neg (by omega)]
theorem rcv_w {n k : Nat} {st : Nat → Nat} {rc : Nat → Int32} (h : n = k ∨ st n = 0) : upd (rcv n k st rc) n (rc n) = rcv (n + 1) k st rc := by
  rw [← rcv_n h]
  funext i; simp only [upd]
  split
  · next q => rw [q, rcv_at]
  · rfl
/-- the reference's frames moved down by one, c of them -/
def sh (k c : Nat) (fr : Nat → Int32) : Nat → Int32 := fun i => if 8 * k ≤ i ∧ i < 8 * k + c then fr (i + 1) else fr i
theorem sh_0 (k : Nat) (fr : Nat → Int32) : sh k 0 fr = fr := by
  funext i; simp only [sh]; rw [if_neg (by omega)]
theorem sh_at (k c : Nat) (fr : Nat → Int32) : sh k c fr (8 * k + c + 1) = fr (8 * k + c + 1) := by
  simp only [sh]; rw [if_neg (by omega)]
theorem sh_s (k c : Nat) (fr : Nat → Int32) : upd (sh k c fr) (8 * k + c) (fr (8 * k + c + 1)) = sh k (c + 1) fr := by
  funext i; simp only [upd, sh]
  by_cases h : i = 8 * k + c
  · subst h
    rw [if_pos rfl, if_pos (by omega)]
  · rw [if_neg h]
    by_cases h2 : 8 * k ≤ i ∧ i < 8 * k + c
    · rw [if_pos h2, if_pos (by omega)]
    · rw [if_neg h2, if_neg (by omega)]
/-- the links to k put to r: of members below n; of all below n -/
def lvX (n k r : Nat) (st f : Nat → Nat) : Nat → Nat := fun i => if i < n ∧ st i = 3 ∧ f i = k then r else f i
def lvM (n k r : Nat) (f : Nat → Nat) : Nat → Nat := fun i => if i < n ∧ f i = k then r else f i
theorem lvX_0 (k r : Nat) (st f : Nat → Nat) : lvX 0 k r st f = f := by funext i; simp [lvX]
theorem lvM_0 (k r : Nat) (f : Nat → Nat) : lvM 0 k r f = f := by funext i; simp [lvM]
theorem lvX_at (n k r : Nat) (st f : Nat → Nat) : lvX n k r st f n = f n := by simp [lvX]
theorem lvM_at (n k r : Nat) (f : Nat → Nat) : lvM n k r f n = f n := by simp [lvM]
theorem lvX_n {n k r : Nat} {st f : Nat → Nat} (h : st n ≠ 3 ∨ f n ≠ k) : lvX n k r st f = lvX (n + 1) k r st f := by
  funext i; simp only [lvX]
  by_cases h2 : i = n
  · subst h2
    rw [if_neg (by omega), if_neg (by omega)]
  · by_cases h3 : i < n ∧ st i = 3 ∧ f i = k
    · rw [if_pos h3, if_pos (by omega)]
    · rw [if_neg h3, if_neg (by omega)]
theorem lvX_y {n k r : Nat} {st f : Nat → Nat} (h : st n = 3) (h1 : f n = k) : upN (lvX n k r st f) n r = lvX (n + 1) k r st f := by
  funext i; simp only [upN, lvX]
  by_cases h2 : i = n
  · subst h2
    rw [if_pos rfl, if_pos ⟨by omega, h, h1⟩]
  · rw [if_neg h2]
    by_cases h3 : i < n ∧ st i = 3 ∧ f i = k
    · rw [if_pos h3, if_pos (by omega)]
    · rw [if_neg h3, if_neg (by omega)]
theorem lvM_y {n k r : Nat} {f : Nat → Nat} (h1 : f n = k) : upN (lvM n k r f) n r = lvM (n + 1) k r f := by
  funext i; simp only [upN, lvM]
  by_cases h2 : i = n
  · subst h2
    rw [if_pos rfl, if_pos ⟨by omega, h1⟩]
  · rw [if_neg h2]
    by_cases h3 : i < n ∧ f i = k
    · rw [if_pos h3, if_pos (by omega)]
    · rw [if_neg h3, if_neg (by omega)]
theorem lvM_n {n k r : Nat} {f : Nat → Nat} (h1 : f n ≠ k) : upN (lvM n k r f) n (f n) = lvM (n + 1) k r f := by
  funext i; simp only [upN, lvM]
  by_cases h2 : i = n
  · subst h2
    rw [if_pos rfl, if_neg (by omega)]
  · rw [if_neg h2]
    by_cases h3 : i < n ∧ f i = k
    · rw [if_pos h3, if_pos (by omega)]
    · rw [if_neg h3, if_neg (by omega)]
theorem lvX_lt {N k r : Nat} {st f : Nat → Nat} (n : Nat) (hf : ∀ j, f j < N) (hr : r < N) (j : Nat) : lvX n k r st f j < N := by
  simp only [lvX]; split
  · exact hr
  · exact hf j
theorem lvM_lt {N k r : Nat} {f : Nat → Nat} (n : Nat) (hf : ∀ j, f j < N) (hr : r < N) (j : Nat) : lvM n k r f j < N := by
  simp only [lvM]; split
  · exact hr
  · exact hf j
theorem upN_lt {N k r : Nat} {f : Nat → Nat} (hf : ∀ j, f j < N) (hr : r < N) (j : Nat) : upN f k r j < N := by
  simp only [upN]; split
  · exact hr
  · exact hf j
theorem upN_le {N k r : Nat} {f : Nat → Nat} (hf : ∀ j, f j ≤ N) (hr : r ≤ N) (j : Nat) : upN f k r j ≤ N := by
  simp only [upN]; split
  · exact hr
  · exact hf j
theorem zr_le {N n : Nat} {f : Nat → Nat} (hf : ∀ j, f j ≤ N) (j : Nat) : zr n f j ≤ N := by
  simp only [zr]; split
  · omega
  · exact hf j
-- states: X (state, next, frames, first, many, received, token, isUsed); M the same without first
abbrev SX : Type := (Nat → Nat) × (Nat → Nat) × (Nat → Int32) × (Nat → Nat) × (Nat → Nat) × (Nat → Int32) × Option Nat × Bool
abbrev SM : Type := (Nat → Nat) × (Nat → Nat) × (Nat → Int32) × (Nat → Nat) × (Nat → Int32) × Option Nat × Bool
def oI : Option Nat → Int32 | none => nI 0 | some _ => nI 1
def onV (st : Nat → Nat) : Option Nat → Int32 | none => nI 0 | some j => if st j = 0 then nI 0 else nI 1
abbrev mem (st : Nat → Nat) : Nat → Bool := fun j => decide (st j = 3)
abbrev sol (k nk : Nat) (st : Nat → Nat) : Nat → Bool := fun j => decide (j = k ∨ j = nk ∨ st j = 2)
abbrev geq (L : Nat) (st : Nat → Nat) : Nat → Bool := fun j => decide (L ≤ st j)
abbrev onB (st : Nat → Nat) : Nat → Bool := fun j => decide (st j ≠ 0)
section PureOps
variable (N C : Nat) (st nx : Nat → Nat) (fr : Nat → Int32) (fi mn : Nat → Nat) (rc : Nat → Int32) (tk : Option Nat) (us : Bool)
def X_powerOn (a : Option Nat) : Int32 × SX := match a with
  | none => (nI 0, st, nx, fr, fi, mn, rc, tk, us)
  | some j => if st j = 0 then (nI 1, upN st j 2, nx, fr, fi, mn, rc, tk, us) else (nI 0, st, nx, fr, fi, mn, rc, tk, us)
def M_powerOn (a : Option Nat) : Int32 × SM := match a with
  | none => (nI 0, st, nx, fr, mn, rc, tk, us)
  | some j => if st j = 0 then (nI 1, upN st j 2, nx, fr, mn, rc, tk, us) else (nI 0, st, nx, fr, mn, rc, tk, us)
def X_powerOff (a : Option Nat) : Int32 × SX := match a with
  | none => (nI 0, st, nx, fr, fi, mn, rc, tk, us)
  | some j => if st j = 0 then (nI 0, st, nx, fr, fi, mn, rc, tk, us) else (nI 1, upN st j 0, nx, fr, fi, upN mn j 0, rc, if tk = some j then none else tk, us)
def M_powerOff (a : Option Nat) : Int32 × SM := match a with
  | none => (nI 0, st, nx, fr, mn, rc, tk, us)
  | some j => if st j = 0 then (nI 0, st, nx, fr, mn, rc, tk, us) else (nI 1, upN st j 0, nx, fr, upN mn j 0, rc, if tk = some j then none else tk, us)
def X_queue (a : Option Nat) (w : Int32) : Int32 × SX := match a with
  | none => (nI 1, st, nx, fr, fi, mn, rc, tk, us)
  | some j => if st j = 0 then (nI 1, st, nx, fr, fi, mn, rc, tk, us) else if mn j = C then (nI 2, st, nx, fr, fi, mn, rc, tk, us)
    else (nI 0, st, nx, upd fr (8 * j + (fi j + mn j) % 8) w, fi, upN mn j (mn j + 1), rc, tk, us)
def M_queue (a : Option Nat) (w : Int32) : Int32 × SM := match a with
  | none => (nI 1, st, nx, fr, mn, rc, tk, us)
  | some j => if st j = 0 then (nI 1, st, nx, fr, mn, rc, tk, us) else if mn j = C then (nI 2, st, nx, fr, mn, rc, tk, us)
    else (nI 0, st, nx, upd fr (8 * j + mn j) w, upN mn j (mn j + 1), rc, tk, us)
def X_useToken : Int32 × SX := match tk with
  | none => (-1, st, nx, fr, fi, mn, rc, none, us)
  | some k => if us = true then (-1, st, nx, fr, fi, mn, rc, some k, us) else if mn k = 0 then (-1, st, nx, fr, fi, mn, rc, some k, us)
    else (fr (8 * k + fi k), st, nx, fr, upN fi k ((fi k + 1) % 8), upN mn k (mn k - 1), rcv N k st rc, some k, true)
def M_useToken : Int32 × SM := match tk with
  | none => (-1, st, nx, fr, mn, rc, none, us)
  | some k => if us = true then (-1, st, nx, fr, mn, rc, some k, us) else if mn k = 0 then (-1, st, nx, fr, mn, rc, some k, us)
    else (fr (8 * k), st, nx, sh k (mn k - 1) fr, upN mn k (mn k - 1), rcv N k st rc, some k, true)
/-- where the token of k goes -/
def gw (k : Nat) : Nat := wk N (mem st) 16 (nx k)
def X_passToken : Int32 × SX := match tk with
  | none => (-1, st, nx, fr, fi, mn, rc, none, us)
  | some k => (nI (gw N st nx k), st, upN nx k (gw N st nx k), fr, fi, mn, rc, some (gw N st nx k), false)
def M_passToken : Int32 × SM := match tk with
  | none => (-1, st, nx, fr, mn, rc, none, us)
  | some k => (nI (gw N st nx k), st, upN nx k (gw N st nx k), fr, mn, rc, some (gw N st nx k), false)
/-- whom the holder k finds -/
def sw (k : Nat) : Nat := wk N (sol k (nx k) st) 16 (bl N k)
def X_solicit : Int32 × SX := match tk with
  | none => (-1, st, nx, fr, fi, mn, rc, none, us)
  | some k => if sw N st nx k = k ∨ sw N st nx k = nx k then (-1, st, nx, fr, fi, mn, rc, some k, us)
    else (nI (sw N st nx k), upN st (sw N st nx k) 3, upN (upN nx (sw N st nx k) (nx k)) k (sw N st nx k), fr, fi, mn, rc, some k, us)
def M_solicit : Int32 × SM := match tk with
  | none => (-1, st, nx, fr, mn, rc, none, us)
  | some k => if sw N st nx k = k ∨ sw N st nx k = nx k then (-1, st, nx, fr, mn, rc, some k, us)
    else (nI (sw N st nx k), upN st (sw N st nx k) 3, upN (upN nx (sw N st nx k) (nx k)) k (sw N st nx k), fr, mn, rc, some k, us)
def X_leave (a : Option Nat) : Int32 × SX := match tk with
  | none => (nI 1, st, nx, fr, fi, mn, rc, none, us)
  | some k => if a = some k then
      (if gw N st nx k = k then (nI 0, upN st k 1, lvX N k (gw N st nx k) st (upN nx k (gw N st nx k)), fr, fi, mn, rc, none, us)
       else (nI 0, upN st k 1, lvX N k (gw N st nx k) st (upN nx k (gw N st nx k)), fr, fi, mn, rc, some (gw N st nx k), false))
    else (nI 1, st, nx, fr, fi, mn, rc, some k, us)
def M_leave (a : Option Nat) : Int32 × SM := match tk with
  | none => (nI 1, st, nx, fr, mn, rc, none, us)
  | some k => if a = some k then
      (if gw N st nx k = k then (nI 0, upN st k 1, lvM N k (gw N st nx k) (upN nx k (gw N st nx k)), fr, mn, rc, none, false)
       else (nI 0, upN st k 1, lvM N k (gw N st nx k) (upN nx k (gw N st nx k)), fr, mn, rc, some (gw N st nx k), false))
    else (nI 1, st, nx, fr, mn, rc, some k, us)
def X_silence : Int32 × SX := match tk with
  | some k => (-1, st, nx, fr, fi, mn, rc, some k, us)
  | none => match hg (geq 3 st) N with
    | some r => (nI r, st, nx, fr, fi, mn, rc, some r, false)
    | none => match hg (geq 1 st) N with
      | some r => (nI r, upN st r 3, upN nx r r, fr, fi, mn, rc, some r, false)
      | none => (-1, st, nx, fr, fi, mn, rc, none, us)
def M_silence : Int32 × SM := match tk with
  | some k => (-1, st, nx, fr, mn, rc, some k, us)
  | none => match hg (mem st) N with
    | some r => (nI r, st, nx, fr, mn, rc, some r, false)
    | none => match hg (onB st) N with
      | some r => (nI r, upN st r 3, upN nx r r, fr, mn, rc, some r, false)
      | none => (-1, st, nx, fr, mn, rc, none, false)
def q_successor (a : Option Nat) : Int32 := match a with
  | none => -1
  | some j => if st j = 3 then nI (nx j) else -1
def q_received (a : Option Nat) : Int32 := match a with
  | none => nI 0
  | some j => rc j
def q_state (a : Option Nat) : Int32 := match a with
  | none => -1
  | some j => nI (st j)
def q_waiting (a : Option Nat) : Int32 := match a with
  | none => nI 0
  | some j => nI (mn j)
end PureOps
end
section
-- ===== the pure law: the two pictures stay related, and answer alike =====
def Rel (N C : Nat) (x : SX) (y : SM) : Prop := match x, y with
  | (st, nx, fr, fi, mn, rc, tk, us), (st', nx', fr', mn', rc', tk', us') =>
    (2 ≤ N ∧ N ≤ 16) ∧ (1 ≤ C ∧ C ≤ 8) ∧ (st' = st ∧ mn' = mn ∧ rc' = rc ∧ tk' = tk) ∧ (∀ j, st j ≤ 3) ∧ (∀ j, nx j < N) ∧ (∀ j, nx' j < N) ∧ (∀ j, fi j < 8) ∧ (∀ j, mn j ≤ C) ∧
    (∀ k, tk = some k → k < N ∧ st k = 3 ∧ us' = us) ∧ (∀ j, st j = 3 → nx' j = nx j) ∧ (∀ j i, i < mn j → fr (8 * j + (fi j + i) % 8) = fr' (8 * j + i))
section PureLaw
variable {N C : Nat} {st nx nx' : Nat → Nat} {fr fr' : Nat → Int32} {fi mn : Nat → Nat} {rc : Nat → Int32} {tk : Option Nat} {us us' : Bool}
theorem r_powerOn (h : Rel N C (st, nx, fr, fi, mn, rc, tk, us) (st, nx', fr', mn, rc, tk, us')) (a : Option Nat) :
    (X_powerOn st nx fr fi mn rc tk us a).1 = (M_powerOn st nx' fr' mn rc tk us' a).1 ∧ Rel N C (X_powerOn st nx fr fi mn rc tk us a).2 (M_powerOn st nx' fr' mn rc tk us' a).2 := by
  cases a with
  | none => exact ⟨rfl, h⟩
  | some j =>
    by_cases h0 : st j = 0
    · simp only [X_powerOn, M_powerOn, if_pos h0]
      obtain ⟨hN, hC, hE, hst, hnx, hnx', hfi, hmn, htk, hag, hfr⟩ := h
      refine ⟨trivial, hN, hC, ⟨rfl, rfl, rfl, rfl⟩, upN_le hst (by omega), hnx, hnx', hfi, hmn, ?_, ?_, hfr⟩
      · intro k hk
        obtain ⟨h1, h2, h3⟩ := htk k hk
        exact ⟨h1, by rw [upN_n (fun q => by rw [q] at h2; omega)]; exact h2, h3⟩
      · intro i hi
        by_cases q : i = j
        · subst q; rw [upN_s] at hi; omega
        · rw [upN_n q] at hi; exact hag i hi
    · simp only [X_powerOn, M_powerOn, if_neg h0]
      exact ⟨trivial, h⟩
theorem r_powerOff (h : Rel N C (st, nx, fr, fi, mn, rc, tk, us) (st, nx', fr', mn, rc, tk, us')) (a : Option Nat) :
    (X_powerOff st nx fr fi mn rc tk us a).1 = (M_powerOff st nx' fr' mn rc tk us' a).1 ∧ Rel N C (X_powerOff st nx fr fi mn rc tk us a).2 (M_powerOff st nx' fr' mn rc tk us' a).2 := by
  cases a with
  | none => exact ⟨rfl, h⟩
  | some j =>
    by_cases h0 : st j = 0
    · simp only [X_powerOff, M_powerOff, if_pos h0]
      exact ⟨trivial, h⟩
    · simp only [X_powerOff, M_powerOff, if_neg h0]
      obtain ⟨hN, hC, hE, hst, hnx, hnx', hfi, hmn, htk, hag, hfr⟩ := h
      refine ⟨trivial, hN, hC, ⟨rfl, rfl, rfl, rfl⟩, upN_le hst (by omega), hnx, hnx', hfi, upN_le hmn (by omega), ?_, ?_, ?_⟩
      · intro k hk
        by_cases q : tk = some j
        · rw [if_pos q] at hk; cases hk
        · rw [if_neg q] at hk
          obtain ⟨h1, h2, h3⟩ := htk k hk
          exact ⟨h1, by rw [upN_n (fun z => q (by rw [hk, z]))]; exact h2, h3⟩
      · intro i hi
        by_cases q : i = j
        · subst q; rw [upN_s] at hi; omega
        · rw [upN_n q] at hi; exact hag i hi
      · intro q i hi
        by_cases z : q = j
        · subst z; rw [upN_s] at hi; omega
        · rw [upN_n z] at hi; exact hfr q i hi
theorem r_queue (h : Rel N C (st, nx, fr, fi, mn, rc, tk, us) (st, nx', fr', mn, rc, tk, us')) (a : Option Nat) (w : Int32) :
    (X_queue C st nx fr fi mn rc tk us a w).1 = (M_queue C st nx' fr' mn rc tk us' a w).1 ∧ Rel N C (X_queue C st nx fr fi mn rc tk us a w).2 (M_queue C st nx' fr' mn rc tk us' a w).2 := by
  cases a with
  | none => exact ⟨rfl, h⟩
  | some j =>
    by_cases h0 : st j = 0
    · simp only [X_queue, M_queue, if_pos h0]
      exact ⟨trivial, h⟩
    · simp only [X_queue, M_queue, if_neg h0]
      by_cases h1 : mn j = C
      · simp only [if_pos h1]
        exact ⟨trivial, h⟩
      · simp only [if_neg h1]
        obtain ⟨hN, hC, hE, hst, hnx, hnx', hfi, hmn, htk, hag, hfr⟩ := h
        have hmj := hmn j
        have hfj := hfi j
        refine ⟨trivial, hN, hC, ⟨rfl, rfl, rfl, rfl⟩, hst, hnx, hnx', hfi, upN_le hmn (by omega), htk, hag, ?_⟩
        intro q i hi
        by_cases z : q = j
        · subst z
          rw [upN_s] at hi
          by_cases z2 : i = mn q
          · subst z2; rw [pk_us, pk_us]
          · rw [pk_un (by omega), pk_un (by omega)]
            exact hfr q i (by omega)
        · rw [upN_n z] at hi
          have := hmn q
          rw [pk_un (by omega), pk_un (by omega)]
          exact hfr q i hi
theorem r_useToken (h : Rel N C (st, nx, fr, fi, mn, rc, tk, us) (st, nx', fr', mn, rc, tk, us')) :
    (X_useToken N st nx fr fi mn rc tk us).1 = (M_useToken N st nx' fr' mn rc tk us').1 ∧ Rel N C (X_useToken N st nx fr fi mn rc tk us).2 (M_useToken N st nx' fr' mn rc tk us').2 := by
  cases tk with
  | none => exact ⟨rfl, h⟩
  | some k =>
    obtain ⟨hN, hC, hE, hst, hnx, hnx', hfi, hmn, htk, hag, hfr⟩ := id h
    obtain ⟨hk, h3, e⟩ := htk k rfl
    subst e
    by_cases h0 : us' = true
    · simp only [X_useToken, M_useToken, if_pos h0]
      exact ⟨trivial, h⟩
    · simp only [X_useToken, M_useToken, if_neg h0]
      by_cases h1 : mn k = 0
      · simp only [if_pos h1]
        exact ⟨trivial, h⟩
      · simp only [if_neg h1]
        have hfk := hfi k
        have hmk := hmn k
        refine ⟨?_, hN, hC, ⟨rfl, rfl, rfl, rfl⟩, hst, hnx, hnx', ?_, upN_le hmn (by omega), ?_, hag, ?_⟩
        · have := hfr k 0 (by omega)
          rw [show (fi k + 0) % 8 = fi k by omega] at this
          exact this
        · intro j; simp only [upN]; split
          · omega
          · exact hfi j
        · intro q hq; cases hq; exact ⟨hk, h3, rfl⟩
        · intro q i hi
          by_cases z : q = k
          · subst z
            rw [upN_s] at hi ⊢
            simp only [sh]
            rw [if_pos (by omega)]
            have := hfr q (i + 1) (by omega)
            rw [show 8 * q + i + 1 = 8 * q + (i + 1) by omega, ← this]
            congr 2
            omega
          · rw [upN_n z] at hi ⊢
            have := hmn q
            simp only [sh]
            rw [if_neg (by omega)]
            exact hfr q i hi
theorem gw_eq {k : Nat} (h : nx' k = nx k) : gw N st nx' k = gw N st nx k := by simp only [gw, h]
theorem gw_ok (hN : 2 ≤ N ∧ N ≤ 16) (hnx : ∀ j, nx j < N) {k : Nat} (hk : k < N) (h3 : st k = 3) : gw N st nx k < N ∧ st (gw N st nx k) = 3 := by
  refine ⟨wk_lt hN.1 _ _ (hnx k), ?_⟩
  have := wk_16 (P := mem st) hN hk (by simp [mem, h3]) (hnx k)
  simpa [mem, gw] using this
theorem r_passToken (h : Rel N C (st, nx, fr, fi, mn, rc, tk, us) (st, nx', fr', mn, rc, tk, us')) :
    (X_passToken N st nx fr fi mn rc tk us).1 = (M_passToken N st nx' fr' mn rc tk us').1 ∧ Rel N C (X_passToken N st nx fr fi mn rc tk us).2 (M_passToken N st nx' fr' mn rc tk us').2 := by
  cases tk with
  | none => exact ⟨rfl, h⟩
  | some k =>
    obtain ⟨hN, hC, hE, hst, hnx, hnx', hfi, hmn, htk, hag, hfr⟩ := id h
    obtain ⟨hk, h3, e⟩ := htk k rfl
    simp only [X_passToken, M_passToken]
    rw [gw_eq (hag k h3)]
    obtain ⟨hr, hr3⟩ := gw_ok hN hnx hk h3
    refine ⟨rfl, hN, hC, ⟨rfl, rfl, rfl, rfl⟩, hst, upN_lt hnx hr, upN_lt hnx' hr, hfi, hmn, ?_, ?_, hfr⟩
    · intro q hq; cases hq; exact ⟨hr, hr3, rfl⟩
    · intro j hj; simp only [upN]; split
      · rfl
      · exact hag j hj
theorem sw_eq {k : Nat} (h : nx' k = nx k) : sw N st nx' k = sw N st nx k := by simp only [sw, h]
theorem sw_ok (hN : 2 ≤ N ∧ N ≤ 16) {k : Nat} (hk : k < N) : sw N st nx k < N ∧ sol k (nx k) st (sw N st nx k) = true := by
  refine ⟨wk_lt hN.1 _ _ (bl_lt hN.1 hk), ?_⟩
  exact wk_16 (P := sol k (nx k) st) hN hk (by simp [sol]) (bl_lt hN.1 hk)
theorem r_solicit (h : Rel N C (st, nx, fr, fi, mn, rc, tk, us) (st, nx', fr', mn, rc, tk, us')) :
    (X_solicit N st nx fr fi mn rc tk us).1 = (M_solicit N st nx' fr' mn rc tk us').1 ∧ Rel N C (X_solicit N st nx fr fi mn rc tk us).2 (M_solicit N st nx' fr' mn rc tk us').2 := by
  cases tk with
  | none => exact ⟨rfl, h⟩
  | some k =>
    obtain ⟨hN, hC, hE, hst, hnx, hnx', hfi, hmn, htk, hag, hfr⟩ := id h
    obtain ⟨hk, h3, e⟩ := htk k rfl
    simp only [X_solicit, M_solicit]
    rw [sw_eq (hag k h3), hag k h3]
    obtain ⟨hr, -⟩ := sw_ok (st := st) (nx := nx) hN hk
    generalize sw N st nx k = r at hr ⊢
    by_cases h0 : r = k ∨ r = nx k
    · simp only [if_pos h0]
      exact ⟨trivial, h⟩
    · simp only [if_neg h0]
      refine ⟨trivial, hN, hC, ⟨rfl, rfl, rfl, rfl⟩, upN_le hst (by omega), upN_lt (upN_lt hnx (hnx k)) hr, upN_lt (upN_lt hnx' (hnx k)) hr, hfi, hmn, ?_, ?_, hfr⟩
      · intro q hq; cases hq
        exact ⟨hk, by rw [upN_n (fun z => h0 (Or.inl z.symm))]; exact h3, e⟩
      · intro j hj; simp only [upN] at hj ⊢
        by_cases z : j = k
        · rw [if_pos z, if_pos z]
        · rw [if_neg z, if_neg z]
          by_cases z2 : j = r
          · rw [if_pos z2, if_pos z2]
          · rw [if_neg z2] at hj
            rw [if_neg z2, if_neg z2]; exact hag j hj
theorem r_leave (h : Rel N C (st, nx, fr, fi, mn, rc, tk, us) (st, nx', fr', mn, rc, tk, us')) (a : Option Nat) :
    (X_leave N st nx fr fi mn rc tk us a).1 = (M_leave N st nx' fr' mn rc tk us' a).1 ∧ Rel N C (X_leave N st nx fr fi mn rc tk us a).2 (M_leave N st nx' fr' mn rc tk us' a).2 := by
  cases tk with
  | none => exact ⟨rfl, h⟩
  | some k =>
    obtain ⟨hN, hC, hE, hst, hnx, hnx', hfi, hmn, htk, hag, hfr⟩ := id h
    obtain ⟨hk, h3, e⟩ := htk k rfl
    simp only [X_leave, M_leave]
    rw [gw_eq (hag k h3)]
    obtain ⟨hr, hr3⟩ := gw_ok hN hnx hk h3
    generalize gw N st nx k = r at hr hr3 ⊢
    by_cases h0 : a = some k
    · simp only [if_pos h0]
      have hlinks : ∀ j, upN st k 1 j = 3 → lvM N k r (upN nx' k r) j = lvX N k r st (upN nx k r) j := by
        intro j hj
        have hjk : j ≠ k := fun q => by rw [q, upN_s] at hj; omega
        rw [upN_n hjk] at hj
        simp only [lvM, lvX, upN_n hjk, hag j hj, hj, true_and]
      by_cases h1 : r = k
      · simp only [if_pos h1]
        refine ⟨trivial, hN, hC, ⟨rfl, rfl, rfl, rfl⟩, upN_le hst (by omega), lvX_lt _ (upN_lt hnx hr) hr, lvM_lt _ (upN_lt hnx' hr) hr, hfi, hmn, ?_, hlinks, hfr⟩
        intro q hq; cases hq
      · simp only [if_neg h1]
        refine ⟨trivial, hN, hC, ⟨rfl, rfl, rfl, rfl⟩, upN_le hst (by omega), lvX_lt _ (upN_lt hnx hr) hr, lvM_lt _ (upN_lt hnx' hr) hr, hfi, hmn, ?_, hlinks, hfr⟩
        intro q hq; cases hq
        exact ⟨hr, by rw [upN_n h1]; exact hr3, rfl⟩
    · simp only [if_neg h0]
      exact ⟨trivial, h⟩
theorem r_silence (h : Rel N C (st, nx, fr, fi, mn, rc, tk, us) (st, nx', fr', mn, rc, tk, us')) :
    (X_silence N st nx fr fi mn rc tk us).1 = (M_silence N st nx' fr' mn rc tk us').1 ∧ Rel N C (X_silence N st nx fr fi mn rc tk us).2 (M_silence N st nx' fr' mn rc tk us').2 := by
  cases tk with
  | some k => exact ⟨rfl, h⟩
  | none =>
    obtain ⟨hN, hC, hE, hst, hnx, hnx', hfi, hmn, htk, hag, hfr⟩ := id h
    have e3 : geq 3 st = mem st := by
      funext j
      have := hst j
      simp only [geq, mem]
      exact decide_eq_decide.mpr (by omega)
    have e1 : geq 1 st = onB st := by
      funext j
      simp only [geq, onB]
      exact decide_eq_decide.mpr (by omega)
    simp only [X_silence, M_silence]
    rw [e3, e1]
    cases hm : hg (mem st) N with
    | some r =>
      obtain ⟨hr, hr3⟩ := hg_ok _ _ hm
      refine ⟨rfl, hN, hC, ⟨rfl, rfl, rfl, rfl⟩, hst, hnx, hnx', hfi, hmn, ?_, hag, hfr⟩
      intro q hq; cases hq
      exact ⟨hr, by simpa [mem] using hr3, rfl⟩
    | none =>
      cases ho : hg (onB st) N with
      | some r =>
        obtain ⟨hr, hr3⟩ := hg_ok _ _ ho
        refine ⟨rfl, hN, hC, ⟨rfl, rfl, rfl, rfl⟩, upN_le hst (by omega), upN_lt hnx hr, upN_lt hnx' hr, hfi, hmn, ?_, ?_, hfr⟩
        · intro q hq; cases hq
          exact ⟨hr, upN_s _ _ _, rfl⟩
        · intro j hj; simp only [upN] at hj ⊢
          by_cases z : j = r
          · rw [if_pos z, if_pos z]
          · rw [if_neg z] at hj
            rw [if_neg z, if_neg z]; exact hag j hj
      | none =>
        refine ⟨rfl, hN, hC, ⟨rfl, rfl, rfl, rfl⟩, hst, hnx, hnx', hfi, hmn, ?_, hag, hfr⟩
        intro q hq; cases hq
theorem r_init (h : Rel N C (st, nx, fr, fi, mn, rc, tk, us) (st, nx', fr', mn, rc, tk, us')) :
    Rel N C (zr 16 st, nx, fr, fi, zr 16 mn, zrI 16 rc, none, false) (zr 16 st, nx', fr', zr 16 mn, zrI 16 rc, none, false) := by
  obtain ⟨hN, hC, hE, hst, hnx, hnx', hfi, hmn, htk, hag, hfr⟩ := h
  refine ⟨hN, hC, ⟨rfl, rfl, rfl, rfl⟩, zr_le hst, hnx, hnx', hfi, zr_le hmn, ?_, ?_, ?_⟩
  · intro q hq; cases hq
  · intro j hj
    simp only [zr] at hj
    split at hj
    · omega
    · exact hag j hj
  · intro j i hi
    simp only [zr] at hi
    split at hi
    · omega
    · exact hfr j i hi
theorem r_successor (h : Rel N C (st, nx, fr, fi, mn, rc, tk, us) (st, nx', fr', mn, rc, tk, us')) (a : Option Nat) : q_successor st nx a = q_successor st nx' a := by
  obtain ⟨hN, hC, hE, hst, hnx, hnx', hfi, hmn, htk, hag, hfr⟩ := h
  cases a with
  | none => rfl
  | some j =>
    simp only [q_successor]
    by_cases h3 : st j = 3
    · rw [if_pos h3, if_pos h3, hag j h3]
    · rw [if_neg h3, if_neg h3]
/-- the start -/
theorem r_start (hN : 2 ≤ N ∧ N ≤ 16) (hC : 1 ≤ C ∧ C ≤ 8) : Rel N C (fun _ => 0, fun _ => 0, fun _ => nI 0, fun _ => 0, fun _ => 0, fun _ => nI 0, none, false) (fun _ => 0, fun _ => 0, fun _ => nI 0, fun _ => 0, fun _ => nI 0, none, false) := by
  have h0 : 0 < N := by omega
  refine ⟨hN, hC, ⟨rfl, rfl, rfl, rfl⟩, fun _ => Nat.zero_le _, fun _ => h0, fun _ => h0, fun _ => Nat.succ_pos _, fun _ => Nat.zero_le _, ?_, fun _ h => rfl, ?_⟩
  · intro q hq; cases hq
  · intro j i hi; exact absurd hi (Nat.not_lt_zero _)
theorem zr_c (k : Nat) : zr k (fun _ => 0) = fun _ => 0 := by funext i; simp [zr]
theorem zrI_c (k : Nat) : zrI k (fun _ => nI 0) = fun _ => nI 0 := by funext i; simp [zrI]
/-- the constructor's two numbers -/
def cN (p : Int32) : Nat := if p < 2 then 2 else if 16 < p then 16 else p.toNatClampNeg
def cC (p : Int32) : Nat := if p < 1 then 1 else if 8 < p then 8 else p.toNatClampNeg
end PureLaw
end
section
-- ===== rows in naturals, the worlds of the two classes, entry, return and call =====
/-- X's seven cells at h 0 .. h 6; M's six at g 0 .. g 5 -/
abbrev wX (cA : ClassId) (h : Nat → Nat) (N C : Nat) (x : SX) : va_W :=
  [(h 0, .inr (0, [.int (nI N), .int (nI C), .ref (h 1), .ref (h 2), .ref (h 3), .ref (h 4), .ref (h 5), .ref (h 6), .int (tv x.2.2.2.2.2.2.1), .int (bv x.2.2.2.2.2.2.2)])),
   (h 1, .inl (cA, 16, .inl (nF x.1))), (h 2, .inl (cA, 16, .inl (nF x.2.1))), (h 3, .inl (cA, 128, .inl x.2.2.1)), (h 4, .inl (cA, 16, .inl (nF x.2.2.2.1))), (h 5, .inl (cA, 16, .inl (nF x.2.2.2.2.1))), (h 6, .inl (cA, 16, .inl x.2.2.2.2.2.1))]
abbrev wM (cA : ClassId) (g : Nat → Nat) (N C : Nat) (y : SM) : va_W :=
  [(g 0, .inr (1, [.int (nI N), .int (nI C), .ref (g 1), .ref (g 2), .ref (g 3), .ref (g 4), .ref (g 5), .int (tv y.2.2.2.2.2.1), .int (bv y.2.2.2.2.2.2)])),
   (g 1, .inl (cA, 16, .inl (nF y.1))), (g 2, .inl (cA, 16, .inl (nF y.2.1))), (g 3, .inl (cA, 128, .inl y.2.2.1)), (g 4, .inl (cA, 16, .inl (nF y.2.2.2.1))), (g 5, .inl (cA, 16, .inl y.2.2.2.2.1))]
abbrev inW (D : va_G) (cA : ClassId) (wc : va_W) (sz : Nat) : State → Prop := fun U => U.heap.size = sz ∧ va_P D classes wc U.heap ∧ va_K D classes [(cA, .int)] U ∧ va_D (fun _ => True) wc
abbrev atW (D : va_G) (cA : ClassId) (A : Nat → Prop) (w1 : va_W) (t : State) : Prop := va_P D classes w1 t.heap ∧ va_K D classes [(cA, .int)] t ∧ va_D A w1
/-- a method's contract, answering an int (a boolean): the cells wc before, w1 u behind -/
abbrev MetI {S : Type} (l : Launch) (y : MethodName) (b : ByteArray) (n : Nat) (ret : Option FieldType) (rm : Room) (D : va_G) (cA : ClassId) (b0 : Nat) (As : List Value) (wc : va_W) (w1 : S → va_W) (post : Int32 → S → Prop) (sz : Nat) : Prop :=
  Met l y (Cond.code y b n ret :: lw_gt) rm (va_Pc (.ref b0 :: As) (inW D cA wc sz)) (va_Qi post (fun u t => atW D cA (va_A wc sz) (w1 u) t) (va_A wc sz)) 0 0 (va_A wc sz)
abbrev MetV {S : Type} (l : Launch) (y : MethodName) (b : ByteArray) (n : Nat) (rm : Room) (D : va_G) (cA : ClassId) (b0 : Nat) (As : List Value) (wc : va_W) (w1 : S → va_W) (post : S → Prop) (sz : Nat) : Prop :=
  Met l y (Cond.code y b n none :: lw_gt) rm (va_Pc (.ref b0 :: As) (inW D cA wc sz)) (va_Qv post (fun u t => atW D cA (va_A wc sz) (w1 u) t) (va_A wc sz)) 0 0 (va_A wc sz)
abbrev QI {S : Type} (D : va_G) (cA : ClassId) (A : Nat → Prop) (w1 : S → va_W) (post : Int32 → S → Prop) (below : List Frame) (args : Array Value) (s : State) : State → Prop := MQ below (va_Qi post (fun u t => atW D cA A (w1 u) t) A) args s 0 0 A
abbrev QV {S : Type} (D : va_G) (cA : ClassId) (A : Nat → Prop) (w1 : S → va_W) (post : S → Prop) (below : List Frame) (args : Array Value) (s : State) : State → Prop := MQ below (va_Qv post (fun u t => atW D cA A (w1 u) t) A) args s 0 0 A
abbrev rq0 : Room := { frames := 0, cells := 0, slots := 0, locals := 0 }
abbrev rq1 : Room := { frames := 1, cells := 0, slots := 0, locals := 30 }
abbrev rq2 : Room := { frames := 2, cells := 0, slots := 0, locals := 60 }
/-- a method's context -/
def Ctx (p : Program) (s : State) (m : MethodId) (args : Array Value) (meth : Method) (c : Code) (b : ByteArray) (n : Nat) (ret : Option FieldType) (own : String) (D : va_G) (cA : ClassId) (A : Nat → Prop) : Prop :=
  p.tables.exec = Jvm.exec ∧ c.code = b ∧ meth.sig.returnType = ret ∧ meth.locks = false ∧ c.maxLocals = n ∧ s.vm.findClass own = some m.cls ∧ (∀ w ∈ lw_gt, w.before args s = true) ∧ va_K D classes [(cA, .int)] s ∧ (∀ q, s.heap.size ≤ q → A q)
theorem metI {S : Type} {l : Launch} {y : MethodName} {b : ByteArray} {n : Nat} {ret : Option FieldType} {rm : Room} {D : va_G} {cA : ClassId} {b0 : Nat} {As : List Value} {wc : va_W} {w1 : S → va_W} {post : Int32 → S → Prop} {sz : Nat} {own : String}
    (hy : plainName y.cls = true) (hc : y.cls = own) (hlen : (lg_sl (Value.ref b0 :: As)).length ≤ n)
    (body : ∀ (p : Program) (e : Env) (s : State) (m : MethodId) (below : List Frame) (meth : Method) (c : Code) (A : Nat → Prop) (ls : Array Slot) (H : Heap) (locs : List Loc), Ctx p s m (Value.ref b0 :: As).toArray meth c b n ret own D cA A → va_P D classes wc H → va_D A wc → va_S A s.heap H locs → lv_has ls n (lv_args 0 (Value.ref b0 :: As)) →
      W p l e rm s m (Value.ref b0 :: As).toArray below meth c H locs 0 0 (QI D cA A w1 post below (Value.ref b0 :: As).toArray s) (F0 m 0 ls [])) : MetI l y b n ret rm D cA b0 As wc w1 post sz := by
  refine Met.ofW (cc := b) (maxL := n) (ret := ret) hy rfl ?_
  intro p e s m args below meth c s₁ B hml hv
  obtain ⟨rfl, hsz, hP, hK, hD0⟩ := hv
  have hts0 := atoms_spec (ws := Cond.code y b n ret :: lw_gt) B.pre
  have hown : s.vm.findClass y.cls = some m.cls := findClass_of_methodNamed B.named
  rw [hc] at hown
  subst hsz
  have hD := hD0.self (sz := s.heap.size)
  have hA : ∀ q : Nat, s.heap.size ≤ q → va_A wc s.heap.size q := fun q h => Or.inr h
  have hl := lv_entry (Value.ref b0 :: As) (n := n) hlen
  rw [lg_entry_eq]
  exact body p e s m below meth c (va_A wc s.heap.size) _ s.heap [] ⟨B.exec, B.bytes, B.returns, B.notSynchronized, hml, hown, fun w hw => hts0 w (List.mem_cons_of_mem _ hw), hK, hA⟩ hP hD va_S.rf hl
theorem metV {S : Type} {l : Launch} {y : MethodName} {b : ByteArray} {n : Nat} {rm : Room} {D : va_G} {cA : ClassId} {b0 : Nat} {As : List Value} {wc : va_W} {w1 : S → va_W} {post : S → Prop} {sz : Nat} {own : String}
    (hy : plainName y.cls = true) (hc : y.cls = own) (hlen : (lg_sl (Value.ref b0 :: As)).length ≤ n)
    (body : ∀ (p : Program) (e : Env) (s : State) (m : MethodId) (below : List Frame) (meth : Method) (c : Code) (A : Nat → Prop) (ls : Array Slot) (H : Heap) (locs : List Loc), Ctx p s m (Value.ref b0 :: As).toArray meth c b n none own D cA A → va_P D classes wc H → va_D A wc → va_S A s.heap H locs → lv_has ls n (lv_args 0 (Value.ref b0 :: As)) →
      W p l e rm s m (Value.ref b0 :: As).toArray below meth c H locs 0 0 (QV D cA A w1 post below (Value.ref b0 :: As).toArray s) (F0 m 0 ls [])) : MetV l y b n rm D cA b0 As wc w1 post sz := by
  refine Met.ofW (cc := b) (maxL := n) (ret := none) hy rfl ?_
  intro p e s m args below meth c s₁ B hml hv
  obtain ⟨rfl, hsz, hP, hK, hD0⟩ := hv
  have hts0 := atoms_spec (ws := Cond.code y b n none :: lw_gt) B.pre
  have hown : s.vm.findClass y.cls = some m.cls := findClass_of_methodNamed B.named
  rw [hc] at hown
  subst hsz
  have hD := hD0.self (sz := s.heap.size)
  have hA : ∀ q : Nat, s.heap.size ≤ q → va_A wc s.heap.size q := fun q h => Or.inr h
  have hl := lv_entry (Value.ref b0 :: As) (n := n) hlen
  rw [lg_entry_eq]
  exact body p e s m below meth c (va_A wc s.heap.size) _ s.heap [] ⟨B.exec, B.bytes, B.returns, B.notSynchronized, hml, hown, fun w hw => hts0 w (List.mem_cons_of_mem _ hw), hK, hA⟩ hP hD va_S.rf hl
section NV
variable {p : Program} {l : Launch} {e : Env} {R : Room} {s : State} {m : MethodId} {args : Array Value} {below : List Frame} {meth : Method} {c : Code} {H : Heap} {locs : List Loc} {cells slots : Nat} {Q : State → Prop}
variable {cc : ByteArray} {pc : Nat} {ls : Array Slot} {rest : List Value} {D : va_G} {cA : ClassId} {A : Nat → Prop} {a : Nat} {ws : va_W} {H0 : Heap}
theorem retI {S : Type} {w1 : S → va_W} {post : Int32 → S → Prop} {r : Int32} (u : S) (hx : p.tables.exec = Jvm.exec) (hb : c.code = cc) (hr : meth.sig.returnType = some .int) (hlk : meth.locks = false) (hK : va_K D classes [(cA, .int)] s) (hP : va_P D classes (w1 u) H) (hD : va_D A (w1 u)) (hS : va_S A s.heap H locs) (hp : post r u) (hdg : decode cc pc = .ok (.ireturn, 1)) :
    W p l e R s m args below meth c H locs 0 0 (QI D cA A w1 post below args s) (F0 m pc ls [.int r]) :=
  W.iret (v := r) hx hb hr (fun t ht hW => ⟨⟨r, u, rfl, hp, by rw [ht]; exact hP, va_K.moved hW.alike hK, hD⟩, hS.F ht⟩) hS.2.2 hdg hlk
theorem retZ {S : Type} {w1 : S → va_W} {post : Int32 → S → Prop} {r : Int32} (u : S) (hx : p.tables.exec = Jvm.exec) (hb : c.code = cc) (hr : meth.sig.returnType = some .boolean) (hlk : meth.locks = false) (hK : va_K D classes [(cA, .int)] s) (hP : va_P D classes (w1 u) H) (hD : va_D A (w1 u)) (hS : va_S A s.heap H locs) (hn : narrow .boolean (.int r) = .int r) (hp : post r u) (hdg : decode cc pc = .ok (.ireturn, 1)) :
    W p l e R s m args below meth c H locs 0 0 (QI D cA A w1 post below args s) (F0 m pc ls [.int r]) :=
  W.zret (v := r) hx hb hr hn (fun t ht hW => ⟨⟨r, u, rfl, hp, by rw [ht]; exact hP, va_K.moved hW.alike hK, hD⟩, hS.F ht⟩) hS.2.2 hdg hlk
theorem retV {S : Type} {w1 : S → va_W} {post : S → Prop} (u : S) (hx : p.tables.exec = Jvm.exec) (hb : c.code = cc) (hr : meth.sig.returnType = none) (hlk : meth.locks = false) (hK : va_K D classes [(cA, .int)] s) (hP : va_P D classes (w1 u) H) (hD : va_D A (w1 u)) (hS : va_S A s.heap H locs) (hp : post u) (hdg : decode cc pc = .ok (.return_, 1)) :
    W p l e R s m args below meth c H locs 0 0 (QV D cA A w1 post below args s) (F0 m pc ls []) :=
  W.vret hx hb hr (fun t ht hW => ⟨⟨u, rfl, hp, by rw [ht]; exact hP, va_K.moved hW.alike hK, hD⟩, hS.F ht⟩) hS.2.2 hdg hlk
theorem nv_iadd (hx : p.tables.exec = Jvm.exec) (hb : c.code = cc) {x y : Nat} (hdg : decode cc pc = .ok (.iadd, 1)) (k : W p l e R s m args below meth c H locs cells slots Q (F0 m (pc + 1) ls (.int (nI (x + y)) :: rest))) : W p l e R s m args below meth c H locs cells slots Q (F0 m pc ls (.int (nI y) :: .int (nI x) :: rest)) :=
  lv_iadd hx hb hdg (by rw [nI_add]; exact k)
theorem nv_isub (hx : p.tables.exec = Jvm.exec) (hb : c.code = cc) {x y : Nat} (h : y ≤ x) (hdg : decode cc pc = .ok (.isub, 1)) (k : W p l e R s m args below meth c H locs cells slots Q (F0 m (pc + 1) ls (.int (nI (x - y)) :: rest))) : W p l e R s m args below meth c H locs cells slots Q (F0 m pc ls (.int (nI y) :: .int (nI x) :: rest)) :=
  lv_isub hx hb hdg (by rw [pk_sub h]; exact k)
theorem nv_imul (hx : p.tables.exec = Jvm.exec) (hb : c.code = cc) {x y : Nat} (hdg : decode cc pc = .ok (.imul, 1)) (k : W p l e R s m args below meth c H locs cells slots Q (F0 m (pc + 1) ls (.int (nI (x * y)) :: rest))) : W p l e R s m args below meth c H locs cells slots Q (F0 m pc ls (.int (nI y) :: .int (nI x) :: rest)) :=
  lv_imul hx hb hdg (by rw [pk_mul]; exact k)
theorem nv_irem (hx : p.tables.exec = Jvm.exec) (hb : c.code = cc) {x y : Nat} (h1 : x < 2 ^ 31) (h0 : 0 < y) (h2 : y < 2 ^ 31) (hdg : decode cc pc = .ok (.irem, 1)) (k : W p l e R s m args below meth c H locs cells slots Q (F0 m (pc + 1) ls (.int (nI (x % y)) :: rest))) : W p l e R s m args below meth c H locs cells slots Q (F0 m pc ls (.int (nI y) :: .int (nI x) :: rest)) :=
  lv_irem hx hb hdg (nI_ne0 h0 h2) (by rw [pk_rem h1 h0 h2]; exact k)
theorem nv_icmp_eq (hx : p.tables.exec = Jvm.exec) (hb : c.code = cc) {x y : Nat} {off : Int} {tgt : Nat} (h1 : x < 2 ^ 31) (h2 : y < 2 ^ 31) (hdg : decode cc pc = .ok (.if_icmp .eq off, 3)) (ht : (pc : Int) + off = (tgt : Int))
    (kt : x = y → W p l e R s m args below meth c H locs cells slots Q (F0 m tgt ls rest)) (kf : x ≠ y → W p l e R s m args below meth c H locs cells slots Q (F0 m (pc + 3) ls rest)) : W p l e R s m args below meth c H locs cells slots Q (F0 m pc ls (.int (nI y) :: .int (nI x) :: rest)) :=
  lv_icmp_eq hx hb hdg ht (fun q => kt ((nI_eq h1 h2).mp q)) (fun q => kf (fun z => q ((nI_eq h1 h2).mpr z)))
theorem nv_icmp_ne (hx : p.tables.exec = Jvm.exec) (hb : c.code = cc) {x y : Nat} {off : Int} {tgt : Nat} (h1 : x < 2 ^ 31) (h2 : y < 2 ^ 31) (hdg : decode cc pc = .ok (.if_icmp .ne off, 3)) (ht : (pc : Int) + off = (tgt : Int))
    (kt : x ≠ y → W p l e R s m args below meth c H locs cells slots Q (F0 m tgt ls rest)) (kf : x = y → W p l e R s m args below meth c H locs cells slots Q (F0 m (pc + 3) ls rest)) : W p l e R s m args below meth c H locs cells slots Q (F0 m pc ls (.int (nI y) :: .int (nI x) :: rest)) :=
  lv_icmp_ne hx hb hdg ht (fun q => kt (fun z => q ((nI_eq h1 h2).mpr z))) (fun q => kf ((nI_eq h1 h2).mp q))
theorem nv_icmp_ge (hx : p.tables.exec = Jvm.exec) (hb : c.code = cc) {x y : Nat} {off : Int} {tgt : Nat} (h1 : x < 2 ^ 31) (h2 : y < 2 ^ 31) (hdg : decode cc pc = .ok (.if_icmp .ge off, 3)) (ht : (pc : Int) + off = (tgt : Int))
    (kt : y ≤ x → W p l e R s m args below meth c H locs cells slots Q (F0 m tgt ls rest)) (kf : x < y → W p l e R s m args below meth c H locs cells slots Q (F0 m (pc + 3) ls rest)) : W p l e R s m args below meth c H locs cells slots Q (F0 m pc ls (.int (nI y) :: .int (nI x) :: rest)) :=
  lv_icmp_ge hx hb hdg ht (fun q => kt ((nI_leI h2 h1).mp q)) (fun q => kf (Nat.lt_of_not_le fun z => q ((nI_leI h2 h1).mpr z)))
theorem nv_if_eq (hx : p.tables.exec = Jvm.exec) (hb : c.code = cc) {x : Nat} {off : Int} {tgt : Nat} (h1 : x < 2 ^ 31) (hdg : decode cc pc = .ok (.ifCond .eq off, 3)) (ht : (pc : Int) + off = (tgt : Int))
    (kt : x = 0 → W p l e R s m args below meth c H locs cells slots Q (F0 m tgt ls rest)) (kf : x ≠ 0 → W p l e R s m args below meth c H locs cells slots Q (F0 m (pc + 3) ls rest)) : W p l e R s m args below meth c H locs cells slots Q (F0 m pc ls (.int (nI x) :: rest)) :=
  lv_if_eq hx hb hdg ht (fun q => kt ((nI_eq h1 (by decide)).mp (q.trans nI_0.symm))) (fun q => kf (fun z => q (by rw [z, nI_0])))
theorem nv_if_ne (hx : p.tables.exec = Jvm.exec) (hb : c.code = cc) {x : Nat} {off : Int} {tgt : Nat} (h1 : x < 2 ^ 31) (hdg : decode cc pc = .ok (.ifCond .ne off, 3)) (ht : (pc : Int) + off = (tgt : Int))
    (kt : x ≠ 0 → W p l e R s m args below meth c H locs cells slots Q (F0 m tgt ls rest)) (kf : x = 0 → W p l e R s m args below meth c H locs cells slots Q (F0 m (pc + 3) ls rest)) : W p l e R s m args below meth c H locs cells slots Q (F0 m pc ls (.int (nI x) :: rest)) :=
  lv_if_ne hx hb hdg ht (fun q => kt (fun z => q (by rw [z, nI_0]))) (fun q => kf ((nI_eq h1 (by decide)).mp (q.trans nI_0.symm)))
theorem nv_if_neB (hx : p.tables.exec = Jvm.exec) (hb : c.code = cc) {x : Bool} {off : Int} {tgt : Nat} (hdg : decode cc pc = .ok (.ifCond .ne off, 3)) (ht : (pc : Int) + off = (tgt : Int))
    (kt : x = true → W p l e R s m args below meth c H locs cells slots Q (F0 m tgt ls rest)) (kf : x = false → W p l e R s m args below meth c H locs cells slots Q (F0 m (pc + 3) ls rest)) : W p l e R s m args below meth c H locs cells slots Q (F0 m pc ls (.int (bv x) :: rest)) :=
  lv_if_ne hx hb hdg ht (fun q => kt (by cases x; exact absurd rfl q; rfl)) (fun q => kf (by cases x; rfl; exact absurd q (by decide)))
theorem nv_if_ltN (hx : p.tables.exec = Jvm.exec) (hb : c.code = cc) {x : Nat} {off : Int} {tgt : Nat} (h1 : x < 2 ^ 31) (hdg : decode cc pc = .ok (.ifCond .lt off, 3)) (ht : (pc : Int) + off = (tgt : Int))
    (kf : W p l e R s m args below meth c H locs cells slots Q (F0 m (pc + 3) ls rest)) : W p l e R s m args below meth c H locs cells slots Q (F0 m pc ls (.int (nI x) :: rest)) :=
  lv_if_lt hx hb hdg ht (fun q => absurd q (nI_pos h1)) (fun _ => kf)
theorem nv_if_ltM (hx : p.tables.exec = Jvm.exec) (hb : c.code = cc) {off : Int} {tgt : Nat} (hdg : decode cc pc = .ok (.ifCond .lt off, 3)) (ht : (pc : Int) + off = (tgt : Int))
    (kt : W p l e R s m args below meth c H locs cells slots Q (F0 m tgt ls rest)) : W p l e R s m args below meth c H locs cells slots Q (F0 m pc ls (.int (-1) :: rest)) :=
  lv_if_lt hx hb hdg ht (fun _ => kt) (fun q => absurd (by decide) q)
theorem nv_if_geN (hx : p.tables.exec = Jvm.exec) (hb : c.code = cc) {x : Nat} {off : Int} {tgt : Nat} (h1 : x < 2 ^ 31) (hdg : decode cc pc = .ok (.ifCond .ge off, 3)) (ht : (pc : Int) + off = (tgt : Int))
    (kt : W p l e R s m args below meth c H locs cells slots Q (F0 m tgt ls rest)) : W p l e R s m args below meth c H locs cells slots Q (F0 m pc ls (.int (nI x) :: rest)) :=
  lv_if_ge hx hb hdg ht (fun _ => kt) (fun q => absurd (nI_pos' h1) q)
theorem nv_if_geM (hx : p.tables.exec = Jvm.exec) (hb : c.code = cc) {off : Int} {tgt : Nat} (hdg : decode cc pc = .ok (.ifCond .ge off, 3)) (ht : (pc : Int) + off = (tgt : Int))
    (kf : W p l e R s m args below meth c H locs cells slots Q (F0 m (pc + 3) ls rest)) : W p l e R s m args below meth c H locs cells slots Q (F0 m pc ls (.int (-1) :: rest)) :=
  lv_if_ge hx hb hdg ht (fun q => absurd q (by decide)) (fun _ => kf)
theorem nv_ald (hx : p.tables.exec = Jvm.exec) (hb : c.code = cc) (hK : va_K D classes [(cA, .int)] s) (hP : va_P D classes ws H) (q0 : Nat) {n : Nat} {f : Nat → Nat} (ha : ws[q0]? = some (a, .inl (cA, n, .inl (nF f)))) {j v : Nat} (hj : j < n) (hn : n < 2 ^ 31) (hv : f j = v) (hdg : decode cc pc = .ok (.iaload, 1))
    (kk : W p l e R s m args below meth c H locs cells slots Q (F0 m (pc + 1) ls (.int (nI v) :: rest))) : W p l e R s m args below meth c H locs cells slots Q (F0 m pc ls (.int (nI j) :: .ref a :: rest)) :=
  va_iald hx hb hK hP q0 0 ha rfl (vp_in_nI hj hn) hdg (by rw [nI_clamp (Nat.lt_trans hj hn)]; subst hv; exact kk)
theorem ni_ald (hx : p.tables.exec = Jvm.exec) (hb : c.code = cc) (hK : va_K D classes [(cA, .int)] s) (hP : va_P D classes ws H) (q0 : Nat) {n : Nat} {f : Nat → Int32} (ha : ws[q0]? = some (a, .inl (cA, n, .inl f))) {j : Nat} {v : Int32} (hj : j < n) (hn : n < 2 ^ 31) (hv : f j = v) (hdg : decode cc pc = .ok (.iaload, 1))
    (kk : W p l e R s m args below meth c H locs cells slots Q (F0 m (pc + 1) ls (.int v :: rest))) : W p l e R s m args below meth c H locs cells slots Q (F0 m pc ls (.int (nI j) :: .ref a :: rest)) :=
  va_iald hx hb hK hP q0 0 ha rfl (vp_in_nI hj hn) hdg (by rw [nI_clamp (Nat.lt_trans hj hn)]; subst hv; exact kk)
theorem nv_ast (hx : p.tables.exec = Jvm.exec) (hb : c.code = cc) (hK : va_K D classes [(cA, .int)] s) (hP : va_P D classes ws H) (hD : va_D A ws) (hS : va_S A H0 H locs) (q0 : Nat) {n : Nat} {f : Nat → Nat} (ha : ws[q0]? = some (a, .inl (cA, n, .inl (nF f)))) {j v : Nat} (f' : Nat → Nat) (hj : j < n) (hn : n < 2 ^ 31) (hv : upN f j v = f') (hdg : decode cc pc = .ok (.iastore, 1))
    (kk : ∀ (H1 : Heap) (locs1 : List Loc), va_P D classes (ws.set q0 (a, .inl (cA, n, .inl (nF f')))) H1 → va_D A (ws.set q0 (a, .inl (cA, n, .inl (nF f')))) → va_S A H0 H1 locs1 → W p l e R s m args below meth c H1 locs1 cells slots Q (F0 m (pc + 1) ls rest)) : W p l e R s m args below meth c H locs cells slots Q (F0 m pc ls (.int (nI v) :: .int (nI j) :: .ref a :: rest)) :=
  va_iast hx hb hK hP hD hS q0 0 ha rfl (vp_in_nI hj hn) hdg (fun H1 locs1 h1 h2 h3 => by rw [nI_clamp (Nat.lt_trans hj hn), nF_up, hv] at h1 h2; exact kk H1 locs1 h1 h2 h3)
theorem ni_ast (hx : p.tables.exec = Jvm.exec) (hb : c.code = cc) (hK : va_K D classes [(cA, .int)] s) (hP : va_P D classes ws H) (hD : va_D A ws) (hS : va_S A H0 H locs) (q0 : Nat) {n : Nat} {f : Nat → Int32} (ha : ws[q0]? = some (a, .inl (cA, n, .inl f))) {j : Nat} {v : Int32} (f' : Nat → Int32) (hj : j < n) (hn : n < 2 ^ 31) (hv : upd f j v = f') (hdg : decode cc pc = .ok (.iastore, 1))
    (kk : ∀ (H1 : Heap) (locs1 : List Loc), va_P D classes (ws.set q0 (a, .inl (cA, n, .inl f'))) H1 → va_D A (ws.set q0 (a, .inl (cA, n, .inl f'))) → va_S A H0 H1 locs1 → W p l e R s m args below meth c H1 locs1 cells slots Q (F0 m (pc + 1) ls rest)) : W p l e R s m args below meth c H locs cells slots Q (F0 m pc ls (.int v :: .int (nI j) :: .ref a :: rest)) :=
  va_iast hx hb hK hP hD hS q0 0 ha rfl (vp_in_nI hj hn) hdg (fun H1 locs1 h1 h2 h3 => by rw [nI_clamp (Nat.lt_trans hj hn), hv] at h1 h2; exact kk H1 locs1 h1 h2 h3)
theorem nv_iinc (hx : p.tables.exec = Jvm.exec) (hb : c.code = cc) {i nL k : Nat} {x : Nat} {lv : List (Nat × Value)} (lv' : List (Nat × Value)) (hdg : decode cc pc = .ok (.iinc i 1, 3)) (h : lv_has ls nL lv) (hk : lv[k]? = some (i, .int (nI x))) (hn : i < nL) (hl : (i, Value.int (nI (x + 1))) :: lv.filter (fun q => !(q.1 == i) && !(q.1 + 1 == i && q.2.category == 2)) = lv')
    (kk : ∀ ls' : Array Slot, lv_has ls' nL lv' → W p l e R s m args below meth c H locs cells slots Q (F0 m (pc + 3) ls' rest)) : W p l e R s m args below meth c H locs cells slots Q (F0 m pc ls rest) :=
  lv_iinc (v := nI (x + 1)) hx hb hdg h hk (nI_1 x) hn hl kk
-- fields
theorem gX (hx : p.tables.exec = Jvm.exec) (hb : c.code = cc) (hts : ∀ w ∈ lw_gt, w.before args s = true) (hown : s.vm.findClass R_X = some m.cls) (hK : va_K D classes [(cA, .int)] s) {fs : List Value} (hP : va_P D classes ((a, .inr (0, fs)) :: ws) H) (k : Nat) {idx : Nat} {v : Value} (hv : fs[k]? = some v) (hk : k < 10) (hl : Cond.fieldLink R_X idx (F_X k).1 (F_X k).2.1 (F_X k).2.2.1 ∈ lw_gt) (hdg : decode cc pc = .ok (.getfield idx, 3))
    (kk : W p l e R s m args below meth c H locs cells slots Q (F0 m (pc + 3) ls (v :: rest))) : W p l e R s m args below meth c H locs cells slots Q (F0 m pc ls (.ref a :: rest)) :=
  va_get (C := R_X) (T := F_X) (N := 10) (ci := 0) hx hb hts i_X hown hK hP 0 rfl rfl k hk (hts _ hl) (fun _ h9 => h9) hv hdg kk
theorem gM (hx : p.tables.exec = Jvm.exec) (hb : c.code = cc) (hts : ∀ w ∈ lw_gt, w.before args s = true) (hown : s.vm.findClass R_M = some m.cls) (hK : va_K D classes [(cA, .int)] s) {fs : List Value} (hP : va_P D classes ((a, .inr (1, fs)) :: ws) H) (k : Nat) {idx : Nat} {v : Value} (hv : fs[k]? = some v) (hk : k < 9) (hl : Cond.fieldLink R_M idx (F_M k).1 (F_M k).2.1 (F_M k).2.2.1 ∈ lw_gt) (hdg : decode cc pc = .ok (.getfield idx, 3))
    (kk : W p l e R s m args below meth c H locs cells slots Q (F0 m (pc + 3) ls (v :: rest))) : W p l e R s m args below meth c H locs cells slots Q (F0 m pc ls (.ref a :: rest)) :=
  va_get (C := R_M) (T := F_M) (N := 9) (ci := 1) hx hb hts i_M hown hK hP 0 rfl rfl k hk (hts _ hl) (fun _ h9 => h9) hv hdg kk
theorem bv_nar (b : Bool) : narrow .boolean (.int (bv b)) = .int (bv b) := by cases b <;> rfl
theorem bv_fit (b : Bool) : fits .boolean (.int (bv b)) = true := by cases b <;> rfl
section PutX
variable {h : Nat → Nat} {N C : Nat} {st nx : Nat → Nat} {fr : Nat → Int32} {fi mn : Nat → Nat} {rc : Nat → Int32} {tk : Option Nat} {us : Bool}
theorem pX_tok (hx : p.tables.exec = Jvm.exec) (hb : c.code = cc) (hts : ∀ w ∈ lw_gt, w.before args s = true) (hown : s.vm.findClass R_X = some m.cls) (hK : va_K D classes [(cA, .int)] s) (hP : va_P D classes (wX cA h N C (st, nx, fr, fi, mn, rc, tk, us)) H) (hD : va_D A (wX cA h N C (st, nx, fr, fi, mn, rc, tk, us))) (hS : va_S A H0 H locs) (tk' : Option Nat) (hdg : decode cc pc = .ok (.putfield 35, 3))
    (kk : ∀ (H1 : Heap) (locs1 : List Loc), va_P D classes (wX cA h N C (st, nx, fr, fi, mn, rc, tk', us)) H1 → va_D A (wX cA h N C (st, nx, fr, fi, mn, rc, tk', us)) → va_S A H0 H1 locs1 → W p l e R s m args below meth c H1 locs1 cells slots Q (F0 m (pc + 3) ls rest)) : W p l e R s m args below meth c H locs cells slots Q (F0 m pc ls (.int (tv tk') :: .ref (h 0) :: rest)) :=
  va_put (C := R_X) (T := F_X) (N := 10) (ci := 0) (ty := .int) hx hb hts i_X t_X t_X_ok n_X hown hK hP hD hS 0 rfl rfl 8 (by decide) (hts _ tw_19) (fun _ h9 => h9) rfl (by decide +kernel) rfl rfl (Nat.le_of_ble_eq_true rfl) hdg (fun H1 locs1 h1 h2 h3 => kk H1 locs1 h1 h2 h3)
theorem pX_use (hx : p.tables.exec = Jvm.exec) (hb : c.code = cc) (hts : ∀ w ∈ lw_gt, w.before args s = true) (hown : s.vm.findClass R_X = some m.cls) (hK : va_K D classes [(cA, .int)] s) (hP : va_P D classes (wX cA h N C (st, nx, fr, fi, mn, rc, tk, us)) H) (hD : va_D A (wX cA h N C (st, nx, fr, fi, mn, rc, tk, us))) (hS : va_S A H0 H locs) (us' : Bool) (hdg : decode cc pc = .ok (.putfield 38, 3))
    (kk : ∀ (H1 : Heap) (locs1 : List Loc), va_P D classes (wX cA h N C (st, nx, fr, fi, mn, rc, tk, us')) H1 → va_D A (wX cA h N C (st, nx, fr, fi, mn, rc, tk, us')) → va_S A H0 H1 locs1 → W p l e R s m args below meth c H1 locs1 cells slots Q (F0 m (pc + 3) ls rest)) : W p l e R s m args below meth c H locs cells slots Q (F0 m pc ls (.int (bv us') :: .ref (h 0) :: rest)) :=
  va_put (C := R_X) (T := F_X) (N := 10) (ci := 0) (ty := .boolean) hx hb hts i_X t_X t_X_ok n_X hown hK hP hD hS 0 rfl rfl 9 (by decide) (hts _ tw_20) (fun _ h9 => h9) rfl (by decide +kernel) (bv_nar us') (bv_fit us') (Nat.le_of_ble_eq_true rfl) hdg (fun H1 locs1 h1 h2 h3 => kk H1 locs1 h1 h2 h3)
theorem pM_tok (hx : p.tables.exec = Jvm.exec) (hb : c.code = cc) (hts : ∀ w ∈ lw_gt, w.before args s = true) (hown : s.vm.findClass R_M = some m.cls) (hK : va_K D classes [(cA, .int)] s) (hP : va_P D classes (wM cA h N C (st, nx, fr, mn, rc, tk, us)) H) (hD : va_D A (wM cA h N C (st, nx, fr, mn, rc, tk, us))) (hS : va_S A H0 H locs) (tk' : Option Nat) (hdg : decode cc pc = .ok (.putfield 35, 3))
    (kk : ∀ (H1 : Heap) (locs1 : List Loc), va_P D classes (wM cA h N C (st, nx, fr, mn, rc, tk', us)) H1 → va_D A (wM cA h N C (st, nx, fr, mn, rc, tk', us)) → va_S A H0 H1 locs1 → W p l e R s m args below meth c H1 locs1 cells slots Q (F0 m (pc + 3) ls rest)) : W p l e R s m args below meth c H locs cells slots Q (F0 m pc ls (.int (tv tk') :: .ref (h 0) :: rest)) :=
  va_put (C := R_M) (T := F_M) (N := 9) (ci := 1) (ty := .int) hx hb hts i_M t_M t_M_ok n_M hown hK hP hD hS 0 rfl rfl 7 (by decide) (hts _ tw_143) (fun _ h9 => h9) rfl (by decide +kernel) rfl rfl (Nat.le_of_ble_eq_true rfl) hdg (fun H1 locs1 h1 h2 h3 => kk H1 locs1 h1 h2 h3)
theorem pM_use (hx : p.tables.exec = Jvm.exec) (hb : c.code = cc) (hts : ∀ w ∈ lw_gt, w.before args s = true) (hown : s.vm.findClass R_M = some m.cls) (hK : va_K D classes [(cA, .int)] s) (hP : va_P D classes (wM cA h N C (st, nx, fr, mn, rc, tk, us)) H) (hD : va_D A (wM cA h N C (st, nx, fr, mn, rc, tk, us))) (hS : va_S A H0 H locs) (us' : Bool) (hdg : decode cc pc = .ok (.putfield 38, 3))
    (kk : ∀ (H1 : Heap) (locs1 : List Loc), va_P D classes (wM cA h N C (st, nx, fr, mn, rc, tk, us')) H1 → va_D A (wM cA h N C (st, nx, fr, mn, rc, tk, us')) → va_S A H0 H1 locs1 → W p l e R s m args below meth c H1 locs1 cells slots Q (F0 m (pc + 3) ls rest)) : W p l e R s m args below meth c H locs cells slots Q (F0 m pc ls (.int (bv us') :: .ref (h 0) :: rest)) :=
  va_put (C := R_M) (T := F_M) (N := 9) (ci := 1) (ty := .boolean) hx hb hts i_M t_M t_M_ok n_M hown hK hP hD hS 0 rfl rfl 8 (by decide) (hts _ tw_144) (fun _ h9 => h9) rfl (by decide +kernel) (bv_nar us') (bv_fit us') (Nat.le_of_ble_eq_true rfl) hdg (fun H1 locs1 h1 h2 h3 => kk H1 locs1 h1 h2 h3)
end PutX
end NV
-- calls
theorem blindW (D : va_G) (cA : ClassId) (av : List Value) (wc : va_W) (sz : Nat) : FrameBlind (va_Pc av (inW D cA wc sz)) := fun a U g mk q => by
  obtain ⟨q0, q1, qP, qK, qD⟩ := q
  exact ⟨q0, q1, qP, va_K.moved (u := U) (U := U.calling g mk a) (Vm.Alike.refl U.vm) qK, qD⟩
theorem goodV {own C : String} {idx n : Nat} {y : MethodName} {b : ByteArray} {ret : Option FieldType} (h1 : Cond.methodLink own idx y ∈ lw_gt) (h2 : Cond.instanceMethod y ∈ lw_gt) (h3 : Cond.selects C y y ∈ lw_gt) (h4 : Cond.initialized C ∈ lw_gt) (h5 : Cond.code y b n ret ∈ lw_gt) : GoodIn lw_gt (wsV own idx C y (Cond.code y b n ret :: lw_gt)) := by
  have key : ∀ w ∈ wsV own idx C y (Cond.code y b n ret :: lw_gt), w ∈ lw_gt := by
    intro w hw
    simp only [wsV, List.mem_append, List.mem_cons, List.not_mem_nil, or_false] at hw
    rcases hw with (rfl | rfl | rfl | rfl) | rfl | hw
    · exact h1
    · exact h2
    · exact h3
    · exact h4
    · exact h5
    · exact hw
  exact fun w hw => ⟨key w hw, good_of_word (lw_good w (key w hw))⟩
theorem map_some_fm {α β : Type} {f : α → Option β} : ∀ {l : List α} {w : List β}, l.map f = w.map some → l.filterMap f = w
  | [], [], _ => rfl
  | [], _ :: _, h => by simp at h
  | _ :: _, [], h => by simp at h
  | a :: l, b :: w, h => by
    simp only [List.map_cons, List.cons.injEq] at h
    rw [List.filterMap_cons, h.1]
    simp only
    rw [map_some_fm h.2]
section NC
variable {p : Program} {l : Launch} {e : Env} {R : Room} {s : State} {m : MethodId} {args : Array Value} {below : List Frame} {meth : Method} {c : Code} {H : Heap} {locs : List Loc} {cells slots : Nat} {Q : State → Prop}
variable {cc : ByteArray} {pc nL : Nat} {ls : Array Slot} {rest st0 : List Value} {D : va_G} {cA : ClassId} {A : Nat → Prop} {ws wc wr : va_W}
variable {S : Type} {w1 : S → va_W} {y : MethodName} {b : ByteArray} {n na idx : Nat} {rm : Room} {own Cn : String} {b0 : Nat} {As : List Value} {T : vw_C} {ci : Nat} {fs : List Value}
theorem cllI {ret : Option FieldType} {post : Int32 → S → Prop} (hx : p.tables.exec = Jvm.exec) (hb : c.code = cc) (hml : c.maxLocals = nL) (hown : s.vm.findClass own = some m.cls) (hts : ∀ w ∈ lw_gt, w.before args s = true) (hK : va_K D classes [(cA, .int)] s)
    (hP : va_P D classes ws H) (hD : va_D A ws) (hS : va_S A s.heap H locs) (hA : ∀ q, s.heap.size ≤ q → A q) (hl : ls.size = nL)
    (M : MetI l y b n ret rm D cA b0 As wc w1 post H.size) (isC isR : List Nat) (hC : isC.map (fun i => ws[i]?) = wc.map some) (hR : isR.map (fun i => ws[i]?) = wr.map some) (hnC : va_nd isC = true) (hnR : va_nd isR = true) (hdis : ∀ i ∈ isR, i ∉ isC)
    (h0 : wc[0]? = some (b0, .inr (ci, fs))) (hcl : classes[ci]? = some T) (hTC : T.1 = Cn)
    (g : GoodIn lw_gt (wsV own idx Cn y (Cond.code y b n ret :: lw_gt)))
    (hd : y.cls = Cn ∧ y.cls ≠ "java/lang/invoke/MethodHandle" ∧ y.cls ≠ "java/lang/invoke/VarHandle" ∧ (parseMethodDescriptor y.desc).map (fun d => d.parameters.length) = some na) (hna : As.length = na)
    (hrm : rm.cells = 0 ∧ rm.slots = 0 ∧ rm.frames + 1 ≤ R.frames ∧ 8 + (n + 11) + rm.locals ≤ R.locals) (hroom : (rest.map fun v => v.category).sum ≤ 8) (hf : cells ≤ R.cells ∧ slots ≤ R.slots) (hst : st0 = As.reverse ++ .ref b0 :: rest)
    (hdg : decode cc pc = .ok (.invokevirtual idx, 3))
    (kk : ∀ (r : Int32) (u : S) (H1 : Heap) (locs1 : List Loc), post r u → va_P D classes (wr ++ w1 u) H1 → va_D A (wr ++ w1 u) → va_S A s.heap H1 locs1 → W p l e R s m args below meth c H1 locs1 cells slots Q (F0 m (pc + 3) ls (.int r :: rest))) :
    W p l e R s m args below meth c H locs cells slots Q (F0 m pc ls st0) := by
  have hPc : va_P D classes wc H := hP.sub isC (map_some_fm hC)
  have hDc : va_D A wc := hD.sub isC hnC hC
  have hFc := va_free (wc := wc) hD hS hA isC hC
  refine va_calli (va_runV (As := As) (rest := rest) ⟨hx, hb, hml, hown, hts⟩ M (cwV na hts g rfl hrm.1 hrm.2.1 hd hrm.2.2) ⟨blindW D cA _ wc _, by rw [← hTC]; exact va_recv hK hPc hcl h0, fun U hU hW => ⟨rfl, by rw [hU], by rw [hU]; exact hPc, va_K.moved hW.alike hK, hDc.weaken (fun _ _ _ _ => trivial)⟩⟩ rfl hna hl hst (lv_room hroom) hdg hf) hS (fun q _ h => hFc q h) hFc (fun r u t H1 locs1 ht hvm hw hB hz1 hk1 hS1 => ?_)
  obtain ⟨hP1, hK1, hD1⟩ := hB
  rw [ht] at hP1
  obtain ⟨hP2, hD2⟩ := va_join hP hD isC isR hC hR hnR hdis hk1 hFc hP1 hD1
  exact kk r u H1 locs1 hw hP2 hD2 hS1
theorem cllV {post : S → Prop} (hx : p.tables.exec = Jvm.exec) (hb : c.code = cc) (hml : c.maxLocals = nL) (hown : s.vm.findClass own = some m.cls) (hts : ∀ w ∈ lw_gt, w.before args s = true) (hK : va_K D classes [(cA, .int)] s)
    (hP : va_P D classes ws H) (hD : va_D A ws) (hS : va_S A s.heap H locs) (hA : ∀ q, s.heap.size ≤ q → A q) (hl : ls.size = nL)
    (M : MetV l y b n rm D cA b0 As wc w1 post H.size) (isC isR : List Nat) (hC : isC.map (fun i => ws[i]?) = wc.map some) (hR : isR.map (fun i => ws[i]?) = wr.map some) (hnC : va_nd isC = true) (hnR : va_nd isR = true) (hdis : ∀ i ∈ isR, i ∉ isC)
    (h0 : wc[0]? = some (b0, .inr (ci, fs))) (hcl : classes[ci]? = some T) (hTC : T.1 = Cn)
    (g : GoodIn lw_gt (wsV own idx Cn y (Cond.code y b n none :: lw_gt)))
    (hd : y.cls = Cn ∧ y.cls ≠ "java/lang/invoke/MethodHandle" ∧ y.cls ≠ "java/lang/invoke/VarHandle" ∧ (parseMethodDescriptor y.desc).map (fun d => d.parameters.length) = some na) (hna : As.length = na)
    (hrm : rm.cells = 0 ∧ rm.slots = 0 ∧ rm.frames + 1 ≤ R.frames ∧ 8 + (n + 11) + rm.locals ≤ R.locals) (hroom : (rest.map fun v => v.category).sum ≤ 8) (hf : cells ≤ R.cells ∧ slots ≤ R.slots) (hst : st0 = As.reverse ++ .ref b0 :: rest)
    (hdg : decode cc pc = .ok (.invokevirtual idx, 3))
    (kk : ∀ (u : S) (H1 : Heap) (locs1 : List Loc), post u → va_P D classes (wr ++ w1 u) H1 → va_D A (wr ++ w1 u) → va_S A s.heap H1 locs1 → W p l e R s m args below meth c H1 locs1 cells slots Q (F0 m (pc + 3) ls rest)) :
    W p l e R s m args below meth c H locs cells slots Q (F0 m pc ls st0) := by
  have hPc : va_P D classes wc H := hP.sub isC (map_some_fm hC)
  have hDc : va_D A wc := hD.sub isC hnC hC
  have hFc := va_free (wc := wc) hD hS hA isC hC
  refine va_callv (va_runV (As := As) (rest := rest) ⟨hx, hb, hml, hown, hts⟩ M (cwV na hts g rfl hrm.1 hrm.2.1 hd hrm.2.2) ⟨blindW D cA _ wc _, by rw [← hTC]; exact va_recv hK hPc hcl h0, fun U hU hW => ⟨rfl, by rw [hU], by rw [hU]; exact hPc, va_K.moved hW.alike hK, hDc.weaken (fun _ _ _ _ => trivial)⟩⟩ rfl hna hl hst (lv_room hroom) hdg hf) hS (fun q _ h => hFc q h) hFc (fun u t H1 locs1 ht hvm hw hB hz1 hk1 hS1 => ?_)
  obtain ⟨hP1, hK1, hD1⟩ := hB
  rw [ht] at hP1
  obtain ⟨hP2, hD2⟩ := va_join hP hD isC isR hC hR hnR hdis hk1 hFc hP1 hD1
  exact kk u H1 locs1 hw hP2 hD2 hS1
end NC
end
section
theorem bl_mod {N j : Nat} (hN : 2 ≤ N ∧ N ≤ 16) (hj : j < N) : (j + N - 1) % N = if j = 0 then N - 1 else j - 1 := by
  by_cases h : j = 0
  · rw [if_pos h, h, Nat.zero_add, Nat.mod_eq_of_lt (by omega)]
  · rw [if_neg h, show j + N - 1 = (j - 1) + N by omega, Nat.add_mod_right, Nat.mod_eq_of_lt (by omega)]
set_option maxHeartbeats 4000000 in
set_option maxRecDepth 100000 in
/-- isStation -/
theorem c_X_isStation (l : Launch) (D : va_G) (cA : ClassId) (h : Nat → Nat) (sz N C : Nat) (st nx : Nat → Nat) (fr : Nat → Int32) (fi mn : Nat → Nat) (rc : Nat → Int32) (tk : Option Nat) (us : Bool) (p0 : Int32) (a : Option Nat) (hN : 2 ≤ N ∧ N ≤ 16) (ha : ixR N p0 a) : MetI l y_X_isStation b_X_isStation 2 (some .boolean) rq0 D cA (h 0) [.int p0] (wX cA h N C (st, nx, fr, fi, mn, rc, tk, us)) (wX cA h N C) (fun r u => r = oI a ∧ u = (st, nx, fr, fi, mn, rc, tk, us)) sz := by
  refine metI (own := R_X) (by decide) rfl (Nat.le_of_ble_eq_true rfl) ?_
  intro p e s m below meth c A ls H locs B hP hD hS hl
  obtain ⟨hx, hb, hr, hlk, hml, hown, hts, hK, hA⟩ := B
  have hl : lv_has ls 2 [(0, .ref (h 0)), (1, .int p0)] := hl
  cases a with
  | none =>
    refine lv_iload_n (pc := 0) hx hb d_X_isStation_0 rfl (lv_at hl 1 rfl) ?_
    refine lv_if_lt (pc := 1) (tgt := 16) hx hb d_X_isStation_1 (by decide) (fun c_1 => ?_) (fun c_1 => ?_)
    · refine lv_iconst (pc := 16) (v := (nI 0)) hx hb d_X_isStation_16 (by decide) ?_
      exact retZ (st, nx, fr, fi, mn, rc, tk, us) hx hb hr hlk hK hP hD hS (by decide) (⟨rfl, rfl⟩) d_X_isStation_17
    · refine lv_iload_n (pc := 4) hx hb d_X_isStation_4 rfl (lv_at hl 1 rfl) ?_
      refine lv_aload_n (pc := 5) hx hb d_X_isStation_5 rfl (lv_at hl 0 rfl) ?_
      refine gX (pc := 6) hx hb hts hown hK hP 0 (v := .int (nI N)) rfl (by decide) tw_11 d_X_isStation_6 ?_
      refine lv_icmp_ge (pc := 9) (tgt := 16) hx hb d_X_isStation_9 (by decide) (fun c_9 => ?_) (fun c_9 => absurd c_9 (fun z => z (by rcases ha with q | q; exact absurd q c_1; exact q)))
      refine lv_iconst (pc := 16) (v := (nI 0)) hx hb d_X_isStation_16 (by decide) ?_
      exact retZ (st, nx, fr, fi, mn, rc, tk, us) hx hb hr hlk hK hP hD hS (by decide) (⟨rfl, rfl⟩) d_X_isStation_17
  | some j =>
    obtain ⟨rfl, hj⟩ := ha
    refine lv_iload_n (pc := 0) hx hb d_X_isStation_0 rfl (lv_at hl 1 rfl) ?_
    refine nv_if_ltN (pc := 1) (tgt := 16) (x := j) hx hb (by omega) d_X_isStation_1 (by decide) ?_
    refine lv_iload_n (pc := 4) hx hb d_X_isStation_4 rfl (lv_at hl 1 rfl) ?_
    refine lv_aload_n (pc := 5) hx hb d_X_isStation_5 rfl (lv_at hl 0 rfl) ?_
    refine gX (pc := 6) hx hb hts hown hK hP 0 (v := .int (nI N)) rfl (by decide) tw_11 d_X_isStation_6 ?_
    refine nv_icmp_ge (pc := 9) (tgt := 16) (x := j) (y := N) hx hb (by omega) (by omega) d_X_isStation_9 (by decide) (fun c_9 => absurd c_9 (by omega)) (fun c_9 => ?_)
    refine lv_iconst (pc := 12) (v := (nI 1)) hx hb d_X_isStation_12 (by decide) ?_
    refine lv_goto (pc := 13) (tgt := 17) hx hb d_X_isStation_13 (by decide) ?_
    exact retZ (st, nx, fr, fi, mn, rc, tk, us) hx hb hr hlk hK hP hD hS (by decide) (⟨rfl, rfl⟩) d_X_isStation_17
set_option maxHeartbeats 4000000 in
set_option maxRecDepth 100000 in
/-- isStation -/
theorem c_M_isStation (l : Launch) (D : va_G) (cA : ClassId) (h : Nat → Nat) (sz N C : Nat) (st nx : Nat → Nat) (fr : Nat → Int32) (mn : Nat → Nat) (rc : Nat → Int32) (tk : Option Nat) (us : Bool) (p0 : Int32) (a : Option Nat) (hN : 2 ≤ N ∧ N ≤ 16) (ha : ixR N p0 a) : MetI l y_M_isStation b_M_isStation 2 (some .boolean) rq0 D cA (h 0) [.int p0] (wM cA h N C (st, nx, fr, mn, rc, tk, us)) (wM cA h N C) (fun r u => r = oI a ∧ u = (st, nx, fr, mn, rc, tk, us)) sz := by
  refine metI (own := R_M) (by decide) rfl (Nat.le_of_ble_eq_true rfl) ?_
  intro p e s m below meth c A ls H locs B hP hD hS hl
  obtain ⟨hx, hb, hr, hlk, hml, hown, hts, hK, hA⟩ := B
  have hl : lv_has ls 2 [(0, .ref (h 0)), (1, .int p0)] := hl
  cases a with
  | none =>
    refine lv_iload_n (pc := 0) hx hb d_M_isStation_0 rfl (lv_at hl 1 rfl) ?_
    refine lv_if_lt (pc := 1) (tgt := 16) hx hb d_M_isStation_1 (by decide) (fun c_1 => ?_) (fun c_1 => ?_)
    · refine lv_iconst (pc := 16) (v := (nI 0)) hx hb d_M_isStation_16 (by decide) ?_
      exact retZ (st, nx, fr, mn, rc, tk, us) hx hb hr hlk hK hP hD hS (by decide) (⟨rfl, rfl⟩) d_M_isStation_17
    · refine lv_iload_n (pc := 4) hx hb d_M_isStation_4 rfl (lv_at hl 1 rfl) ?_
      refine lv_aload_n (pc := 5) hx hb d_M_isStation_5 rfl (lv_at hl 0 rfl) ?_
      refine gM (pc := 6) hx hb hts hown hK hP 0 (v := .int (nI N)) rfl (by decide) tw_136 d_M_isStation_6 ?_
      refine lv_icmp_ge (pc := 9) (tgt := 16) hx hb d_M_isStation_9 (by decide) (fun c_9 => ?_) (fun c_9 => absurd c_9 (fun z => z (by rcases ha with q | q; exact absurd q c_1; exact q)))
      refine lv_iconst (pc := 16) (v := (nI 0)) hx hb d_M_isStation_16 (by decide) ?_
      exact retZ (st, nx, fr, mn, rc, tk, us) hx hb hr hlk hK hP hD hS (by decide) (⟨rfl, rfl⟩) d_M_isStation_17
  | some j =>
    obtain ⟨rfl, hj⟩ := ha
    refine lv_iload_n (pc := 0) hx hb d_M_isStation_0 rfl (lv_at hl 1 rfl) ?_
    refine nv_if_ltN (pc := 1) (tgt := 16) (x := j) hx hb (by omega) d_M_isStation_1 (by decide) ?_
    refine lv_iload_n (pc := 4) hx hb d_M_isStation_4 rfl (lv_at hl 1 rfl) ?_
    refine lv_aload_n (pc := 5) hx hb d_M_isStation_5 rfl (lv_at hl 0 rfl) ?_
    refine gM (pc := 6) hx hb hts hown hK hP 0 (v := .int (nI N)) rfl (by decide) tw_136 d_M_isStation_6 ?_
    refine nv_icmp_ge (pc := 9) (tgt := 16) (x := j) (y := N) hx hb (by omega) (by omega) d_M_isStation_9 (by decide) (fun c_9 => absurd c_9 (by omega)) (fun c_9 => ?_)
    refine lv_iconst (pc := 12) (v := (nI 1)) hx hb d_M_isStation_12 (by decide) ?_
    refine lv_goto (pc := 13) (tgt := 17) hx hb d_M_isStation_13 (by decide) ?_
    exact retZ (st, nx, fr, mn, rc, tk, us) hx hb hr hlk hK hP hD hS (by decide) (⟨rfl, rfl⟩) d_M_isStation_17
set_option maxHeartbeats 4000000 in
set_option maxRecDepth 100000 in
/-- isOn -/
theorem c_X_isOn (l : Launch) (D : va_G) (cA : ClassId) (h : Nat → Nat) (sz N C : Nat) (st nx : Nat → Nat) (fr : Nat → Int32) (fi mn : Nat → Nat) (rc : Nat → Int32) (tk : Option Nat) (us : Bool) (p0 : Int32) (a : Option Nat) (hN : 2 ≤ N ∧ N ≤ 16) (hst : ∀ j, st j ≤ 3) (ha : ixR N p0 a) : MetI l y_X_isOn b_X_isOn 2 (some .boolean) rq1 D cA (h 0) [.int p0] (wX cA h N C (st, nx, fr, fi, mn, rc, tk, us)) (wX cA h N C) (fun r u => r = onV st a ∧ u = (st, nx, fr, fi, mn, rc, tk, us)) sz := by
  refine metI (own := R_X) (by decide) rfl (Nat.le_of_ble_eq_true rfl) ?_
  intro p e s m below meth c A ls H locs B hP hD hS hl
  obtain ⟨hx, hb, hr, hlk, hml, hown, hts, hK, hA⟩ := B
  have hl : lv_has ls 2 [(0, .ref (h 0)), (1, .int p0)] := hl
  cases a with
  | none =>
    refine lv_aload_n (pc := 0) hx hb d_X_isOn_0 rfl (lv_at hl 0 rfl) ?_
    refine lv_iload_n (pc := 1) hx hb d_X_isOn_1 rfl (lv_at hl 1 rfl) ?_
    refine cllI (pc := 2) (As := [.int p0]) (rest := []) (wr := []) hx hb hml hown hts hK hP hD hS hA hl.1 (c_X_isStation l D cA h H.size N C st nx fr fi mn rc tk us p0 none hN ha) [0, 1, 2, 3, 4, 5, 6] [] rfl rfl (by decide) (by decide) (by decide) rfl rfl rfl (goodV tw_51 tw_53 ts_X_isStation tw_1 tw_54) (na := 1) (by decide +kernel) rfl ⟨rfl, rfl, Nat.le_of_ble_eq_true rfl, Nat.le_of_ble_eq_true rfl⟩ (Nat.le_of_ble_eq_true rfl) ⟨Nat.zero_le _, Nat.zero_le _⟩ rfl d_X_isOn_2 (fun r u H locs hw hP hD hS => ?_)
    obtain ⟨rfl, rfl⟩ := hw
    have hP : va_P D classes (wX cA h N C (st, nx, fr, fi, mn, rc, tk, us)) H := hP
    have hD : va_D A (wX cA h N C (st, nx, fr, fi, mn, rc, tk, us)) := hD
    refine nv_if_eq (pc := 5) (tgt := 21) (x := 0) hx hb (by decide) d_X_isOn_5 (by decide) (fun _ => ?_) (fun q => absurd q (by decide))
    refine lv_iconst (pc := 21) (v := (nI 0)) hx hb d_X_isOn_21 (by decide) ?_
    exact retZ (st, nx, fr, fi, mn, rc, tk, us) hx hb hr hlk hK hP hD hS (by decide) (by simp [onV]) d_X_isOn_22
  | some j =>
    obtain ⟨rfl, hj⟩ := ha
    refine lv_aload_n (pc := 0) hx hb d_X_isOn_0 rfl (lv_at hl 0 rfl) ?_
    refine lv_iload_n (pc := 1) hx hb d_X_isOn_1 rfl (lv_at hl 1 rfl) ?_
    refine cllI (pc := 2) (As := [.int (nI j)]) (rest := []) (wr := []) hx hb hml hown hts hK hP hD hS hA hl.1 (c_X_isStation l D cA h H.size N C st nx fr fi mn rc tk us (nI j) (some j) hN ⟨rfl, hj⟩) [0, 1, 2, 3, 4, 5, 6] [] rfl rfl (by decide) (by decide) (by decide) rfl rfl rfl (goodV tw_51 tw_53 ts_X_isStation tw_1 tw_54) (na := 1) (by decide +kernel) rfl ⟨rfl, rfl, Nat.le_of_ble_eq_true rfl, Nat.le_of_ble_eq_true rfl⟩ (Nat.le_of_ble_eq_true rfl) ⟨Nat.zero_le _, Nat.zero_le _⟩ rfl d_X_isOn_2 (fun r u H locs hw hP hD hS => ?_)
    obtain ⟨rfl, rfl⟩ := hw
    have hP : va_P D classes (wX cA h N C (st, nx, fr, fi, mn, rc, tk, us)) H := hP
    have hD : va_D A (wX cA h N C (st, nx, fr, fi, mn, rc, tk, us)) := hD
    refine nv_if_eq (pc := 5) (tgt := 21) (x := 1) hx hb (by decide) d_X_isOn_5 (by decide) (fun q => absurd q (by decide)) (fun _ => ?_)
    refine lv_aload_n (pc := 8) hx hb d_X_isOn_8 rfl (lv_at hl 0 rfl) ?_
    refine gX (pc := 9) hx hb hts hown hK hP 2 (v := .ref (h 1)) rfl (by decide) tw_13 d_X_isOn_9 ?_
    refine lv_iload_n (pc := 12) hx hb d_X_isOn_12 rfl (lv_at hl 1 rfl) ?_
    refine nv_ald (pc := 13) (f := st) (j := j) (v := st j) hx hb hK hP 1 rfl (by omega) (by decide) rfl d_X_isOn_13 ?_
    refine nv_if_eq (pc := 14) (tgt := 21) (x := st j) hx hb (by have := hst j; omega) d_X_isOn_14 (by decide) (fun c_14 => ?_) (fun c_14 => ?_)
    · refine lv_iconst (pc := 21) (v := (nI 0)) hx hb d_X_isOn_21 (by decide) ?_
      exact retZ (st, nx, fr, fi, mn, rc, tk, us) hx hb hr hlk hK hP hD hS (by decide) (by simp [onV, c_14]) d_X_isOn_22
    · refine lv_iconst (pc := 17) (v := (nI 1)) hx hb d_X_isOn_17 (by decide) ?_
      refine lv_goto (pc := 18) (tgt := 22) hx hb d_X_isOn_18 (by decide) ?_
      exact retZ (st, nx, fr, fi, mn, rc, tk, us) hx hb hr hlk hK hP hD hS (by decide) (by simp [onV, c_14]) d_X_isOn_22
set_option maxHeartbeats 4000000 in
set_option maxRecDepth 100000 in
/-- come -/
theorem c_X_come (l : Launch) (D : va_G) (cA : ClassId) (h : Nat → Nat) (sz N C : Nat) (st nx : Nat → Nat) (fr : Nat → Int32) (fi mn : Nat → Nat) (rc : Nat → Int32) (tk : Option Nat) (us : Bool) (j : Nat) : MetV l y_X_come b_X_come 2 rq0 D cA (h 0) [.int (nI j)] (wX cA h N C (st, nx, fr, fi, mn, rc, tk, us)) (wX cA h N C) (fun u => u = (st, nx, fr, fi, mn, rc, some j, false)) sz := by
  refine metV (own := R_X) (by decide) rfl (Nat.le_of_ble_eq_true rfl) ?_
  intro p e s m below meth c A ls H locs B hP hD hS hl
  obtain ⟨hx, hb, hr, hlk, hml, hown, hts, hK, hA⟩ := B
  have hl : lv_has ls 2 [(0, .ref (h 0)), (1, .int (nI j))] := hl
  refine lv_aload_n (pc := 0) hx hb d_X_come_0 rfl (lv_at hl 0 rfl) ?_
  refine lv_iload_n (pc := 1) hx hb d_X_come_1 rfl (lv_at hl 1 rfl) ?_
  refine pX_tok (pc := 2) hx hb hts hown hK hP hD hS (some j) d_X_come_2 (fun H locs hP hD hS => ?_)
  refine lv_aload_n (pc := 5) hx hb d_X_come_5 rfl (lv_at hl 0 rfl) ?_
  refine lv_iconst (pc := 6) (v := (bv false)) hx hb d_X_come_6 (by decide) ?_
  refine pX_use (pc := 7) hx hb hts hown hK hP hD hS false d_X_come_7 (fun H locs hP hD hS => ?_)
  exact retV (st, nx, fr, fi, mn, rc, (some j), false) hx hb hr hlk hK hP hD hS (rfl) d_X_come_10
set_option maxHeartbeats 4000000 in
set_option maxRecDepth 100000 in
/-- below -/
theorem c_X_below (l : Launch) (D : va_G) (cA : ClassId) (h : Nat → Nat) (sz N C : Nat) (st nx : Nat → Nat) (fr : Nat → Int32) (fi mn : Nat → Nat) (rc : Nat → Int32) (tk : Option Nat) (us : Bool) (j : Nat) (hN : 2 ≤ N ∧ N ≤ 16) (hj : j < N) : MetI l y_X_below b_X_below 2 (some .int) rq0 D cA (h 0) [.int (nI j)] (wX cA h N C (st, nx, fr, fi, mn, rc, tk, us)) (wX cA h N C) (fun r u => r = nI (bl N j) ∧ u = (st, nx, fr, fi, mn, rc, tk, us)) sz := by
  refine metI (own := R_X) (by decide) rfl (Nat.le_of_ble_eq_true rfl) ?_
  intro p e s m below meth c A ls H locs B hP hD hS hl
  obtain ⟨hx, hb, hr, hlk, hml, hown, hts, hK, hA⟩ := B
  have hl : lv_has ls 2 [(0, .ref (h 0)), (1, .int (nI j))] := hl
  refine lv_iload_n (pc := 0) hx hb d_X_below_0 rfl (lv_at hl 1 rfl) ?_
  refine nv_if_ne (pc := 1) (tgt := 13) (x := j) hx hb (by omega) d_X_below_1 (by decide) (fun c_1 => ?_) (fun c_1 => ?_)
  · refine lv_iload_n (pc := 13) hx hb d_X_below_13 rfl (lv_at hl 1 rfl) ?_
    refine lv_iconst (pc := 14) (v := (nI 1)) hx hb d_X_below_14 (by decide) ?_
    refine nv_isub (pc := 15) (x := j) (y := 1) hx hb (by omega) d_X_below_15 ?_
    exact retI (st, nx, fr, fi, mn, rc, tk, us) hx hb hr hlk hK hP hD hS (⟨by simp [bl, c_1], rfl⟩) d_X_below_16
  · refine lv_aload_n (pc := 4) hx hb d_X_below_4 rfl (lv_at hl 0 rfl) ?_
    refine gX (pc := 5) hx hb hts hown hK hP 0 (v := .int (nI N)) rfl (by decide) tw_11 d_X_below_5 ?_
    refine lv_iconst (pc := 8) (v := (nI 1)) hx hb d_X_below_8 (by decide) ?_
    refine nv_isub (pc := 9) (x := N) (y := 1) hx hb (by omega) d_X_below_9 ?_
    refine lv_goto (pc := 10) (tgt := 16) hx hb d_X_below_10 (by decide) ?_
    exact retI (st, nx, fr, fi, mn, rc, tk, us) hx hb hr hlk hK hP hD hS (⟨by simp [bl, c_1], rfl⟩) d_X_below_16
set_option maxHeartbeats 4000000 in
set_option maxRecDepth 100000 in
/-- below -/
theorem c_M_below (l : Launch) (D : va_G) (cA : ClassId) (h : Nat → Nat) (sz N C : Nat) (st nx : Nat → Nat) (fr : Nat → Int32) (mn : Nat → Nat) (rc : Nat → Int32) (tk : Option Nat) (us : Bool) (j : Nat) (hN : 2 ≤ N ∧ N ≤ 16) (hj : j < N) : MetI l y_M_below b_M_below 2 (some .int) rq0 D cA (h 0) [.int (nI j)] (wM cA h N C (st, nx, fr, mn, rc, tk, us)) (wM cA h N C) (fun r u => r = nI (bl N j) ∧ u = (st, nx, fr, mn, rc, tk, us)) sz := by
  refine metI (own := R_M) (by decide) rfl (Nat.le_of_ble_eq_true rfl) ?_
  intro p e s m below meth c A ls H locs B hP hD hS hl
  obtain ⟨hx, hb, hr, hlk, hml, hown, hts, hK, hA⟩ := B
  have hl : lv_has ls 2 [(0, .ref (h 0)), (1, .int (nI j))] := hl
  refine lv_iload_n (pc := 0) hx hb d_M_below_0 rfl (lv_at hl 1 rfl) ?_
  refine lv_aload_n (pc := 1) hx hb d_M_below_1 rfl (lv_at hl 0 rfl) ?_
  refine gM (pc := 2) hx hb hts hown hK hP 0 (v := .int (nI N)) rfl (by decide) tw_136 d_M_below_2 ?_
  refine nv_iadd (pc := 5) (x := j) (y := N) hx hb d_M_below_5 ?_
  refine lv_iconst (pc := 6) (v := (nI 1)) hx hb d_M_below_6 (by decide) ?_
  refine nv_isub (pc := 7) (x := j + N) (y := 1) hx hb (by omega) d_M_below_7 ?_
  refine lv_aload_n (pc := 8) hx hb d_M_below_8 rfl (lv_at hl 0 rfl) ?_
  refine gM (pc := 9) hx hb hts hown hK hP 0 (v := .int (nI N)) rfl (by decide) tw_136 d_M_below_9 ?_
  refine nv_irem (pc := 12) (x := (j + N) - 1) (y := N) hx hb (by omega) (by omega) (by omega) d_M_below_12 ?_
  exact retI (st, nx, fr, mn, rc, tk, us) hx hb hr hlk hK hP hD hS (⟨by congr 1; simp only [bl]; exact bl_mod hN hj, rfl⟩) d_M_below_13
set_option maxHeartbeats 4000000 in
set_option maxRecDepth 100000 in
/-- tokenHolder -/
theorem c_X_tokenHolder (l : Launch) (D : va_G) (cA : ClassId) (h : Nat → Nat) (sz N C : Nat) (st nx : Nat → Nat) (fr : Nat → Int32) (fi mn : Nat → Nat) (rc : Nat → Int32) (tk : Option Nat) (us : Bool)  : MetI l y_X_tokenHolder b_X_tokenHolder 1 (some .int) rq0 D cA (h 0) [] (wX cA h N C (st, nx, fr, fi, mn, rc, tk, us)) (wX cA h N C) (fun r u => r = tv tk ∧ u = (st, nx, fr, fi, mn, rc, tk, us)) sz := by
  refine metI (own := R_X) (by decide) rfl (Nat.le_of_ble_eq_true rfl) ?_
  intro p e s m below meth c A ls H locs B hP hD hS hl
  obtain ⟨hx, hb, hr, hlk, hml, hown, hts, hK, hA⟩ := B
  have hl : lv_has ls 1 [(0, .ref (h 0))] := hl
  refine lv_aload_n (pc := 0) hx hb d_X_tokenHolder_0 rfl (lv_at hl 0 rfl) ?_
  refine gX (pc := 1) hx hb hts hown hK hP 8 (v := .int (tv tk)) rfl (by decide) tw_19 d_X_tokenHolder_1 ?_
  exact retI (st, nx, fr, fi, mn, rc, tk, us) hx hb hr hlk hK hP hD hS (⟨rfl, rfl⟩) d_X_tokenHolder_4
set_option maxHeartbeats 4000000 in
set_option maxRecDepth 100000 in
/-- tokenHolder -/
theorem c_M_tokenHolder (l : Launch) (D : va_G) (cA : ClassId) (h : Nat → Nat) (sz N C : Nat) (st nx : Nat → Nat) (fr : Nat → Int32) (mn : Nat → Nat) (rc : Nat → Int32) (tk : Option Nat) (us : Bool)  : MetI l y_M_tokenHolder b_M_tokenHolder 1 (some .int) rq0 D cA (h 0) [] (wM cA h N C (st, nx, fr, mn, rc, tk, us)) (wM cA h N C) (fun r u => r = tv tk ∧ u = (st, nx, fr, mn, rc, tk, us)) sz := by
  refine metI (own := R_M) (by decide) rfl (Nat.le_of_ble_eq_true rfl) ?_
  intro p e s m below meth c A ls H locs B hP hD hS hl
  obtain ⟨hx, hb, hr, hlk, hml, hown, hts, hK, hA⟩ := B
  have hl : lv_has ls 1 [(0, .ref (h 0))] := hl
  refine lv_aload_n (pc := 0) hx hb d_M_tokenHolder_0 rfl (lv_at hl 0 rfl) ?_
  refine gM (pc := 1) hx hb hts hown hK hP 7 (v := .int (tv tk)) rfl (by decide) tw_143 d_M_tokenHolder_1 ?_
  exact retI (st, nx, fr, mn, rc, tk, us) hx hb hr hlk hK hP hD hS (⟨rfl, rfl⟩) d_M_tokenHolder_4
end
section
set_option maxHeartbeats 4000000 in
set_option maxRecDepth 100000 in
/-- successor -/
theorem c_X_successor (l : Launch) (D : va_G) (cA : ClassId) (h : Nat → Nat) (sz N C : Nat) (st nx : Nat → Nat) (fr : Nat → Int32) (fi mn : Nat → Nat) (rc : Nat → Int32) (tk : Option Nat) (us : Bool) (p0 : Int32) (a : Option Nat) (hN : 2 ≤ N ∧ N ≤ 16) (hst : ∀ j, st j ≤ 3) (ha : ixR N p0 a) : MetI l y_X_successor b_X_successor 2 (some .int) rq2 D cA (h 0) [.int p0] (wX cA h N C (st, nx, fr, fi, mn, rc, tk, us)) (wX cA h N C) (fun r u => r = q_successor st nx a ∧ u = (st, nx, fr, fi, mn, rc, tk, us)) sz := by
  refine metI (own := R_X) (by decide) rfl (Nat.le_of_ble_eq_true rfl) ?_
  intro p e s m below meth c A ls H locs B hP hD hS hl
  obtain ⟨hx, hb, hr, hlk, hml, hown, hts, hK, hA⟩ := B
  have hl : lv_has ls 2 [(0, .ref (h 0)), (1, .int p0)] := hl
  cases a with
  | none =>
    refine lv_aload_n (pc := 0) hx hb d_X_successor_0 rfl (lv_at hl 0 rfl) ?_
    refine lv_iload_n (pc := 1) hx hb d_X_successor_1 rfl (lv_at hl 1 rfl) ?_
    refine cllI (pc := 2) (As := [.int p0]) (rest := []) (wr := []) hx hb hml hown hts hK hP hD hS hA hl.1 (c_X_isOn l D cA h H.size N C st nx fr fi mn rc tk us p0 none hN hst ha) [0, 1, 2, 3, 4, 5, 6] [] rfl rfl (by decide) (by decide) (by decide) rfl rfl rfl (goodV tw_59 tw_61 ts_X_isOn tw_1 tw_62) (na := 1) (by decide +kernel) rfl ⟨rfl, rfl, Nat.le_of_ble_eq_true rfl, Nat.le_of_ble_eq_true rfl⟩ (Nat.le_of_ble_eq_true rfl) ⟨Nat.zero_le _, Nat.zero_le _⟩ rfl d_X_successor_2 (fun r u H locs hw hP hD hS => ?_)
    obtain ⟨rfl, rfl⟩ := hw
    have hP : va_P D classes (wX cA h N C (st, nx, fr, fi, mn, rc, tk, us)) H := hP
    have hD : va_D A (wX cA h N C (st, nx, fr, fi, mn, rc, tk, us)) := hD
    refine nv_if_eq (pc := 5) (tgt := 27) (x := 0) hx hb (by decide) d_X_successor_5 (by decide) (fun _ => ?_) (fun q => absurd q (by decide))
    refine lv_iconst (pc := 27) (v := -1) hx hb d_X_successor_27 (by decide) ?_
    exact retI (st, nx, fr, fi, mn, rc, tk, us) hx hb hr hlk hK hP hD hS (by simp [q_successor]) d_X_successor_28
  | some j =>
    obtain ⟨rfl, hj⟩ := ha
    refine lv_aload_n (pc := 0) hx hb d_X_successor_0 rfl (lv_at hl 0 rfl) ?_
    refine lv_iload_n (pc := 1) hx hb d_X_successor_1 rfl (lv_at hl 1 rfl) ?_
    refine cllI (pc := 2) (As := [.int (nI j)]) (rest := []) (wr := []) hx hb hml hown hts hK hP hD hS hA hl.1 (c_X_isOn l D cA h H.size N C st nx fr fi mn rc tk us (nI j) (some j) hN hst ⟨rfl, hj⟩) [0, 1, 2, 3, 4, 5, 6] [] rfl rfl (by decide) (by decide) (by decide) rfl rfl rfl (goodV tw_59 tw_61 ts_X_isOn tw_1 tw_62) (na := 1) (by decide +kernel) rfl ⟨rfl, rfl, Nat.le_of_ble_eq_true rfl, Nat.le_of_ble_eq_true rfl⟩ (Nat.le_of_ble_eq_true rfl) ⟨Nat.zero_le _, Nat.zero_le _⟩ rfl d_X_successor_2 (fun r u H locs hw hP hD hS => ?_)
    obtain ⟨rfl, rfl⟩ := hw
    have hP : va_P D classes (wX cA h N C (st, nx, fr, fi, mn, rc, tk, us)) H := hP
    have hD : va_D A (wX cA h N C (st, nx, fr, fi, mn, rc, tk, us)) := hD
    by_cases h0 : st j = 0
    · rw [show onV st (some j) = nI 0 by simp [onV, h0]]
      refine nv_if_eq (pc := 5) (tgt := 27) (x := 0) hx hb (by decide) d_X_successor_5 (by decide) (fun _ => ?_) (fun q => absurd q (by decide))
      refine lv_iconst (pc := 27) (v := -1) hx hb d_X_successor_27 (by decide) ?_
      exact retI (st, nx, fr, fi, mn, rc, tk, us) hx hb hr hlk hK hP hD hS (by simp [q_successor, h0]) d_X_successor_28
    · rw [show onV st (some j) = nI 1 by simp [onV, h0]]
      refine nv_if_eq (pc := 5) (tgt := 27) (x := 1) hx hb (by decide) d_X_successor_5 (by decide) (fun q => absurd q (by decide)) (fun _ => ?_)
      refine lv_aload_n (pc := 8) hx hb d_X_successor_8 rfl (lv_at hl 0 rfl) ?_
      refine gX (pc := 9) hx hb hts hown hK hP 2 (v := .ref (h 1)) rfl (by decide) tw_13 d_X_successor_9 ?_
      refine lv_iload_n (pc := 12) hx hb d_X_successor_12 rfl (lv_at hl 1 rfl) ?_
      refine nv_ald (pc := 13) (f := st) (j := j) (v := st j) hx hb hK hP 1 rfl (by omega) (by decide) rfl d_X_successor_13 ?_
      refine lv_iconst (pc := 14) (v := (nI 3)) hx hb d_X_successor_14 (by decide) ?_
      refine nv_icmp_ne (pc := 15) (tgt := 27) (x := st j) (y := 3) hx hb (by have := hst j; omega) (by decide) d_X_successor_15 (by decide) (fun c_15 => ?_) (fun c_15 => ?_)
      · refine lv_iconst (pc := 27) (v := -1) hx hb d_X_successor_27 (by decide) ?_
        exact retI (st, nx, fr, fi, mn, rc, tk, us) hx hb hr hlk hK hP hD hS (by simp [q_successor, h0, c_15]) d_X_successor_28
      · refine lv_aload_n (pc := 18) hx hb d_X_successor_18 rfl (lv_at hl 0 rfl) ?_
        refine gX (pc := 19) hx hb hts hown hK hP 3 (v := .ref (h 2)) rfl (by decide) tw_14 d_X_successor_19 ?_
        refine lv_iload_n (pc := 22) hx hb d_X_successor_22 rfl (lv_at hl 1 rfl) ?_
        refine nv_ald (pc := 23) (f := nx) (j := j) (v := nx j) hx hb hK hP 2 rfl (by omega) (by decide) rfl d_X_successor_23 ?_
        refine lv_goto (pc := 24) (tgt := 28) hx hb d_X_successor_24 (by decide) ?_
        exact retI (st, nx, fr, fi, mn, rc, tk, us) hx hb hr hlk hK hP hD hS (by simp [q_successor, h0, c_15]) d_X_successor_28
set_option maxHeartbeats 4000000 in
set_option maxRecDepth 100000 in
/-- receivedBy -/
theorem c_X_receivedBy (l : Launch) (D : va_G) (cA : ClassId) (h : Nat → Nat) (sz N C : Nat) (st nx : Nat → Nat) (fr : Nat → Int32) (fi mn : Nat → Nat) (rc : Nat → Int32) (tk : Option Nat) (us : Bool) (p0 : Int32) (a : Option Nat) (hN : 2 ≤ N ∧ N ≤ 16) (hst : ∀ j, st j ≤ 3) (ha : ixR N p0 a) : MetI l y_X_receivedBy b_X_receivedBy 2 (some .int) rq1 D cA (h 0) [.int p0] (wX cA h N C (st, nx, fr, fi, mn, rc, tk, us)) (wX cA h N C) (fun r u => r = q_received rc a ∧ u = (st, nx, fr, fi, mn, rc, tk, us)) sz := by
  refine metI (own := R_X) (by decide) rfl (Nat.le_of_ble_eq_true rfl) ?_
  intro p e s m below meth c A ls H locs B hP hD hS hl
  obtain ⟨hx, hb, hr, hlk, hml, hown, hts, hK, hA⟩ := B
  have hl : lv_has ls 2 [(0, .ref (h 0)), (1, .int p0)] := hl
  cases a with
  | none =>
    refine lv_aload_n (pc := 0) hx hb d_X_receivedBy_0 rfl (lv_at hl 0 rfl) ?_
    refine lv_iload_n (pc := 1) hx hb d_X_receivedBy_1 rfl (lv_at hl 1 rfl) ?_
    refine cllI (pc := 2) (As := [.int p0]) (rest := []) (wr := []) hx hb hml hown hts hK hP hD hS hA hl.1 (c_X_isStation l D cA h H.size N C st nx fr fi mn rc tk us p0 none hN ha) [0, 1, 2, 3, 4, 5, 6] [] rfl rfl (by decide) (by decide) (by decide) rfl rfl rfl (goodV tw_51 tw_53 ts_X_isStation tw_1 tw_54) (na := 1) (by decide +kernel) rfl ⟨rfl, rfl, Nat.le_of_ble_eq_true rfl, Nat.le_of_ble_eq_true rfl⟩ (Nat.le_of_ble_eq_true rfl) ⟨Nat.zero_le _, Nat.zero_le _⟩ rfl d_X_receivedBy_2 (fun r u H locs hw hP hD hS => ?_)
    obtain ⟨rfl, rfl⟩ := hw
    have hP : va_P D classes (wX cA h N C (st, nx, fr, fi, mn, rc, tk, us)) H := hP
    have hD : va_D A (wX cA h N C (st, nx, fr, fi, mn, rc, tk, us)) := hD
    refine nv_if_eq (pc := 5) (tgt := 17) (x := 0) hx hb (by decide) d_X_receivedBy_5 (by decide) (fun _ => ?_) (fun q => absurd q (by decide))
    refine lv_iconst (pc := 17) (v := (nI 0)) hx hb d_X_receivedBy_17 (by decide) ?_
    exact retI (st, nx, fr, fi, mn, rc, tk, us) hx hb hr hlk hK hP hD hS (by simp [q_received]) d_X_receivedBy_18
  | some j =>
    obtain ⟨rfl, hj⟩ := ha
    refine lv_aload_n (pc := 0) hx hb d_X_receivedBy_0 rfl (lv_at hl 0 rfl) ?_
    refine lv_iload_n (pc := 1) hx hb d_X_receivedBy_1 rfl (lv_at hl 1 rfl) ?_
    refine cllI (pc := 2) (As := [.int (nI j)]) (rest := []) (wr := []) hx hb hml hown hts hK hP hD hS hA hl.1 (c_X_isStation l D cA h H.size N C st nx fr fi mn rc tk us (nI j) (some j) hN ⟨rfl, hj⟩) [0, 1, 2, 3, 4, 5, 6] [] rfl rfl (by decide) (by decide) (by decide) rfl rfl rfl (goodV tw_51 tw_53 ts_X_isStation tw_1 tw_54) (na := 1) (by decide +kernel) rfl ⟨rfl, rfl, Nat.le_of_ble_eq_true rfl, Nat.le_of_ble_eq_true rfl⟩ (Nat.le_of_ble_eq_true rfl) ⟨Nat.zero_le _, Nat.zero_le _⟩ rfl d_X_receivedBy_2 (fun r u H locs hw hP hD hS => ?_)
    obtain ⟨rfl, rfl⟩ := hw
    have hP : va_P D classes (wX cA h N C (st, nx, fr, fi, mn, rc, tk, us)) H := hP
    have hD : va_D A (wX cA h N C (st, nx, fr, fi, mn, rc, tk, us)) := hD
    refine nv_if_eq (pc := 5) (tgt := 17) (x := 1) hx hb (by decide) d_X_receivedBy_5 (by decide) (fun q => absurd q (by decide)) (fun _ => ?_)
    refine lv_aload_n (pc := 8) hx hb d_X_receivedBy_8 rfl (lv_at hl 0 rfl) ?_
    refine gX (pc := 9) hx hb hts hown hK hP 7 (v := .ref (h 6)) rfl (by decide) tw_18 d_X_receivedBy_9 ?_
    refine lv_iload_n (pc := 12) hx hb d_X_receivedBy_12 rfl (lv_at hl 1 rfl) ?_
    refine ni_ald (pc := 13) (f := rc) (j := j) (v := rc j) hx hb hK hP 6 rfl (by omega) (by decide) rfl d_X_receivedBy_13 ?_
    refine lv_goto (pc := 14) (tgt := 18) hx hb d_X_receivedBy_14 (by decide) ?_
    exact retI (st, nx, fr, fi, mn, rc, tk, us) hx hb hr hlk hK hP hD hS (by simp [q_received]) d_X_receivedBy_18
set_option maxHeartbeats 4000000 in
set_option maxRecDepth 100000 in
/-- state -/
theorem c_X_state (l : Launch) (D : va_G) (cA : ClassId) (h : Nat → Nat) (sz N C : Nat) (st nx : Nat → Nat) (fr : Nat → Int32) (fi mn : Nat → Nat) (rc : Nat → Int32) (tk : Option Nat) (us : Bool) (p0 : Int32) (a : Option Nat) (hN : 2 ≤ N ∧ N ≤ 16) (hst : ∀ j, st j ≤ 3) (ha : ixR N p0 a) : MetI l y_X_state b_X_state 2 (some .int) rq1 D cA (h 0) [.int p0] (wX cA h N C (st, nx, fr, fi, mn, rc, tk, us)) (wX cA h N C) (fun r u => r = q_state st a ∧ u = (st, nx, fr, fi, mn, rc, tk, us)) sz := by
  refine metI (own := R_X) (by decide) rfl (Nat.le_of_ble_eq_true rfl) ?_
  intro p e s m below meth c A ls H locs B hP hD hS hl
  obtain ⟨hx, hb, hr, hlk, hml, hown, hts, hK, hA⟩ := B
  have hl : lv_has ls 2 [(0, .ref (h 0)), (1, .int p0)] := hl
  cases a with
  | none =>
    refine lv_aload_n (pc := 0) hx hb d_X_state_0 rfl (lv_at hl 0 rfl) ?_
    refine lv_iload_n (pc := 1) hx hb d_X_state_1 rfl (lv_at hl 1 rfl) ?_
    refine cllI (pc := 2) (As := [.int p0]) (rest := []) (wr := []) hx hb hml hown hts hK hP hD hS hA hl.1 (c_X_isStation l D cA h H.size N C st nx fr fi mn rc tk us p0 none hN ha) [0, 1, 2, 3, 4, 5, 6] [] rfl rfl (by decide) (by decide) (by decide) rfl rfl rfl (goodV tw_51 tw_53 ts_X_isStation tw_1 tw_54) (na := 1) (by decide +kernel) rfl ⟨rfl, rfl, Nat.le_of_ble_eq_true rfl, Nat.le_of_ble_eq_true rfl⟩ (Nat.le_of_ble_eq_true rfl) ⟨Nat.zero_le _, Nat.zero_le _⟩ rfl d_X_state_2 (fun r u H locs hw hP hD hS => ?_)
    obtain ⟨rfl, rfl⟩ := hw
    have hP : va_P D classes (wX cA h N C (st, nx, fr, fi, mn, rc, tk, us)) H := hP
    have hD : va_D A (wX cA h N C (st, nx, fr, fi, mn, rc, tk, us)) := hD
    refine nv_if_eq (pc := 5) (tgt := 17) (x := 0) hx hb (by decide) d_X_state_5 (by decide) (fun _ => ?_) (fun q => absurd q (by decide))
    refine lv_iconst (pc := 17) (v := -1) hx hb d_X_state_17 (by decide) ?_
    exact retI (st, nx, fr, fi, mn, rc, tk, us) hx hb hr hlk hK hP hD hS (by simp [q_state]) d_X_state_18
  | some j =>
    obtain ⟨rfl, hj⟩ := ha
    refine lv_aload_n (pc := 0) hx hb d_X_state_0 rfl (lv_at hl 0 rfl) ?_
    refine lv_iload_n (pc := 1) hx hb d_X_state_1 rfl (lv_at hl 1 rfl) ?_
    refine cllI (pc := 2) (As := [.int (nI j)]) (rest := []) (wr := []) hx hb hml hown hts hK hP hD hS hA hl.1 (c_X_isStation l D cA h H.size N C st nx fr fi mn rc tk us (nI j) (some j) hN ⟨rfl, hj⟩) [0, 1, 2, 3, 4, 5, 6] [] rfl rfl (by decide) (by decide) (by decide) rfl rfl rfl (goodV tw_51 tw_53 ts_X_isStation tw_1 tw_54) (na := 1) (by decide +kernel) rfl ⟨rfl, rfl, Nat.le_of_ble_eq_true rfl, Nat.le_of_ble_eq_true rfl⟩ (Nat.le_of_ble_eq_true rfl) ⟨Nat.zero_le _, Nat.zero_le _⟩ rfl d_X_state_2 (fun r u H locs hw hP hD hS => ?_)
    obtain ⟨rfl, rfl⟩ := hw
    have hP : va_P D classes (wX cA h N C (st, nx, fr, fi, mn, rc, tk, us)) H := hP
    have hD : va_D A (wX cA h N C (st, nx, fr, fi, mn, rc, tk, us)) := hD
    refine nv_if_eq (pc := 5) (tgt := 17) (x := 1) hx hb (by decide) d_X_state_5 (by decide) (fun q => absurd q (by decide)) (fun _ => ?_)
    refine lv_aload_n (pc := 8) hx hb d_X_state_8 rfl (lv_at hl 0 rfl) ?_
    refine gX (pc := 9) hx hb hts hown hK hP 2 (v := .ref (h 1)) rfl (by decide) tw_13 d_X_state_9 ?_
    refine lv_iload_n (pc := 12) hx hb d_X_state_12 rfl (lv_at hl 1 rfl) ?_
    refine nv_ald (pc := 13) (f := st) (j := j) (v := st j) hx hb hK hP 1 rfl (by omega) (by decide) rfl d_X_state_13 ?_
    refine lv_goto (pc := 14) (tgt := 18) hx hb d_X_state_14 (by decide) ?_
    exact retI (st, nx, fr, fi, mn, rc, tk, us) hx hb hr hlk hK hP hD hS (by simp [q_state]) d_X_state_18
set_option maxHeartbeats 4000000 in
set_option maxRecDepth 100000 in
/-- waiting -/
theorem c_X_waiting (l : Launch) (D : va_G) (cA : ClassId) (h : Nat → Nat) (sz N C : Nat) (st nx : Nat → Nat) (fr : Nat → Int32) (fi mn : Nat → Nat) (rc : Nat → Int32) (tk : Option Nat) (us : Bool) (p0 : Int32) (a : Option Nat) (hN : 2 ≤ N ∧ N ≤ 16) (hst : ∀ j, st j ≤ 3) (ha : ixR N p0 a) : MetI l y_X_waiting b_X_waiting 2 (some .int) rq1 D cA (h 0) [.int p0] (wX cA h N C (st, nx, fr, fi, mn, rc, tk, us)) (wX cA h N C) (fun r u => r = q_waiting mn a ∧ u = (st, nx, fr, fi, mn, rc, tk, us)) sz := by
  refine metI (own := R_X) (by decide) rfl (Nat.le_of_ble_eq_true rfl) ?_
  intro p e s m below meth c A ls H locs B hP hD hS hl
  obtain ⟨hx, hb, hr, hlk, hml, hown, hts, hK, hA⟩ := B
  have hl : lv_has ls 2 [(0, .ref (h 0)), (1, .int p0)] := hl
  cases a with
  | none =>
    refine lv_aload_n (pc := 0) hx hb d_X_waiting_0 rfl (lv_at hl 0 rfl) ?_
    refine lv_iload_n (pc := 1) hx hb d_X_waiting_1 rfl (lv_at hl 1 rfl) ?_
    refine cllI (pc := 2) (As := [.int p0]) (rest := []) (wr := []) hx hb hml hown hts hK hP hD hS hA hl.1 (c_X_isStation l D cA h H.size N C st nx fr fi mn rc tk us p0 none hN ha) [0, 1, 2, 3, 4, 5, 6] [] rfl rfl (by decide) (by decide) (by decide) rfl rfl rfl (goodV tw_51 tw_53 ts_X_isStation tw_1 tw_54) (na := 1) (by decide +kernel) rfl ⟨rfl, rfl, Nat.le_of_ble_eq_true rfl, Nat.le_of_ble_eq_true rfl⟩ (Nat.le_of_ble_eq_true rfl) ⟨Nat.zero_le _, Nat.zero_le _⟩ rfl d_X_waiting_2 (fun r u H locs hw hP hD hS => ?_)
    obtain ⟨rfl, rfl⟩ := hw
    have hP : va_P D classes (wX cA h N C (st, nx, fr, fi, mn, rc, tk, us)) H := hP
    have hD : va_D A (wX cA h N C (st, nx, fr, fi, mn, rc, tk, us)) := hD
    refine nv_if_eq (pc := 5) (tgt := 17) (x := 0) hx hb (by decide) d_X_waiting_5 (by decide) (fun _ => ?_) (fun q => absurd q (by decide))
    refine lv_iconst (pc := 17) (v := (nI 0)) hx hb d_X_waiting_17 (by decide) ?_
    exact retI (st, nx, fr, fi, mn, rc, tk, us) hx hb hr hlk hK hP hD hS (by simp [q_waiting]) d_X_waiting_18
  | some j =>
    obtain ⟨rfl, hj⟩ := ha
    refine lv_aload_n (pc := 0) hx hb d_X_waiting_0 rfl (lv_at hl 0 rfl) ?_
    refine lv_iload_n (pc := 1) hx hb d_X_waiting_1 rfl (lv_at hl 1 rfl) ?_
    refine cllI (pc := 2) (As := [.int (nI j)]) (rest := []) (wr := []) hx hb hml hown hts hK hP hD hS hA hl.1 (c_X_isStation l D cA h H.size N C st nx fr fi mn rc tk us (nI j) (some j) hN ⟨rfl, hj⟩) [0, 1, 2, 3, 4, 5, 6] [] rfl rfl (by decide) (by decide) (by decide) rfl rfl rfl (goodV tw_51 tw_53 ts_X_isStation tw_1 tw_54) (na := 1) (by decide +kernel) rfl ⟨rfl, rfl, Nat.le_of_ble_eq_true rfl, Nat.le_of_ble_eq_true rfl⟩ (Nat.le_of_ble_eq_true rfl) ⟨Nat.zero_le _, Nat.zero_le _⟩ rfl d_X_waiting_2 (fun r u H locs hw hP hD hS => ?_)
    obtain ⟨rfl, rfl⟩ := hw
    have hP : va_P D classes (wX cA h N C (st, nx, fr, fi, mn, rc, tk, us)) H := hP
    have hD : va_D A (wX cA h N C (st, nx, fr, fi, mn, rc, tk, us)) := hD
    refine nv_if_eq (pc := 5) (tgt := 17) (x := 1) hx hb (by decide) d_X_waiting_5 (by decide) (fun q => absurd q (by decide)) (fun _ => ?_)
    refine lv_aload_n (pc := 8) hx hb d_X_waiting_8 rfl (lv_at hl 0 rfl) ?_
    refine gX (pc := 9) hx hb hts hown hK hP 6 (v := .ref (h 5)) rfl (by decide) tw_17 d_X_waiting_9 ?_
    refine lv_iload_n (pc := 12) hx hb d_X_waiting_12 rfl (lv_at hl 1 rfl) ?_
    refine nv_ald (pc := 13) (f := mn) (j := j) (v := mn j) hx hb hK hP 5 rfl (by omega) (by decide) rfl d_X_waiting_13 ?_
    refine lv_goto (pc := 14) (tgt := 18) hx hb d_X_waiting_14 (by decide) ?_
    exact retI (st, nx, fr, fi, mn, rc, tk, us) hx hb hr hlk hK hP hD hS (by simp [q_waiting]) d_X_waiting_18
set_option maxHeartbeats 4000000 in
set_option maxRecDepth 100000 in
/-- powerOn -/
theorem c_X_powerOn (l : Launch) (D : va_G) (cA : ClassId) (h : Nat → Nat) (sz N C : Nat) (st nx : Nat → Nat) (fr : Nat → Int32) (fi mn : Nat → Nat) (rc : Nat → Int32) (tk : Option Nat) (us : Bool) (p0 : Int32) (a : Option Nat) (hN : 2 ≤ N ∧ N ≤ 16) (hst : ∀ j, st j ≤ 3) (ha : ixR N p0 a) : MetI l y_X_powerOn b_X_powerOn 2 (some .boolean) rq1 D cA (h 0) [.int p0] (wX cA h N C (st, nx, fr, fi, mn, rc, tk, us)) (wX cA h N C) (fun r u => (r, u) = X_powerOn st nx fr fi mn rc tk us a) sz := by
  refine metI (own := R_X) (by decide) rfl (Nat.le_of_ble_eq_true rfl) ?_
  intro p e s m below meth c A ls H locs B hP hD hS hl
  obtain ⟨hx, hb, hr, hlk, hml, hown, hts, hK, hA⟩ := B
  have hl : lv_has ls 2 [(0, .ref (h 0)), (1, .int p0)] := hl
  cases a with
  | none =>
    refine lv_aload_n (pc := 0) hx hb d_X_powerOn_0 rfl (lv_at hl 0 rfl) ?_
    refine lv_iload_n (pc := 1) hx hb d_X_powerOn_1 rfl (lv_at hl 1 rfl) ?_
    refine cllI (pc := 2) (As := [.int p0]) (rest := []) (wr := []) hx hb hml hown hts hK hP hD hS hA hl.1 (c_X_isStation l D cA h H.size N C st nx fr fi mn rc tk us p0 none hN ha) [0, 1, 2, 3, 4, 5, 6] [] rfl rfl (by decide) (by decide) (by decide) rfl rfl rfl (goodV tw_51 tw_53 ts_X_isStation tw_1 tw_54) (na := 1) (by decide +kernel) rfl ⟨rfl, rfl, Nat.le_of_ble_eq_true rfl, Nat.le_of_ble_eq_true rfl⟩ (Nat.le_of_ble_eq_true rfl) ⟨Nat.zero_le _, Nat.zero_le _⟩ rfl d_X_powerOn_2 (fun r u H locs hw hP hD hS => ?_)
    obtain ⟨rfl, rfl⟩ := hw
    have hP : va_P D classes (wX cA h N C (st, nx, fr, fi, mn, rc, tk, us)) H := hP
    have hD : va_D A (wX cA h N C (st, nx, fr, fi, mn, rc, tk, us)) := hD
    refine nv_if_eq (pc := 5) (tgt := 17) (x := 0) hx hb (by decide) d_X_powerOn_5 (by decide) (fun _ => ?_) (fun q => absurd q (by decide))
    refine lv_iconst (pc := 17) (v := (nI 0)) hx hb d_X_powerOn_17 (by decide) ?_
    exact retZ (st, nx, fr, fi, mn, rc, tk, us) hx hb hr hlk hK hP hD hS (by decide) (by simp [X_powerOn]) d_X_powerOn_18
  | some j =>
    obtain ⟨rfl, hj⟩ := ha
    refine lv_aload_n (pc := 0) hx hb d_X_powerOn_0 rfl (lv_at hl 0 rfl) ?_
    refine lv_iload_n (pc := 1) hx hb d_X_powerOn_1 rfl (lv_at hl 1 rfl) ?_
    refine cllI (pc := 2) (As := [.int (nI j)]) (rest := []) (wr := []) hx hb hml hown hts hK hP hD hS hA hl.1 (c_X_isStation l D cA h H.size N C st nx fr fi mn rc tk us (nI j) (some j) hN ⟨rfl, hj⟩) [0, 1, 2, 3, 4, 5, 6] [] rfl rfl (by decide) (by decide) (by decide) rfl rfl rfl (goodV tw_51 tw_53 ts_X_isStation tw_1 tw_54) (na := 1) (by decide +kernel) rfl ⟨rfl, rfl, Nat.le_of_ble_eq_true rfl, Nat.le_of_ble_eq_true rfl⟩ (Nat.le_of_ble_eq_true rfl) ⟨Nat.zero_le _, Nat.zero_le _⟩ rfl d_X_powerOn_2 (fun r u H locs hw hP hD hS => ?_)
    obtain ⟨rfl, rfl⟩ := hw
    have hP : va_P D classes (wX cA h N C (st, nx, fr, fi, mn, rc, tk, us)) H := hP
    have hD : va_D A (wX cA h N C (st, nx, fr, fi, mn, rc, tk, us)) := hD
    refine nv_if_eq (pc := 5) (tgt := 17) (x := 1) hx hb (by decide) d_X_powerOn_5 (by decide) (fun q => absurd q (by decide)) (fun _ => ?_)
    refine lv_aload_n (pc := 8) hx hb d_X_powerOn_8 rfl (lv_at hl 0 rfl) ?_
    refine gX (pc := 9) hx hb hts hown hK hP 2 (v := .ref (h 1)) rfl (by decide) tw_13 d_X_powerOn_9 ?_
    refine lv_iload_n (pc := 12) hx hb d_X_powerOn_12 rfl (lv_at hl 1 rfl) ?_
    refine nv_ald (pc := 13) (f := st) (j := j) (v := st j) hx hb hK hP 1 rfl (by omega) (by decide) rfl d_X_powerOn_13 ?_
    refine nv_if_eq (pc := 14) (tgt := 19) (x := st j) hx hb (by have := hst j; omega) d_X_powerOn_14 (by decide) (fun c_14 => ?_) (fun c_14 => ?_)
    · refine lv_aload_n (pc := 19) hx hb d_X_powerOn_19 rfl (lv_at hl 0 rfl) ?_
      refine gX (pc := 20) hx hb hts hown hK hP 2 (v := .ref (h 1)) rfl (by decide) tw_13 d_X_powerOn_20 ?_
      refine lv_iload_n (pc := 23) hx hb d_X_powerOn_23 rfl (lv_at hl 1 rfl) ?_
      refine lv_iconst (pc := 24) (v := (nI 2)) hx hb d_X_powerOn_24 (by decide) ?_
      refine nv_ast (pc := 25) (f := st) (j := j) (v := 2) hx hb hK hP hD hS 1 rfl (upN st j 2) (by omega) (by decide) rfl d_X_powerOn_25 (fun H locs hP hD hS => ?_)
      have hP : va_P D classes (wX cA h N C ((upN st j 2), nx, fr, fi, mn, rc, tk, us)) H := hP
      have hD : va_D A (wX cA h N C ((upN st j 2), nx, fr, fi, mn, rc, tk, us)) := hD
      refine lv_iconst (pc := 26) (v := (nI 1)) hx hb d_X_powerOn_26 (by decide) ?_
      exact retZ ((upN st j 2), nx, fr, fi, mn, rc, tk, us) hx hb hr hlk hK hP hD hS (by decide) (by simp [X_powerOn, c_14]) d_X_powerOn_27
    · refine lv_iconst (pc := 17) (v := (nI 0)) hx hb d_X_powerOn_17 (by decide) ?_
      exact retZ (st, nx, fr, fi, mn, rc, tk, us) hx hb hr hlk hK hP hD hS (by decide) (by simp [X_powerOn, c_14]) d_X_powerOn_18
set_option maxHeartbeats 4000000 in
set_option maxRecDepth 100000 in
/-- successor -/
theorem c_M_successor (l : Launch) (D : va_G) (cA : ClassId) (h : Nat → Nat) (sz N C : Nat) (st nx : Nat → Nat) (fr : Nat → Int32) (mn : Nat → Nat) (rc : Nat → Int32) (tk : Option Nat) (us : Bool) (p0 : Int32) (a : Option Nat) (hN : 2 ≤ N ∧ N ≤ 16) (hst : ∀ j, st j ≤ 3) (ha : ixR N p0 a) : MetI l y_M_successor b_M_successor 2 (some .int) rq1 D cA (h 0) [.int p0] (wM cA h N C (st, nx, fr, mn, rc, tk, us)) (wM cA h N C) (fun r u => r = q_successor st nx a ∧ u = (st, nx, fr, mn, rc, tk, us)) sz := by
  refine metI (own := R_M) (by decide) rfl (Nat.le_of_ble_eq_true rfl) ?_
  intro p e s m below meth c A ls H locs B hP hD hS hl
  obtain ⟨hx, hb, hr, hlk, hml, hown, hts, hK, hA⟩ := B
  have hl : lv_has ls 2 [(0, .ref (h 0)), (1, .int p0)] := hl
  cases a with
  | none =>
    refine lv_aload_n (pc := 0) hx hb d_M_successor_0 rfl (lv_at hl 0 rfl) ?_
    refine lv_iload_n (pc := 1) hx hb d_M_successor_1 rfl (lv_at hl 1 rfl) ?_
    refine cllI (pc := 2) (As := [.int p0]) (rest := []) (wr := []) hx hb hml hown hts hK hP hD hS hA hl.1 (c_M_isStation l D cA h H.size N C st nx fr mn rc tk us p0 none hN ha) [0, 1, 2, 3, 4, 5] [] rfl rfl (by decide) (by decide) (by decide) rfl rfl rfl (goodV tw_169 tw_171 ts_M_isStation tw_2 tw_172) (na := 1) (by decide +kernel) rfl ⟨rfl, rfl, Nat.le_of_ble_eq_true rfl, Nat.le_of_ble_eq_true rfl⟩ (Nat.le_of_ble_eq_true rfl) ⟨Nat.zero_le _, Nat.zero_le _⟩ rfl d_M_successor_2 (fun r u H locs hw hP hD hS => ?_)
    obtain ⟨rfl, rfl⟩ := hw
    have hP : va_P D classes (wM cA h N C (st, nx, fr, mn, rc, tk, us)) H := hP
    have hD : va_D A (wM cA h N C (st, nx, fr, mn, rc, tk, us)) := hD
    refine nv_if_eq (pc := 5) (tgt := 27) (x := 0) hx hb (by decide) d_M_successor_5 (by decide) (fun _ => ?_) (fun q => absurd q (by decide))
    refine lv_iconst (pc := 27) (v := -1) hx hb d_M_successor_27 (by decide) ?_
    exact retI (st, nx, fr, mn, rc, tk, us) hx hb hr hlk hK hP hD hS (by simp [q_successor]) d_M_successor_28
  | some j =>
    obtain ⟨rfl, hj⟩ := ha
    refine lv_aload_n (pc := 0) hx hb d_M_successor_0 rfl (lv_at hl 0 rfl) ?_
    refine lv_iload_n (pc := 1) hx hb d_M_successor_1 rfl (lv_at hl 1 rfl) ?_
    refine cllI (pc := 2) (As := [.int (nI j)]) (rest := []) (wr := []) hx hb hml hown hts hK hP hD hS hA hl.1 (c_M_isStation l D cA h H.size N C st nx fr mn rc tk us (nI j) (some j) hN ⟨rfl, hj⟩) [0, 1, 2, 3, 4, 5] [] rfl rfl (by decide) (by decide) (by decide) rfl rfl rfl (goodV tw_169 tw_171 ts_M_isStation tw_2 tw_172) (na := 1) (by decide +kernel) rfl ⟨rfl, rfl, Nat.le_of_ble_eq_true rfl, Nat.le_of_ble_eq_true rfl⟩ (Nat.le_of_ble_eq_true rfl) ⟨Nat.zero_le _, Nat.zero_le _⟩ rfl d_M_successor_2 (fun r u H locs hw hP hD hS => ?_)
    obtain ⟨rfl, rfl⟩ := hw
    have hP : va_P D classes (wM cA h N C (st, nx, fr, mn, rc, tk, us)) H := hP
    have hD : va_D A (wM cA h N C (st, nx, fr, mn, rc, tk, us)) := hD
    refine nv_if_eq (pc := 5) (tgt := 27) (x := 1) hx hb (by decide) d_M_successor_5 (by decide) (fun q => absurd q (by decide)) (fun _ => ?_)
    refine lv_aload_n (pc := 8) hx hb d_M_successor_8 rfl (lv_at hl 0 rfl) ?_
    refine gM (pc := 9) hx hb hts hown hK hP 2 (v := .ref (h 1)) rfl (by decide) tw_138 d_M_successor_9 ?_
    refine lv_iload_n (pc := 12) hx hb d_M_successor_12 rfl (lv_at hl 1 rfl) ?_
    refine nv_ald (pc := 13) (f := st) (j := j) (v := st j) hx hb hK hP 1 rfl (by omega) (by decide) rfl d_M_successor_13 ?_
    refine lv_iconst (pc := 14) (v := (nI 3)) hx hb d_M_successor_14 (by decide) ?_
    refine nv_icmp_ne (pc := 15) (tgt := 27) (x := st j) (y := 3) hx hb (by have := hst j; omega) (by decide) d_M_successor_15 (by decide) (fun c_15 => ?_) (fun c_15 => ?_)
    · refine lv_iconst (pc := 27) (v := -1) hx hb d_M_successor_27 (by decide) ?_
      exact retI (st, nx, fr, mn, rc, tk, us) hx hb hr hlk hK hP hD hS (by simp [q_successor, c_15]) d_M_successor_28
    · refine lv_aload_n (pc := 18) hx hb d_M_successor_18 rfl (lv_at hl 0 rfl) ?_
      refine gM (pc := 19) hx hb hts hown hK hP 3 (v := .ref (h 2)) rfl (by decide) tw_139 d_M_successor_19 ?_
      refine lv_iload_n (pc := 22) hx hb d_M_successor_22 rfl (lv_at hl 1 rfl) ?_
      refine nv_ald (pc := 23) (f := nx) (j := j) (v := nx j) hx hb hK hP 2 rfl (by omega) (by decide) rfl d_M_successor_23 ?_
      refine lv_goto (pc := 24) (tgt := 28) hx hb d_M_successor_24 (by decide) ?_
      exact retI (st, nx, fr, mn, rc, tk, us) hx hb hr hlk hK hP hD hS (by simp [q_successor, c_15]) d_M_successor_28
set_option maxHeartbeats 4000000 in
set_option maxRecDepth 100000 in
/-- receivedBy -/
theorem c_M_receivedBy (l : Launch) (D : va_G) (cA : ClassId) (h : Nat → Nat) (sz N C : Nat) (st nx : Nat → Nat) (fr : Nat → Int32) (mn : Nat → Nat) (rc : Nat → Int32) (tk : Option Nat) (us : Bool) (p0 : Int32) (a : Option Nat) (hN : 2 ≤ N ∧ N ≤ 16) (hst : ∀ j, st j ≤ 3) (ha : ixR N p0 a) : MetI l y_M_receivedBy b_M_receivedBy 2 (some .int) rq1 D cA (h 0) [.int p0] (wM cA h N C (st, nx, fr, mn, rc, tk, us)) (wM cA h N C) (fun r u => r = q_received rc a ∧ u = (st, nx, fr, mn, rc, tk, us)) sz := by
  refine metI (own := R_M) (by decide) rfl (Nat.le_of_ble_eq_true rfl) ?_
  intro p e s m below meth c A ls H locs B hP hD hS hl
  obtain ⟨hx, hb, hr, hlk, hml, hown, hts, hK, hA⟩ := B
  have hl : lv_has ls 2 [(0, .ref (h 0)), (1, .int p0)] := hl
  cases a with
  | none =>
    refine lv_aload_n (pc := 0) hx hb d_M_receivedBy_0 rfl (lv_at hl 0 rfl) ?_
    refine lv_iload_n (pc := 1) hx hb d_M_receivedBy_1 rfl (lv_at hl 1 rfl) ?_
    refine cllI (pc := 2) (As := [.int p0]) (rest := []) (wr := []) hx hb hml hown hts hK hP hD hS hA hl.1 (c_M_isStation l D cA h H.size N C st nx fr mn rc tk us p0 none hN ha) [0, 1, 2, 3, 4, 5] [] rfl rfl (by decide) (by decide) (by decide) rfl rfl rfl (goodV tw_169 tw_171 ts_M_isStation tw_2 tw_172) (na := 1) (by decide +kernel) rfl ⟨rfl, rfl, Nat.le_of_ble_eq_true rfl, Nat.le_of_ble_eq_true rfl⟩ (Nat.le_of_ble_eq_true rfl) ⟨Nat.zero_le _, Nat.zero_le _⟩ rfl d_M_receivedBy_2 (fun r u H locs hw hP hD hS => ?_)
    obtain ⟨rfl, rfl⟩ := hw
    have hP : va_P D classes (wM cA h N C (st, nx, fr, mn, rc, tk, us)) H := hP
    have hD : va_D A (wM cA h N C (st, nx, fr, mn, rc, tk, us)) := hD
    refine nv_if_eq (pc := 5) (tgt := 17) (x := 0) hx hb (by decide) d_M_receivedBy_5 (by decide) (fun _ => ?_) (fun q => absurd q (by decide))
    refine lv_iconst (pc := 17) (v := (nI 0)) hx hb d_M_receivedBy_17 (by decide) ?_
    exact retI (st, nx, fr, mn, rc, tk, us) hx hb hr hlk hK hP hD hS (by simp [q_received]) d_M_receivedBy_18
  | some j =>
    obtain ⟨rfl, hj⟩ := ha
    refine lv_aload_n (pc := 0) hx hb d_M_receivedBy_0 rfl (lv_at hl 0 rfl) ?_
    refine lv_iload_n (pc := 1) hx hb d_M_receivedBy_1 rfl (lv_at hl 1 rfl) ?_
    refine cllI (pc := 2) (As := [.int (nI j)]) (rest := []) (wr := []) hx hb hml hown hts hK hP hD hS hA hl.1 (c_M_isStation l D cA h H.size N C st nx fr mn rc tk us (nI j) (some j) hN ⟨rfl, hj⟩) [0, 1, 2, 3, 4, 5] [] rfl rfl (by decide) (by decide) (by decide) rfl rfl rfl (goodV tw_169 tw_171 ts_M_isStation tw_2 tw_172) (na := 1) (by decide +kernel) rfl ⟨rfl, rfl, Nat.le_of_ble_eq_true rfl, Nat.le_of_ble_eq_true rfl⟩ (Nat.le_of_ble_eq_true rfl) ⟨Nat.zero_le _, Nat.zero_le _⟩ rfl d_M_receivedBy_2 (fun r u H locs hw hP hD hS => ?_)
    obtain ⟨rfl, rfl⟩ := hw
    have hP : va_P D classes (wM cA h N C (st, nx, fr, mn, rc, tk, us)) H := hP
    have hD : va_D A (wM cA h N C (st, nx, fr, mn, rc, tk, us)) := hD
    refine nv_if_eq (pc := 5) (tgt := 17) (x := 1) hx hb (by decide) d_M_receivedBy_5 (by decide) (fun q => absurd q (by decide)) (fun _ => ?_)
    refine lv_aload_n (pc := 8) hx hb d_M_receivedBy_8 rfl (lv_at hl 0 rfl) ?_
    refine gM (pc := 9) hx hb hts hown hK hP 6 (v := .ref (h 5)) rfl (by decide) tw_142 d_M_receivedBy_9 ?_
    refine lv_iload_n (pc := 12) hx hb d_M_receivedBy_12 rfl (lv_at hl 1 rfl) ?_
    refine ni_ald (pc := 13) (f := rc) (j := j) (v := rc j) hx hb hK hP 5 rfl (by omega) (by decide) rfl d_M_receivedBy_13 ?_
    refine lv_goto (pc := 14) (tgt := 18) hx hb d_M_receivedBy_14 (by decide) ?_
    exact retI (st, nx, fr, mn, rc, tk, us) hx hb hr hlk hK hP hD hS (by simp [q_received]) d_M_receivedBy_18
set_option maxHeartbeats 4000000 in
set_option maxRecDepth 100000 in
/-- state -/
theorem c_M_state (l : Launch) (D : va_G) (cA : ClassId) (h : Nat → Nat) (sz N C : Nat) (st nx : Nat → Nat) (fr : Nat → Int32) (mn : Nat → Nat) (rc : Nat → Int32) (tk : Option Nat) (us : Bool) (p0 : Int32) (a : Option Nat) (hN : 2 ≤ N ∧ N ≤ 16) (hst : ∀ j, st j ≤ 3) (ha : ixR N p0 a) : MetI l y_M_state b_M_state 2 (some .int) rq1 D cA (h 0) [.int p0] (wM cA h N C (st, nx, fr, mn, rc, tk, us)) (wM cA h N C) (fun r u => r = q_state st a ∧ u = (st, nx, fr, mn, rc, tk, us)) sz := by
  refine metI (own := R_M) (by decide) rfl (Nat.le_of_ble_eq_true rfl) ?_
  intro p e s m below meth c A ls H locs B hP hD hS hl
  obtain ⟨hx, hb, hr, hlk, hml, hown, hts, hK, hA⟩ := B
  have hl : lv_has ls 2 [(0, .ref (h 0)), (1, .int p0)] := hl
  cases a with
  | none =>
    refine lv_aload_n (pc := 0) hx hb d_M_state_0 rfl (lv_at hl 0 rfl) ?_
    refine lv_iload_n (pc := 1) hx hb d_M_state_1 rfl (lv_at hl 1 rfl) ?_
    refine cllI (pc := 2) (As := [.int p0]) (rest := []) (wr := []) hx hb hml hown hts hK hP hD hS hA hl.1 (c_M_isStation l D cA h H.size N C st nx fr mn rc tk us p0 none hN ha) [0, 1, 2, 3, 4, 5] [] rfl rfl (by decide) (by decide) (by decide) rfl rfl rfl (goodV tw_169 tw_171 ts_M_isStation tw_2 tw_172) (na := 1) (by decide +kernel) rfl ⟨rfl, rfl, Nat.le_of_ble_eq_true rfl, Nat.le_of_ble_eq_true rfl⟩ (Nat.le_of_ble_eq_true rfl) ⟨Nat.zero_le _, Nat.zero_le _⟩ rfl d_M_state_2 (fun r u H locs hw hP hD hS => ?_)
    obtain ⟨rfl, rfl⟩ := hw
    have hP : va_P D classes (wM cA h N C (st, nx, fr, mn, rc, tk, us)) H := hP
    have hD : va_D A (wM cA h N C (st, nx, fr, mn, rc, tk, us)) := hD
    refine nv_if_eq (pc := 5) (tgt := 17) (x := 0) hx hb (by decide) d_M_state_5 (by decide) (fun _ => ?_) (fun q => absurd q (by decide))
    refine lv_iconst (pc := 17) (v := -1) hx hb d_M_state_17 (by decide) ?_
    exact retI (st, nx, fr, mn, rc, tk, us) hx hb hr hlk hK hP hD hS (by simp [q_state]) d_M_state_18
  | some j =>
    obtain ⟨rfl, hj⟩ := ha
    refine lv_aload_n (pc := 0) hx hb d_M_state_0 rfl (lv_at hl 0 rfl) ?_
    refine lv_iload_n (pc := 1) hx hb d_M_state_1 rfl (lv_at hl 1 rfl) ?_
    refine cllI (pc := 2) (As := [.int (nI j)]) (rest := []) (wr := []) hx hb hml hown hts hK hP hD hS hA hl.1 (c_M_isStation l D cA h H.size N C st nx fr mn rc tk us (nI j) (some j) hN ⟨rfl, hj⟩) [0, 1, 2, 3, 4, 5] [] rfl rfl (by decide) (by decide) (by decide) rfl rfl rfl (goodV tw_169 tw_171 ts_M_isStation tw_2 tw_172) (na := 1) (by decide +kernel) rfl ⟨rfl, rfl, Nat.le_of_ble_eq_true rfl, Nat.le_of_ble_eq_true rfl⟩ (Nat.le_of_ble_eq_true rfl) ⟨Nat.zero_le _, Nat.zero_le _⟩ rfl d_M_state_2 (fun r u H locs hw hP hD hS => ?_)
    obtain ⟨rfl, rfl⟩ := hw
    have hP : va_P D classes (wM cA h N C (st, nx, fr, mn, rc, tk, us)) H := hP
    have hD : va_D A (wM cA h N C (st, nx, fr, mn, rc, tk, us)) := hD
    refine nv_if_eq (pc := 5) (tgt := 17) (x := 1) hx hb (by decide) d_M_state_5 (by decide) (fun q => absurd q (by decide)) (fun _ => ?_)
    refine lv_aload_n (pc := 8) hx hb d_M_state_8 rfl (lv_at hl 0 rfl) ?_
    refine gM (pc := 9) hx hb hts hown hK hP 2 (v := .ref (h 1)) rfl (by decide) tw_138 d_M_state_9 ?_
    refine lv_iload_n (pc := 12) hx hb d_M_state_12 rfl (lv_at hl 1 rfl) ?_
    refine nv_ald (pc := 13) (f := st) (j := j) (v := st j) hx hb hK hP 1 rfl (by omega) (by decide) rfl d_M_state_13 ?_
    refine lv_goto (pc := 14) (tgt := 18) hx hb d_M_state_14 (by decide) ?_
    exact retI (st, nx, fr, mn, rc, tk, us) hx hb hr hlk hK hP hD hS (by simp [q_state]) d_M_state_18
set_option maxHeartbeats 4000000 in
set_option maxRecDepth 100000 in
/-- waiting -/
theorem c_M_waiting (l : Launch) (D : va_G) (cA : ClassId) (h : Nat → Nat) (sz N C : Nat) (st nx : Nat → Nat) (fr : Nat → Int32) (mn : Nat → Nat) (rc : Nat → Int32) (tk : Option Nat) (us : Bool) (p0 : Int32) (a : Option Nat) (hN : 2 ≤ N ∧ N ≤ 16) (hst : ∀ j, st j ≤ 3) (ha : ixR N p0 a) : MetI l y_M_waiting b_M_waiting 2 (some .int) rq1 D cA (h 0) [.int p0] (wM cA h N C (st, nx, fr, mn, rc, tk, us)) (wM cA h N C) (fun r u => r = q_waiting mn a ∧ u = (st, nx, fr, mn, rc, tk, us)) sz := by
  refine metI (own := R_M) (by decide) rfl (Nat.le_of_ble_eq_true rfl) ?_
  intro p e s m below meth c A ls H locs B hP hD hS hl
  obtain ⟨hx, hb, hr, hlk, hml, hown, hts, hK, hA⟩ := B
  have hl : lv_has ls 2 [(0, .ref (h 0)), (1, .int p0)] := hl
  cases a with
  | none =>
    refine lv_aload_n (pc := 0) hx hb d_M_waiting_0 rfl (lv_at hl 0 rfl) ?_
    refine lv_iload_n (pc := 1) hx hb d_M_waiting_1 rfl (lv_at hl 1 rfl) ?_
    refine cllI (pc := 2) (As := [.int p0]) (rest := []) (wr := []) hx hb hml hown hts hK hP hD hS hA hl.1 (c_M_isStation l D cA h H.size N C st nx fr mn rc tk us p0 none hN ha) [0, 1, 2, 3, 4, 5] [] rfl rfl (by decide) (by decide) (by decide) rfl rfl rfl (goodV tw_169 tw_171 ts_M_isStation tw_2 tw_172) (na := 1) (by decide +kernel) rfl ⟨rfl, rfl, Nat.le_of_ble_eq_true rfl, Nat.le_of_ble_eq_true rfl⟩ (Nat.le_of_ble_eq_true rfl) ⟨Nat.zero_le _, Nat.zero_le _⟩ rfl d_M_waiting_2 (fun r u H locs hw hP hD hS => ?_)
    obtain ⟨rfl, rfl⟩ := hw
    have hP : va_P D classes (wM cA h N C (st, nx, fr, mn, rc, tk, us)) H := hP
    have hD : va_D A (wM cA h N C (st, nx, fr, mn, rc, tk, us)) := hD
    refine nv_if_eq (pc := 5) (tgt := 17) (x := 0) hx hb (by decide) d_M_waiting_5 (by decide) (fun _ => ?_) (fun q => absurd q (by decide))
    refine lv_iconst (pc := 17) (v := (nI 0)) hx hb d_M_waiting_17 (by decide) ?_
    exact retI (st, nx, fr, mn, rc, tk, us) hx hb hr hlk hK hP hD hS (by simp [q_waiting]) d_M_waiting_18
  | some j =>
    obtain ⟨rfl, hj⟩ := ha
    refine lv_aload_n (pc := 0) hx hb d_M_waiting_0 rfl (lv_at hl 0 rfl) ?_
    refine lv_iload_n (pc := 1) hx hb d_M_waiting_1 rfl (lv_at hl 1 rfl) ?_
    refine cllI (pc := 2) (As := [.int (nI j)]) (rest := []) (wr := []) hx hb hml hown hts hK hP hD hS hA hl.1 (c_M_isStation l D cA h H.size N C st nx fr mn rc tk us (nI j) (some j) hN ⟨rfl, hj⟩) [0, 1, 2, 3, 4, 5] [] rfl rfl (by decide) (by decide) (by decide) rfl rfl rfl (goodV tw_169 tw_171 ts_M_isStation tw_2 tw_172) (na := 1) (by decide +kernel) rfl ⟨rfl, rfl, Nat.le_of_ble_eq_true rfl, Nat.le_of_ble_eq_true rfl⟩ (Nat.le_of_ble_eq_true rfl) ⟨Nat.zero_le _, Nat.zero_le _⟩ rfl d_M_waiting_2 (fun r u H locs hw hP hD hS => ?_)
    obtain ⟨rfl, rfl⟩ := hw
    have hP : va_P D classes (wM cA h N C (st, nx, fr, mn, rc, tk, us)) H := hP
    have hD : va_D A (wM cA h N C (st, nx, fr, mn, rc, tk, us)) := hD
    refine nv_if_eq (pc := 5) (tgt := 17) (x := 1) hx hb (by decide) d_M_waiting_5 (by decide) (fun q => absurd q (by decide)) (fun _ => ?_)
    refine lv_aload_n (pc := 8) hx hb d_M_waiting_8 rfl (lv_at hl 0 rfl) ?_
    refine gM (pc := 9) hx hb hts hown hK hP 5 (v := .ref (h 4)) rfl (by decide) tw_141 d_M_waiting_9 ?_
    refine lv_iload_n (pc := 12) hx hb d_M_waiting_12 rfl (lv_at hl 1 rfl) ?_
    refine nv_ald (pc := 13) (f := mn) (j := j) (v := mn j) hx hb hK hP 4 rfl (by omega) (by decide) rfl d_M_waiting_13 ?_
    refine lv_goto (pc := 14) (tgt := 18) hx hb d_M_waiting_14 (by decide) ?_
    exact retI (st, nx, fr, mn, rc, tk, us) hx hb hr hlk hK hP hD hS (by simp [q_waiting]) d_M_waiting_18
set_option maxHeartbeats 4000000 in
set_option maxRecDepth 100000 in
/-- powerOn -/
theorem c_M_powerOn (l : Launch) (D : va_G) (cA : ClassId) (h : Nat → Nat) (sz N C : Nat) (st nx : Nat → Nat) (fr : Nat → Int32) (mn : Nat → Nat) (rc : Nat → Int32) (tk : Option Nat) (us : Bool) (p0 : Int32) (a : Option Nat) (hN : 2 ≤ N ∧ N ≤ 16) (hst : ∀ j, st j ≤ 3) (ha : ixR N p0 a) : MetI l y_M_powerOn b_M_powerOn 2 (some .boolean) rq1 D cA (h 0) [.int p0] (wM cA h N C (st, nx, fr, mn, rc, tk, us)) (wM cA h N C) (fun r u => (r, u) = M_powerOn st nx fr mn rc tk us a) sz := by
  refine metI (own := R_M) (by decide) rfl (Nat.le_of_ble_eq_true rfl) ?_
  intro p e s m below meth c A ls H locs B hP hD hS hl
  obtain ⟨hx, hb, hr, hlk, hml, hown, hts, hK, hA⟩ := B
  have hl : lv_has ls 2 [(0, .ref (h 0)), (1, .int p0)] := hl
  cases a with
  | none =>
    refine lv_aload_n (pc := 0) hx hb d_M_powerOn_0 rfl (lv_at hl 0 rfl) ?_
    refine lv_iload_n (pc := 1) hx hb d_M_powerOn_1 rfl (lv_at hl 1 rfl) ?_
    refine cllI (pc := 2) (As := [.int p0]) (rest := []) (wr := []) hx hb hml hown hts hK hP hD hS hA hl.1 (c_M_isStation l D cA h H.size N C st nx fr mn rc tk us p0 none hN ha) [0, 1, 2, 3, 4, 5] [] rfl rfl (by decide) (by decide) (by decide) rfl rfl rfl (goodV tw_169 tw_171 ts_M_isStation tw_2 tw_172) (na := 1) (by decide +kernel) rfl ⟨rfl, rfl, Nat.le_of_ble_eq_true rfl, Nat.le_of_ble_eq_true rfl⟩ (Nat.le_of_ble_eq_true rfl) ⟨Nat.zero_le _, Nat.zero_le _⟩ rfl d_M_powerOn_2 (fun r u H locs hw hP hD hS => ?_)
    obtain ⟨rfl, rfl⟩ := hw
    have hP : va_P D classes (wM cA h N C (st, nx, fr, mn, rc, tk, us)) H := hP
    have hD : va_D A (wM cA h N C (st, nx, fr, mn, rc, tk, us)) := hD
    refine nv_if_eq (pc := 5) (tgt := 17) (x := 0) hx hb (by decide) d_M_powerOn_5 (by decide) (fun _ => ?_) (fun q => absurd q (by decide))
    refine lv_iconst (pc := 17) (v := (nI 0)) hx hb d_M_powerOn_17 (by decide) ?_
    exact retZ (st, nx, fr, mn, rc, tk, us) hx hb hr hlk hK hP hD hS (by decide) (by simp [M_powerOn]) d_M_powerOn_18
  | some j =>
    obtain ⟨rfl, hj⟩ := ha
    refine lv_aload_n (pc := 0) hx hb d_M_powerOn_0 rfl (lv_at hl 0 rfl) ?_
    refine lv_iload_n (pc := 1) hx hb d_M_powerOn_1 rfl (lv_at hl 1 rfl) ?_
    refine cllI (pc := 2) (As := [.int (nI j)]) (rest := []) (wr := []) hx hb hml hown hts hK hP hD hS hA hl.1 (c_M_isStation l D cA h H.size N C st nx fr mn rc tk us (nI j) (some j) hN ⟨rfl, hj⟩) [0, 1, 2, 3, 4, 5] [] rfl rfl (by decide) (by decide) (by decide) rfl rfl rfl (goodV tw_169 tw_171 ts_M_isStation tw_2 tw_172) (na := 1) (by decide +kernel) rfl ⟨rfl, rfl, Nat.le_of_ble_eq_true rfl, Nat.le_of_ble_eq_true rfl⟩ (Nat.le_of_ble_eq_true rfl) ⟨Nat.zero_le _, Nat.zero_le _⟩ rfl d_M_powerOn_2 (fun r u H locs hw hP hD hS => ?_)
    obtain ⟨rfl, rfl⟩ := hw
    have hP : va_P D classes (wM cA h N C (st, nx, fr, mn, rc, tk, us)) H := hP
    have hD : va_D A (wM cA h N C (st, nx, fr, mn, rc, tk, us)) := hD
    refine nv_if_eq (pc := 5) (tgt := 17) (x := 1) hx hb (by decide) d_M_powerOn_5 (by decide) (fun q => absurd q (by decide)) (fun _ => ?_)
    refine lv_aload_n (pc := 8) hx hb d_M_powerOn_8 rfl (lv_at hl 0 rfl) ?_
    refine gM (pc := 9) hx hb hts hown hK hP 2 (v := .ref (h 1)) rfl (by decide) tw_138 d_M_powerOn_9 ?_
    refine lv_iload_n (pc := 12) hx hb d_M_powerOn_12 rfl (lv_at hl 1 rfl) ?_
    refine nv_ald (pc := 13) (f := st) (j := j) (v := st j) hx hb hK hP 1 rfl (by omega) (by decide) rfl d_M_powerOn_13 ?_
    refine nv_if_eq (pc := 14) (tgt := 19) (x := st j) hx hb (by have := hst j; omega) d_M_powerOn_14 (by decide) (fun c_14 => ?_) (fun c_14 => ?_)
    · refine lv_aload_n (pc := 19) hx hb d_M_powerOn_19 rfl (lv_at hl 0 rfl) ?_
      refine gM (pc := 20) hx hb hts hown hK hP 2 (v := .ref (h 1)) rfl (by decide) tw_138 d_M_powerOn_20 ?_
      refine lv_iload_n (pc := 23) hx hb d_M_powerOn_23 rfl (lv_at hl 1 rfl) ?_
      refine lv_iconst (pc := 24) (v := (nI 2)) hx hb d_M_powerOn_24 (by decide) ?_
      refine nv_ast (pc := 25) (f := st) (j := j) (v := 2) hx hb hK hP hD hS 1 rfl (upN st j 2) (by omega) (by decide) rfl d_M_powerOn_25 (fun H locs hP hD hS => ?_)
      have hP : va_P D classes (wM cA h N C ((upN st j 2), nx, fr, mn, rc, tk, us)) H := hP
      have hD : va_D A (wM cA h N C ((upN st j 2), nx, fr, mn, rc, tk, us)) := hD
      refine lv_iconst (pc := 26) (v := (nI 1)) hx hb d_M_powerOn_26 (by decide) ?_
      exact retZ ((upN st j 2), nx, fr, mn, rc, tk, us) hx hb hr hlk hK hP hD hS (by decide) (by simp [M_powerOn, c_14]) d_M_powerOn_27
    · refine lv_iconst (pc := 17) (v := (nI 0)) hx hb d_M_powerOn_17 (by decide) ?_
      exact retZ (st, nx, fr, mn, rc, tk, us) hx hb hr hlk hK hP hD hS (by decide) (by simp [M_powerOn, c_14]) d_M_powerOn_18
end
section
theorem m1_ne {j : Nat} (h : j < 2 ^ 31) : ¬ (-1 : Int32) = nI j := fun q => nI_pos h (by rw [← q]; decide)
set_option maxHeartbeats 4000000 in
set_option maxRecDepth 100000 in
/-- powerOff -/
theorem c_X_powerOff (l : Launch) (D : va_G) (cA : ClassId) (h : Nat → Nat) (sz N C : Nat) (st nx : Nat → Nat) (fr : Nat → Int32) (fi mn : Nat → Nat) (rc : Nat → Int32) (tk : Option Nat) (us : Bool) (p0 : Int32) (a : Option Nat) (hN : 2 ≤ N ∧ N ≤ 16) (hst : ∀ j, st j ≤ 3) (htk : ∀ k, tk = some k → k < N) (ha : ixR N p0 a) : MetI l y_X_powerOff b_X_powerOff 2 (some .boolean) rq2 D cA (h 0) [.int p0] (wX cA h N C (st, nx, fr, fi, mn, rc, tk, us)) (wX cA h N C) (fun r u => (r, u) = X_powerOff st nx fr fi mn rc tk us a) sz := by
  refine metI (own := R_X) (by decide) rfl (Nat.le_of_ble_eq_true rfl) ?_
  intro p e s m below meth c A ls H locs B hP hD hS hl
  obtain ⟨hx, hb, hr, hlk, hml, hown, hts, hK, hA⟩ := B
  have hl : lv_has ls 2 [(0, .ref (h 0)), (1, .int p0)] := hl
  cases a with
  | none =>
    refine lv_aload_n (pc := 0) hx hb d_X_powerOff_0 rfl (lv_at hl 0 rfl) ?_
    refine lv_iload_n (pc := 1) hx hb d_X_powerOff_1 rfl (lv_at hl 1 rfl) ?_
    refine cllI (pc := 2) (As := [.int p0]) (rest := []) (wr := []) hx hb hml hown hts hK hP hD hS hA hl.1 (c_X_isOn l D cA h H.size N C st nx fr fi mn rc tk us p0 none hN hst ha) [0, 1, 2, 3, 4, 5, 6] [] rfl rfl (by decide) (by decide) (by decide) rfl rfl rfl (goodV tw_59 tw_61 ts_X_isOn tw_1 tw_62) (na := 1) (by decide +kernel) rfl ⟨rfl, rfl, Nat.le_of_ble_eq_true rfl, Nat.le_of_ble_eq_true rfl⟩ (Nat.le_of_ble_eq_true rfl) ⟨Nat.zero_le _, Nat.zero_le _⟩ rfl d_X_powerOff_2 (fun r u H locs hw hP hD hS => ?_)
    obtain ⟨rfl, rfl⟩ := hw
    have hP : va_P D classes (wX cA h N C (st, nx, fr, fi, mn, rc, tk, us)) H := hP
    have hD : va_D A (wX cA h N C (st, nx, fr, fi, mn, rc, tk, us)) := hD
    refine nv_if_ne (pc := 5) (tgt := 10) (x := 0) hx hb (by decide) d_X_powerOff_5 (by decide) (fun q => absurd q (by decide)) (fun _ => ?_)
    refine lv_iconst (pc := 8) (v := (nI 0)) hx hb d_X_powerOff_8 (by decide) ?_
    exact retZ (st, nx, fr, fi, mn, rc, tk, us) hx hb hr hlk hK hP hD hS (by decide) (by simp [X_powerOff]) d_X_powerOff_9
  | some j =>
    obtain ⟨rfl, hj⟩ := ha
    cases tk with
    | none =>
      refine lv_aload_n (pc := 0) hx hb d_X_powerOff_0 rfl (lv_at hl 0 rfl) ?_
      refine lv_iload_n (pc := 1) hx hb d_X_powerOff_1 rfl (lv_at hl 1 rfl) ?_
      refine cllI (pc := 2) (As := [.int (nI j)]) (rest := []) (wr := []) hx hb hml hown hts hK hP hD hS hA hl.1 (c_X_isOn l D cA h H.size N C st nx fr fi mn rc none us (nI j) (some j) hN hst ⟨rfl, hj⟩) [0, 1, 2, 3, 4, 5, 6] [] rfl rfl (by decide) (by decide) (by decide) rfl rfl rfl (goodV tw_59 tw_61 ts_X_isOn tw_1 tw_62) (na := 1) (by decide +kernel) rfl ⟨rfl, rfl, Nat.le_of_ble_eq_true rfl, Nat.le_of_ble_eq_true rfl⟩ (Nat.le_of_ble_eq_true rfl) ⟨Nat.zero_le _, Nat.zero_le _⟩ rfl d_X_powerOff_2 (fun r u H locs hw hP hD hS => ?_)
      obtain ⟨rfl, rfl⟩ := hw
      have hP : va_P D classes (wX cA h N C (st, nx, fr, fi, mn, rc, none, us)) H := hP
      have hD : va_D A (wX cA h N C (st, nx, fr, fi, mn, rc, none, us)) := hD
      by_cases h0 : st j = 0
      · rw [show onV st (some j) = nI 0 by simp [onV, h0]]
        refine nv_if_ne (pc := 5) (tgt := 10) (x := 0) hx hb (by decide) d_X_powerOff_5 (by decide) (fun q => absurd q (by decide)) (fun _ => ?_)
        refine lv_iconst (pc := 8) (v := (nI 0)) hx hb d_X_powerOff_8 (by decide) ?_
        exact retZ (st, nx, fr, fi, mn, rc, none, us) hx hb hr hlk hK hP hD hS (by decide) (by simp [X_powerOff, h0]) d_X_powerOff_9
      · rw [show onV st (some j) = nI 1 by simp [onV, h0]]
        refine nv_if_ne (pc := 5) (tgt := 10) (x := 1) hx hb (by decide) d_X_powerOff_5 (by decide) (fun _ => ?_) (fun q => absurd q (by decide))
        refine lv_aload_n (pc := 10) hx hb d_X_powerOff_10 rfl (lv_at hl 0 rfl) ?_
        refine gX (pc := 11) hx hb hts hown hK hP 2 (v := .ref (h 1)) rfl (by decide) tw_13 d_X_powerOff_11 ?_
        refine lv_iload_n (pc := 14) hx hb d_X_powerOff_14 rfl (lv_at hl 1 rfl) ?_
        refine lv_iconst (pc := 15) (v := (nI 0)) hx hb d_X_powerOff_15 (by decide) ?_
        refine nv_ast (pc := 16) (f := st) (j := j) (v := 0) hx hb hK hP hD hS 1 rfl (upN st j 0) (by omega) (by decide) rfl d_X_powerOff_16 (fun H locs hP hD hS => ?_)
        have hP : va_P D classes (wX cA h N C ((upN st j 0), nx, fr, fi, mn, rc, none, us)) H := hP
        have hD : va_D A (wX cA h N C ((upN st j 0), nx, fr, fi, mn, rc, none, us)) := hD
        refine lv_aload_n (pc := 17) hx hb d_X_powerOff_17 rfl (lv_at hl 0 rfl) ?_
        refine gX (pc := 18) hx hb hts hown hK hP 6 (v := .ref (h 5)) rfl (by decide) tw_17 d_X_powerOff_18 ?_
        refine lv_iload_n (pc := 21) hx hb d_X_powerOff_21 rfl (lv_at hl 1 rfl) ?_
        refine lv_iconst (pc := 22) (v := (nI 0)) hx hb d_X_powerOff_22 (by decide) ?_
        refine nv_ast (pc := 23) (f := mn) (j := j) (v := 0) hx hb hK hP hD hS 5 rfl (upN mn j 0) (by omega) (by decide) rfl d_X_powerOff_23 (fun H locs hP hD hS => ?_)
        have hP : va_P D classes (wX cA h N C ((upN st j 0), nx, fr, fi, (upN mn j 0), rc, none, us)) H := hP
        have hD : va_D A (wX cA h N C ((upN st j 0), nx, fr, fi, (upN mn j 0), rc, none, us)) := hD
        refine lv_aload_n (pc := 24) hx hb d_X_powerOff_24 rfl (lv_at hl 0 rfl) ?_
        refine gX (pc := 25) hx hb hts hown hK hP 8 (v := .int (-1)) rfl (by decide) tw_19 d_X_powerOff_25 ?_
        refine lv_iload_n (pc := 28) hx hb d_X_powerOff_28 rfl (lv_at hl 1 rfl) ?_
        refine lv_icmp_ne (pc := 29) (tgt := 37) hx hb d_X_powerOff_29 (by decide) (fun c_29 => ?_) (fun c_29 => absurd c_29 (fun z => absurd z (m1_ne (by omega))))
        refine lv_iconst (pc := 37) (v := (nI 1)) hx hb d_X_powerOff_37 (by decide) ?_
        exact retZ ((upN st j 0), nx, fr, fi, (upN mn j 0), rc, none, us) hx hb hr hlk hK hP hD hS (by decide) (by simp [X_powerOff, h0]) d_X_powerOff_38
    | some k =>
      have hk := htk k rfl
      refine lv_aload_n (pc := 0) hx hb d_X_powerOff_0 rfl (lv_at hl 0 rfl) ?_
      refine lv_iload_n (pc := 1) hx hb d_X_powerOff_1 rfl (lv_at hl 1 rfl) ?_
      refine cllI (pc := 2) (As := [.int (nI j)]) (rest := []) (wr := []) hx hb hml hown hts hK hP hD hS hA hl.1 (c_X_isOn l D cA h H.size N C st nx fr fi mn rc (some k) us (nI j) (some j) hN hst ⟨rfl, hj⟩) [0, 1, 2, 3, 4, 5, 6] [] rfl rfl (by decide) (by decide) (by decide) rfl rfl rfl (goodV tw_59 tw_61 ts_X_isOn tw_1 tw_62) (na := 1) (by decide +kernel) rfl ⟨rfl, rfl, Nat.le_of_ble_eq_true rfl, Nat.le_of_ble_eq_true rfl⟩ (Nat.le_of_ble_eq_true rfl) ⟨Nat.zero_le _, Nat.zero_le _⟩ rfl d_X_powerOff_2 (fun r u H locs hw hP hD hS => ?_)
      obtain ⟨rfl, rfl⟩ := hw
      have hP : va_P D classes (wX cA h N C (st, nx, fr, fi, mn, rc, (some k), us)) H := hP
      have hD : va_D A (wX cA h N C (st, nx, fr, fi, mn, rc, (some k), us)) := hD
      by_cases h0 : st j = 0
      · rw [show onV st (some j) = nI 0 by simp [onV, h0]]
        refine nv_if_ne (pc := 5) (tgt := 10) (x := 0) hx hb (by decide) d_X_powerOff_5 (by decide) (fun q => absurd q (by decide)) (fun _ => ?_)
        refine lv_iconst (pc := 8) (v := (nI 0)) hx hb d_X_powerOff_8 (by decide) ?_
        exact retZ (st, nx, fr, fi, mn, rc, (some k), us) hx hb hr hlk hK hP hD hS (by decide) (by simp [X_powerOff, h0]) d_X_powerOff_9
      · rw [show onV st (some j) = nI 1 by simp [onV, h0]]
        refine nv_if_ne (pc := 5) (tgt := 10) (x := 1) hx hb (by decide) d_X_powerOff_5 (by decide) (fun _ => ?_) (fun q => absurd q (by decide))
        refine lv_aload_n (pc := 10) hx hb d_X_powerOff_10 rfl (lv_at hl 0 rfl) ?_
        refine gX (pc := 11) hx hb hts hown hK hP 2 (v := .ref (h 1)) rfl (by decide) tw_13 d_X_powerOff_11 ?_
        refine lv_iload_n (pc := 14) hx hb d_X_powerOff_14 rfl (lv_at hl 1 rfl) ?_
        refine lv_iconst (pc := 15) (v := (nI 0)) hx hb d_X_powerOff_15 (by decide) ?_
        refine nv_ast (pc := 16) (f := st) (j := j) (v := 0) hx hb hK hP hD hS 1 rfl (upN st j 0) (by omega) (by decide) rfl d_X_powerOff_16 (fun H locs hP hD hS => ?_)
        have hP : va_P D classes (wX cA h N C ((upN st j 0), nx, fr, fi, mn, rc, (some k), us)) H := hP
        have hD : va_D A (wX cA h N C ((upN st j 0), nx, fr, fi, mn, rc, (some k), us)) := hD
        refine lv_aload_n (pc := 17) hx hb d_X_powerOff_17 rfl (lv_at hl 0 rfl) ?_
        refine gX (pc := 18) hx hb hts hown hK hP 6 (v := .ref (h 5)) rfl (by decide) tw_17 d_X_powerOff_18 ?_
        refine lv_iload_n (pc := 21) hx hb d_X_powerOff_21 rfl (lv_at hl 1 rfl) ?_
        refine lv_iconst (pc := 22) (v := (nI 0)) hx hb d_X_powerOff_22 (by decide) ?_
        refine nv_ast (pc := 23) (f := mn) (j := j) (v := 0) hx hb hK hP hD hS 5 rfl (upN mn j 0) (by omega) (by decide) rfl d_X_powerOff_23 (fun H locs hP hD hS => ?_)
        have hP : va_P D classes (wX cA h N C ((upN st j 0), nx, fr, fi, (upN mn j 0), rc, (some k), us)) H := hP
        have hD : va_D A (wX cA h N C ((upN st j 0), nx, fr, fi, (upN mn j 0), rc, (some k), us)) := hD
        refine lv_aload_n (pc := 24) hx hb d_X_powerOff_24 rfl (lv_at hl 0 rfl) ?_
        refine gX (pc := 25) hx hb hts hown hK hP 8 (v := .int (nI k)) rfl (by decide) tw_19 d_X_powerOff_25 ?_
        refine lv_iload_n (pc := 28) hx hb d_X_powerOff_28 rfl (lv_at hl 1 rfl) ?_
        refine nv_icmp_ne (pc := 29) (tgt := 37) (x := k) (y := j) hx hb (by omega) (by omega) d_X_powerOff_29 (by decide) (fun c_29 => ?_) (fun c_29 => ?_)
        · refine lv_iconst (pc := 37) (v := (nI 1)) hx hb d_X_powerOff_37 (by decide) ?_
          exact retZ ((upN st j 0), nx, fr, fi, (upN mn j 0), rc, (some k), us) hx hb hr hlk hK hP hD hS (by decide) (by simp [X_powerOff, h0, c_29]) d_X_powerOff_38
        · refine lv_aload_n (pc := 32) hx hb d_X_powerOff_32 rfl (lv_at hl 0 rfl) ?_
          refine lv_iconst (pc := 33) (v := (tv none)) hx hb d_X_powerOff_33 (by decide) ?_
          refine pX_tok (pc := 34) hx hb hts hown hK hP hD hS none d_X_powerOff_34 (fun H locs hP hD hS => ?_)
          refine lv_iconst (pc := 37) (v := (nI 1)) hx hb d_X_powerOff_37 (by decide) ?_
          exact retZ ((upN st j 0), nx, fr, fi, (upN mn j 0), rc, none, us) hx hb hr hlk hK hP hD hS (by decide) (by simp [X_powerOff, h0, c_29]) d_X_powerOff_38
set_option maxHeartbeats 4000000 in
set_option maxRecDepth 100000 in
/-- queue -/
theorem c_X_queue (l : Launch) (D : va_G) (cA : ClassId) (h : Nat → Nat) (sz N C : Nat) (st nx : Nat → Nat) (fr : Nat → Int32) (fi mn : Nat → Nat) (rc : Nat → Int32) (tk : Option Nat) (us : Bool) (p0 : Int32) (w : Int32) (a : Option Nat) (hN : 2 ≤ N ∧ N ≤ 16) (hst : ∀ j, st j ≤ 3) (hC : 1 ≤ C ∧ C ≤ 8) (hmn : ∀ j, mn j ≤ C) (hfi : ∀ j, fi j < 8) (ha : ixR N p0 a) : MetI l y_X_queue b_X_queue 3 (some .int) rq2 D cA (h 0) [.int p0, .int w] (wX cA h N C (st, nx, fr, fi, mn, rc, tk, us)) (wX cA h N C) (fun r u => (r, u) = X_queue C st nx fr fi mn rc tk us a w) sz := by
  refine metI (own := R_X) (by decide) rfl (Nat.le_of_ble_eq_true rfl) ?_
  intro p e s m below meth c A ls H locs B hP hD hS hl
  obtain ⟨hx, hb, hr, hlk, hml, hown, hts, hK, hA⟩ := B
  have hl : lv_has ls 3 [(0, .ref (h 0)), (1, .int p0), (2, .int w)] := hl
  cases a with
  | none =>
    refine lv_aload_n (pc := 0) hx hb d_X_queue_0 rfl (lv_at hl 0 rfl) ?_
    refine lv_iload_n (pc := 1) hx hb d_X_queue_1 rfl (lv_at hl 1 rfl) ?_
    refine cllI (pc := 2) (As := [.int p0]) (rest := []) (wr := []) hx hb hml hown hts hK hP hD hS hA hl.1 (c_X_isOn l D cA h H.size N C st nx fr fi mn rc tk us p0 none hN hst ha) [0, 1, 2, 3, 4, 5, 6] [] rfl rfl (by decide) (by decide) (by decide) rfl rfl rfl (goodV tw_59 tw_61 ts_X_isOn tw_1 tw_62) (na := 1) (by decide +kernel) rfl ⟨rfl, rfl, Nat.le_of_ble_eq_true rfl, Nat.le_of_ble_eq_true rfl⟩ (Nat.le_of_ble_eq_true rfl) ⟨Nat.zero_le _, Nat.zero_le _⟩ rfl d_X_queue_2 (fun r u H locs hw hP hD hS => ?_)
    obtain ⟨rfl, rfl⟩ := hw
    have hP : va_P D classes (wX cA h N C (st, nx, fr, fi, mn, rc, tk, us)) H := hP
    have hD : va_D A (wX cA h N C (st, nx, fr, fi, mn, rc, tk, us)) := hD
    refine nv_if_ne (pc := 5) (tgt := 10) (x := 0) hx hb (by decide) d_X_queue_5 (by decide) (fun q => absurd q (by decide)) (fun _ => ?_)
    refine lv_iconst (pc := 8) (v := (nI 1)) hx hb d_X_queue_8 (by decide) ?_
    exact retI (st, nx, fr, fi, mn, rc, tk, us) hx hb hr hlk hK hP hD hS (by simp [X_queue]) d_X_queue_9
  | some j =>
    obtain ⟨rfl, hj⟩ := ha
    refine lv_aload_n (pc := 0) hx hb d_X_queue_0 rfl (lv_at hl 0 rfl) ?_
    refine lv_iload_n (pc := 1) hx hb d_X_queue_1 rfl (lv_at hl 1 rfl) ?_
    refine cllI (pc := 2) (As := [.int (nI j)]) (rest := []) (wr := []) hx hb hml hown hts hK hP hD hS hA hl.1 (c_X_isOn l D cA h H.size N C st nx fr fi mn rc tk us (nI j) (some j) hN hst ⟨rfl, hj⟩) [0, 1, 2, 3, 4, 5, 6] [] rfl rfl (by decide) (by decide) (by decide) rfl rfl rfl (goodV tw_59 tw_61 ts_X_isOn tw_1 tw_62) (na := 1) (by decide +kernel) rfl ⟨rfl, rfl, Nat.le_of_ble_eq_true rfl, Nat.le_of_ble_eq_true rfl⟩ (Nat.le_of_ble_eq_true rfl) ⟨Nat.zero_le _, Nat.zero_le _⟩ rfl d_X_queue_2 (fun r u H locs hw hP hD hS => ?_)
    obtain ⟨rfl, rfl⟩ := hw
    have hP : va_P D classes (wX cA h N C (st, nx, fr, fi, mn, rc, tk, us)) H := hP
    have hD : va_D A (wX cA h N C (st, nx, fr, fi, mn, rc, tk, us)) := hD
    by_cases h0 : st j = 0
    · rw [show onV st (some j) = nI 0 by simp [onV, h0]]
      refine nv_if_ne (pc := 5) (tgt := 10) (x := 0) hx hb (by decide) d_X_queue_5 (by decide) (fun q => absurd q (by decide)) (fun _ => ?_)
      refine lv_iconst (pc := 8) (v := (nI 1)) hx hb d_X_queue_8 (by decide) ?_
      exact retI (st, nx, fr, fi, mn, rc, tk, us) hx hb hr hlk hK hP hD hS (by simp [X_queue, h0]) d_X_queue_9
    · rw [show onV st (some j) = nI 1 by simp [onV, h0]]
      refine nv_if_ne (pc := 5) (tgt := 10) (x := 1) hx hb (by decide) d_X_queue_5 (by decide) (fun _ => ?_) (fun q => absurd q (by decide))
      refine lv_aload_n (pc := 10) hx hb d_X_queue_10 rfl (lv_at hl 0 rfl) ?_
      refine gX (pc := 11) hx hb hts hown hK hP 6 (v := .ref (h 5)) rfl (by decide) tw_17 d_X_queue_11 ?_
      refine lv_iload_n (pc := 14) hx hb d_X_queue_14 rfl (lv_at hl 1 rfl) ?_
      refine nv_ald (pc := 15) (f := mn) (j := j) (v := mn j) hx hb hK hP 5 rfl (by omega) (by decide) rfl d_X_queue_15 ?_
      refine lv_aload_n (pc := 16) hx hb d_X_queue_16 rfl (lv_at hl 0 rfl) ?_
      refine gX (pc := 17) hx hb hts hown hK hP 1 (v := .int (nI C)) rfl (by decide) tw_12 d_X_queue_17 ?_
      refine nv_icmp_ne (pc := 20) (tgt := 25) (x := mn j) (y := C) hx hb (by have := hmn j; omega) (by omega) d_X_queue_20 (by decide) (fun c_20 => ?_) (fun c_20 => ?_)
      · refine lv_aload_n (pc := 25) hx hb d_X_queue_25 rfl (lv_at hl 0 rfl) ?_
        refine gX (pc := 26) hx hb hts hown hK hP 4 (v := .ref (h 3)) rfl (by decide) tw_15 d_X_queue_26 ?_
        refine lv_bipush (pc := 29) (v := nI 8) hx hb d_X_queue_29 (by decide) ?_
        refine lv_iload_n (pc := 31) hx hb d_X_queue_31 rfl (lv_at hl 1 rfl) ?_
        refine nv_imul (pc := 32) (x := 8) (y := j) hx hb d_X_queue_32 ?_
        refine lv_aload_n (pc := 33) hx hb d_X_queue_33 rfl (lv_at hl 0 rfl) ?_
        refine gX (pc := 34) hx hb hts hown hK hP 5 (v := .ref (h 4)) rfl (by decide) tw_16 d_X_queue_34 ?_
        refine lv_iload_n (pc := 37) hx hb d_X_queue_37 rfl (lv_at hl 1 rfl) ?_
        refine nv_ald (pc := 38) (f := fi) (j := j) (v := fi j) hx hb hK hP 4 rfl (by omega) (by decide) rfl d_X_queue_38 ?_
        refine lv_aload_n (pc := 39) hx hb d_X_queue_39 rfl (lv_at hl 0 rfl) ?_
        refine gX (pc := 40) hx hb hts hown hK hP 6 (v := .ref (h 5)) rfl (by decide) tw_17 d_X_queue_40 ?_
        refine lv_iload_n (pc := 43) hx hb d_X_queue_43 rfl (lv_at hl 1 rfl) ?_
        refine nv_ald (pc := 44) (f := mn) (j := j) (v := mn j) hx hb hK hP 5 rfl (by omega) (by decide) rfl d_X_queue_44 ?_
        refine nv_iadd (pc := 45) (x := fi j) (y := mn j) hx hb d_X_queue_45 ?_
        refine lv_bipush (pc := 46) (v := nI 8) hx hb d_X_queue_46 (by decide) ?_
        refine nv_irem (pc := 48) (x := (fi j) + (mn j)) (y := 8) hx hb (by have := hmn j; have := hfi j; omega) (by omega) (by decide) d_X_queue_48 ?_
        refine nv_iadd (pc := 49) (x := 8 * j) (y := ((fi j) + (mn j)) % 8) hx hb d_X_queue_49 ?_
        refine lv_iload_n (pc := 50) hx hb d_X_queue_50 rfl (lv_at hl 2 rfl) ?_
        refine ni_ast (pc := 51) (f := fr) (j := (8 * j) + (((fi j) + (mn j)) % 8)) (v := w) hx hb hK hP hD hS 3 rfl (upd fr ((8 * j) + (((fi j) + (mn j)) % 8)) w) (by have := hmn j; have := hfi j; omega) (by decide) rfl d_X_queue_51 (fun H locs hP hD hS => ?_)
        have hP : va_P D classes (wX cA h N C (st, nx, (upd fr ((8 * j) + (((fi j) + (mn j)) % 8)) w), fi, mn, rc, tk, us)) H := hP
        have hD : va_D A (wX cA h N C (st, nx, (upd fr ((8 * j) + (((fi j) + (mn j)) % 8)) w), fi, mn, rc, tk, us)) := hD
        refine lv_aload_n (pc := 52) hx hb d_X_queue_52 rfl (lv_at hl 0 rfl) ?_
        refine gX (pc := 53) hx hb hts hown hK hP 6 (v := .ref (h 5)) rfl (by decide) tw_17 d_X_queue_53 ?_
        refine lv_iload_n (pc := 56) hx hb d_X_queue_56 rfl (lv_at hl 1 rfl) ?_
        refine lv_dup2_11 (pc := 57) hx hb d_X_queue_57 rfl rfl ?_
        refine nv_ald (pc := 58) (f := mn) (j := j) (v := mn j) hx hb hK hP 5 rfl (by omega) (by decide) rfl d_X_queue_58 ?_
        refine lv_iconst (pc := 59) (v := (nI 1)) hx hb d_X_queue_59 (by decide) ?_
        refine nv_iadd (pc := 60) (x := mn j) (y := 1) hx hb d_X_queue_60 ?_
        refine nv_ast (pc := 61) (f := mn) (j := j) (v := (mn j) + 1) hx hb hK hP hD hS 5 rfl (upN mn j ((mn j) + 1)) (by omega) (by decide) rfl d_X_queue_61 (fun H locs hP hD hS => ?_)
        have hP : va_P D classes (wX cA h N C (st, nx, (upd fr ((8 * j) + (((fi j) + (mn j)) % 8)) w), fi, (upN mn j ((mn j) + 1)), rc, tk, us)) H := hP
        have hD : va_D A (wX cA h N C (st, nx, (upd fr ((8 * j) + (((fi j) + (mn j)) % 8)) w), fi, (upN mn j ((mn j) + 1)), rc, tk, us)) := hD
        refine lv_iconst (pc := 62) (v := (nI 0)) hx hb d_X_queue_62 (by decide) ?_
        exact retI (st, nx, (upd fr ((8 * j) + (((fi j) + (mn j)) % 8)) w), fi, (upN mn j ((mn j) + 1)), rc, tk, us) hx hb hr hlk hK hP hD hS (by simp [X_queue, h0, c_20]) d_X_queue_63
      · refine lv_iconst (pc := 23) (v := (nI 2)) hx hb d_X_queue_23 (by decide) ?_
        exact retI (st, nx, fr, fi, mn, rc, tk, us) hx hb hr hlk hK hP hD hS (by simp [X_queue, h0, c_20]) d_X_queue_24
set_option maxHeartbeats 4000000 in
set_option maxRecDepth 100000 in
/-- powerOff -/
theorem c_M_powerOff (l : Launch) (D : va_G) (cA : ClassId) (h : Nat → Nat) (sz N C : Nat) (st nx : Nat → Nat) (fr : Nat → Int32) (mn : Nat → Nat) (rc : Nat → Int32) (tk : Option Nat) (us : Bool) (p0 : Int32) (a : Option Nat) (hN : 2 ≤ N ∧ N ≤ 16) (hst : ∀ j, st j ≤ 3) (htk : ∀ k, tk = some k → k < N) (ha : ixR N p0 a) : MetI l y_M_powerOff b_M_powerOff 2 (some .boolean) rq1 D cA (h 0) [.int p0] (wM cA h N C (st, nx, fr, mn, rc, tk, us)) (wM cA h N C) (fun r u => (r, u) = M_powerOff st nx fr mn rc tk us a) sz := by
  refine metI (own := R_M) (by decide) rfl (Nat.le_of_ble_eq_true rfl) ?_
  intro p e s m below meth c A ls H locs B hP hD hS hl
  obtain ⟨hx, hb, hr, hlk, hml, hown, hts, hK, hA⟩ := B
  have hl : lv_has ls 2 [(0, .ref (h 0)), (1, .int p0)] := hl
  cases a with
  | none =>
    refine lv_aload_n (pc := 0) hx hb d_M_powerOff_0 rfl (lv_at hl 0 rfl) ?_
    refine lv_iload_n (pc := 1) hx hb d_M_powerOff_1 rfl (lv_at hl 1 rfl) ?_
    refine cllI (pc := 2) (As := [.int p0]) (rest := []) (wr := []) hx hb hml hown hts hK hP hD hS hA hl.1 (c_M_isStation l D cA h H.size N C st nx fr mn rc tk us p0 none hN ha) [0, 1, 2, 3, 4, 5] [] rfl rfl (by decide) (by decide) (by decide) rfl rfl rfl (goodV tw_169 tw_171 ts_M_isStation tw_2 tw_172) (na := 1) (by decide +kernel) rfl ⟨rfl, rfl, Nat.le_of_ble_eq_true rfl, Nat.le_of_ble_eq_true rfl⟩ (Nat.le_of_ble_eq_true rfl) ⟨Nat.zero_le _, Nat.zero_le _⟩ rfl d_M_powerOff_2 (fun r u H locs hw hP hD hS => ?_)
    obtain ⟨rfl, rfl⟩ := hw
    have hP : va_P D classes (wM cA h N C (st, nx, fr, mn, rc, tk, us)) H := hP
    have hD : va_D A (wM cA h N C (st, nx, fr, mn, rc, tk, us)) := hD
    refine nv_if_eq (pc := 5) (tgt := 17) (x := 0) hx hb (by decide) d_M_powerOff_5 (by decide) (fun _ => ?_) (fun q => absurd q (by decide))
    refine lv_iconst (pc := 17) (v := (nI 0)) hx hb d_M_powerOff_17 (by decide) ?_
    exact retZ (st, nx, fr, mn, rc, tk, us) hx hb hr hlk hK hP hD hS (by decide) (by simp [M_powerOff]) d_M_powerOff_18
  | some j =>
    obtain ⟨rfl, hj⟩ := ha
    cases tk with
    | none =>
      refine lv_aload_n (pc := 0) hx hb d_M_powerOff_0 rfl (lv_at hl 0 rfl) ?_
      refine lv_iload_n (pc := 1) hx hb d_M_powerOff_1 rfl (lv_at hl 1 rfl) ?_
      refine cllI (pc := 2) (As := [.int (nI j)]) (rest := []) (wr := []) hx hb hml hown hts hK hP hD hS hA hl.1 (c_M_isStation l D cA h H.size N C st nx fr mn rc none us (nI j) (some j) hN ⟨rfl, hj⟩) [0, 1, 2, 3, 4, 5] [] rfl rfl (by decide) (by decide) (by decide) rfl rfl rfl (goodV tw_169 tw_171 ts_M_isStation tw_2 tw_172) (na := 1) (by decide +kernel) rfl ⟨rfl, rfl, Nat.le_of_ble_eq_true rfl, Nat.le_of_ble_eq_true rfl⟩ (Nat.le_of_ble_eq_true rfl) ⟨Nat.zero_le _, Nat.zero_le _⟩ rfl d_M_powerOff_2 (fun r u H locs hw hP hD hS => ?_)
      obtain ⟨rfl, rfl⟩ := hw
      have hP : va_P D classes (wM cA h N C (st, nx, fr, mn, rc, none, us)) H := hP
      have hD : va_D A (wM cA h N C (st, nx, fr, mn, rc, none, us)) := hD
      refine nv_if_eq (pc := 5) (tgt := 17) (x := 1) hx hb (by decide) d_M_powerOff_5 (by decide) (fun q => absurd q (by decide)) (fun _ => ?_)
      refine lv_aload_n (pc := 8) hx hb d_M_powerOff_8 rfl (lv_at hl 0 rfl) ?_
      refine gM (pc := 9) hx hb hts hown hK hP 2 (v := .ref (h 1)) rfl (by decide) tw_138 d_M_powerOff_9 ?_
      refine lv_iload_n (pc := 12) hx hb d_M_powerOff_12 rfl (lv_at hl 1 rfl) ?_
      refine nv_ald (pc := 13) (f := st) (j := j) (v := st j) hx hb hK hP 1 rfl (by omega) (by decide) rfl d_M_powerOff_13 ?_
      refine nv_if_ne (pc := 14) (tgt := 19) (x := st j) hx hb (by have := hst j; omega) d_M_powerOff_14 (by decide) (fun c_14 => ?_) (fun c_14 => ?_)
      · refine lv_aload_n (pc := 19) hx hb d_M_powerOff_19 rfl (lv_at hl 0 rfl) ?_
        refine gM (pc := 20) hx hb hts hown hK hP 2 (v := .ref (h 1)) rfl (by decide) tw_138 d_M_powerOff_20 ?_
        refine lv_iload_n (pc := 23) hx hb d_M_powerOff_23 rfl (lv_at hl 1 rfl) ?_
        refine lv_iconst (pc := 24) (v := (nI 0)) hx hb d_M_powerOff_24 (by decide) ?_
        refine nv_ast (pc := 25) (f := st) (j := j) (v := 0) hx hb hK hP hD hS 1 rfl (upN st j 0) (by omega) (by decide) rfl d_M_powerOff_25 (fun H locs hP hD hS => ?_)
        have hP : va_P D classes (wM cA h N C ((upN st j 0), nx, fr, mn, rc, none, us)) H := hP
        have hD : va_D A (wM cA h N C ((upN st j 0), nx, fr, mn, rc, none, us)) := hD
        refine lv_aload_n (pc := 26) hx hb d_M_powerOff_26 rfl (lv_at hl 0 rfl) ?_
        refine gM (pc := 27) hx hb hts hown hK hP 5 (v := .ref (h 4)) rfl (by decide) tw_141 d_M_powerOff_27 ?_
        refine lv_iload_n (pc := 30) hx hb d_M_powerOff_30 rfl (lv_at hl 1 rfl) ?_
        refine lv_iconst (pc := 31) (v := (nI 0)) hx hb d_M_powerOff_31 (by decide) ?_
        refine nv_ast (pc := 32) (f := mn) (j := j) (v := 0) hx hb hK hP hD hS 4 rfl (upN mn j 0) (by omega) (by decide) rfl d_M_powerOff_32 (fun H locs hP hD hS => ?_)
        have hP : va_P D classes (wM cA h N C ((upN st j 0), nx, fr, (upN mn j 0), rc, none, us)) H := hP
        have hD : va_D A (wM cA h N C ((upN st j 0), nx, fr, (upN mn j 0), rc, none, us)) := hD
        refine lv_aload_n (pc := 33) hx hb d_M_powerOff_33 rfl (lv_at hl 0 rfl) ?_
        refine lv_aload_n (pc := 34) hx hb d_M_powerOff_34 rfl (lv_at hl 0 rfl) ?_
        refine gM (pc := 35) hx hb hts hown hK hP 7 (v := .int (-1)) rfl (by decide) tw_143 d_M_powerOff_35 ?_
        refine lv_iload_n (pc := 38) hx hb d_M_powerOff_38 rfl (lv_at hl 1 rfl) ?_
        refine lv_icmp_ne (pc := 39) (tgt := 46) hx hb d_M_powerOff_39 (by decide) (fun c_39 => ?_) (fun c_39 => absurd c_39 (fun z => absurd z (m1_ne (by omega))))
        refine lv_aload_n (pc := 46) hx hb d_M_powerOff_46 rfl (lv_at hl 0 rfl) ?_
        refine gM (pc := 47) hx hb hts hown hK hP 7 (v := .int (-1)) rfl (by decide) tw_143 d_M_powerOff_47 ?_
        refine pM_tok (pc := 50) hx hb hts hown hK hP hD hS none d_M_powerOff_50 (fun H locs hP hD hS => ?_)
        refine lv_iconst (pc := 53) (v := (nI 1)) hx hb d_M_powerOff_53 (by decide) ?_
        exact retZ ((upN st j 0), nx, fr, (upN mn j 0), rc, none, us) hx hb hr hlk hK hP hD hS (by decide) (by simp [M_powerOff, c_14]) d_M_powerOff_54
      · refine lv_iconst (pc := 17) (v := (nI 0)) hx hb d_M_powerOff_17 (by decide) ?_
        exact retZ (st, nx, fr, mn, rc, none, us) hx hb hr hlk hK hP hD hS (by decide) (by simp [M_powerOff, c_14]) d_M_powerOff_18
    | some k =>
      have hk := htk k rfl
      refine lv_aload_n (pc := 0) hx hb d_M_powerOff_0 rfl (lv_at hl 0 rfl) ?_
      refine lv_iload_n (pc := 1) hx hb d_M_powerOff_1 rfl (lv_at hl 1 rfl) ?_
      refine cllI (pc := 2) (As := [.int (nI j)]) (rest := []) (wr := []) hx hb hml hown hts hK hP hD hS hA hl.1 (c_M_isStation l D cA h H.size N C st nx fr mn rc (some k) us (nI j) (some j) hN ⟨rfl, hj⟩) [0, 1, 2, 3, 4, 5] [] rfl rfl (by decide) (by decide) (by decide) rfl rfl rfl (goodV tw_169 tw_171 ts_M_isStation tw_2 tw_172) (na := 1) (by decide +kernel) rfl ⟨rfl, rfl, Nat.le_of_ble_eq_true rfl, Nat.le_of_ble_eq_true rfl⟩ (Nat.le_of_ble_eq_true rfl) ⟨Nat.zero_le _, Nat.zero_le _⟩ rfl d_M_powerOff_2 (fun r u H locs hw hP hD hS => ?_)
      obtain ⟨rfl, rfl⟩ := hw
      have hP : va_P D classes (wM cA h N C (st, nx, fr, mn, rc, (some k), us)) H := hP
      have hD : va_D A (wM cA h N C (st, nx, fr, mn, rc, (some k), us)) := hD
      refine nv_if_eq (pc := 5) (tgt := 17) (x := 1) hx hb (by decide) d_M_powerOff_5 (by decide) (fun q => absurd q (by decide)) (fun _ => ?_)
      refine lv_aload_n (pc := 8) hx hb d_M_powerOff_8 rfl (lv_at hl 0 rfl) ?_
      refine gM (pc := 9) hx hb hts hown hK hP 2 (v := .ref (h 1)) rfl (by decide) tw_138 d_M_powerOff_9 ?_
      refine lv_iload_n (pc := 12) hx hb d_M_powerOff_12 rfl (lv_at hl 1 rfl) ?_
      refine nv_ald (pc := 13) (f := st) (j := j) (v := st j) hx hb hK hP 1 rfl (by omega) (by decide) rfl d_M_powerOff_13 ?_
      refine nv_if_ne (pc := 14) (tgt := 19) (x := st j) hx hb (by have := hst j; omega) d_M_powerOff_14 (by decide) (fun c_14 => ?_) (fun c_14 => ?_)
      · refine lv_aload_n (pc := 19) hx hb d_M_powerOff_19 rfl (lv_at hl 0 rfl) ?_
        refine gM (pc := 20) hx hb hts hown hK hP 2 (v := .ref (h 1)) rfl (by decide) tw_138 d_M_powerOff_20 ?_
        refine lv_iload_n (pc := 23) hx hb d_M_powerOff_23 rfl (lv_at hl 1 rfl) ?_
        refine lv_iconst (pc := 24) (v := (nI 0)) hx hb d_M_powerOff_24 (by decide) ?_
        refine nv_ast (pc := 25) (f := st) (j := j) (v := 0) hx hb hK hP hD hS 1 rfl (upN st j 0) (by omega) (by decide) rfl d_M_powerOff_25 (fun H locs hP hD hS => ?_)
        have hP : va_P D classes (wM cA h N C ((upN st j 0), nx, fr, mn, rc, (some k), us)) H := hP
        have hD : va_D A (wM cA h N C ((upN st j 0), nx, fr, mn, rc, (some k), us)) := hD
        refine lv_aload_n (pc := 26) hx hb d_M_powerOff_26 rfl (lv_at hl 0 rfl) ?_
        refine gM (pc := 27) hx hb hts hown hK hP 5 (v := .ref (h 4)) rfl (by decide) tw_141 d_M_powerOff_27 ?_
        refine lv_iload_n (pc := 30) hx hb d_M_powerOff_30 rfl (lv_at hl 1 rfl) ?_
        refine lv_iconst (pc := 31) (v := (nI 0)) hx hb d_M_powerOff_31 (by decide) ?_
        refine nv_ast (pc := 32) (f := mn) (j := j) (v := 0) hx hb hK hP hD hS 4 rfl (upN mn j 0) (by omega) (by decide) rfl d_M_powerOff_32 (fun H locs hP hD hS => ?_)
        have hP : va_P D classes (wM cA h N C ((upN st j 0), nx, fr, (upN mn j 0), rc, (some k), us)) H := hP
        have hD : va_D A (wM cA h N C ((upN st j 0), nx, fr, (upN mn j 0), rc, (some k), us)) := hD
        refine lv_aload_n (pc := 33) hx hb d_M_powerOff_33 rfl (lv_at hl 0 rfl) ?_
        refine lv_aload_n (pc := 34) hx hb d_M_powerOff_34 rfl (lv_at hl 0 rfl) ?_
        refine gM (pc := 35) hx hb hts hown hK hP 7 (v := .int (nI k)) rfl (by decide) tw_143 d_M_powerOff_35 ?_
        refine lv_iload_n (pc := 38) hx hb d_M_powerOff_38 rfl (lv_at hl 1 rfl) ?_
        refine nv_icmp_ne (pc := 39) (tgt := 46) (x := k) (y := j) hx hb (by omega) (by omega) d_M_powerOff_39 (by decide) (fun c_39 => ?_) (fun c_39 => ?_)
        · refine lv_aload_n (pc := 46) hx hb d_M_powerOff_46 rfl (lv_at hl 0 rfl) ?_
          refine gM (pc := 47) hx hb hts hown hK hP 7 (v := .int (nI k)) rfl (by decide) tw_143 d_M_powerOff_47 ?_
          refine pM_tok (pc := 50) hx hb hts hown hK hP hD hS (some k) d_M_powerOff_50 (fun H locs hP hD hS => ?_)
          refine lv_iconst (pc := 53) (v := (nI 1)) hx hb d_M_powerOff_53 (by decide) ?_
          exact retZ ((upN st j 0), nx, fr, (upN mn j 0), rc, (some k), us) hx hb hr hlk hK hP hD hS (by decide) (by simp [M_powerOff, c_14, c_39]) d_M_powerOff_54
        · refine lv_iconst (pc := 42) (v := (tv none)) hx hb d_M_powerOff_42 (by decide) ?_
          refine lv_goto (pc := 43) (tgt := 50) hx hb d_M_powerOff_43 (by decide) ?_
          refine pM_tok (pc := 50) hx hb hts hown hK hP hD hS none d_M_powerOff_50 (fun H locs hP hD hS => ?_)
          refine lv_iconst (pc := 53) (v := (nI 1)) hx hb d_M_powerOff_53 (by decide) ?_
          exact retZ ((upN st j 0), nx, fr, (upN mn j 0), rc, none, us) hx hb hr hlk hK hP hD hS (by decide) (by simp [M_powerOff, c_14, c_39]) d_M_powerOff_54
      · refine lv_iconst (pc := 17) (v := (nI 0)) hx hb d_M_powerOff_17 (by decide) ?_
        exact retZ (st, nx, fr, mn, rc, (some k), us) hx hb hr hlk hK hP hD hS (by decide) (by simp [M_powerOff, c_14]) d_M_powerOff_18
set_option maxHeartbeats 4000000 in
set_option maxRecDepth 100000 in
/-- queue -/
theorem c_M_queue (l : Launch) (D : va_G) (cA : ClassId) (h : Nat → Nat) (sz N C : Nat) (st nx : Nat → Nat) (fr : Nat → Int32) (mn : Nat → Nat) (rc : Nat → Int32) (tk : Option Nat) (us : Bool) (p0 : Int32) (w : Int32) (a : Option Nat) (hN : 2 ≤ N ∧ N ≤ 16) (hst : ∀ j, st j ≤ 3) (hC : 1 ≤ C ∧ C ≤ 8) (hmn : ∀ j, mn j ≤ C) (ha : ixR N p0 a) : MetI l y_M_queue b_M_queue 3 (some .int) rq1 D cA (h 0) [.int p0, .int w] (wM cA h N C (st, nx, fr, mn, rc, tk, us)) (wM cA h N C) (fun r u => (r, u) = M_queue C st nx fr mn rc tk us a w) sz := by
  refine metI (own := R_M) (by decide) rfl (Nat.le_of_ble_eq_true rfl) ?_
  intro p e s m below meth c A ls H locs B hP hD hS hl
  obtain ⟨hx, hb, hr, hlk, hml, hown, hts, hK, hA⟩ := B
  have hl : lv_has ls 3 [(0, .ref (h 0)), (1, .int p0), (2, .int w)] := hl
  cases a with
  | none =>
    refine lv_aload_n (pc := 0) hx hb d_M_queue_0 rfl (lv_at hl 0 rfl) ?_
    refine lv_iload_n (pc := 1) hx hb d_M_queue_1 rfl (lv_at hl 1 rfl) ?_
    refine cllI (pc := 2) (As := [.int p0]) (rest := []) (wr := []) hx hb hml hown hts hK hP hD hS hA hl.1 (c_M_isStation l D cA h H.size N C st nx fr mn rc tk us p0 none hN ha) [0, 1, 2, 3, 4, 5] [] rfl rfl (by decide) (by decide) (by decide) rfl rfl rfl (goodV tw_169 tw_171 ts_M_isStation tw_2 tw_172) (na := 1) (by decide +kernel) rfl ⟨rfl, rfl, Nat.le_of_ble_eq_true rfl, Nat.le_of_ble_eq_true rfl⟩ (Nat.le_of_ble_eq_true rfl) ⟨Nat.zero_le _, Nat.zero_le _⟩ rfl d_M_queue_2 (fun r u H locs hw hP hD hS => ?_)
    obtain ⟨rfl, rfl⟩ := hw
    have hP : va_P D classes (wM cA h N C (st, nx, fr, mn, rc, tk, us)) H := hP
    have hD : va_D A (wM cA h N C (st, nx, fr, mn, rc, tk, us)) := hD
    refine nv_if_eq (pc := 5) (tgt := 17) (x := 0) hx hb (by decide) d_M_queue_5 (by decide) (fun _ => ?_) (fun q => absurd q (by decide))
    refine lv_iconst (pc := 17) (v := (nI 1)) hx hb d_M_queue_17 (by decide) ?_
    exact retI (st, nx, fr, mn, rc, tk, us) hx hb hr hlk hK hP hD hS (by simp [M_queue]) d_M_queue_18
  | some j =>
    obtain ⟨rfl, hj⟩ := ha
    refine lv_aload_n (pc := 0) hx hb d_M_queue_0 rfl (lv_at hl 0 rfl) ?_
    refine lv_iload_n (pc := 1) hx hb d_M_queue_1 rfl (lv_at hl 1 rfl) ?_
    refine cllI (pc := 2) (As := [.int (nI j)]) (rest := []) (wr := []) hx hb hml hown hts hK hP hD hS hA hl.1 (c_M_isStation l D cA h H.size N C st nx fr mn rc tk us (nI j) (some j) hN ⟨rfl, hj⟩) [0, 1, 2, 3, 4, 5] [] rfl rfl (by decide) (by decide) (by decide) rfl rfl rfl (goodV tw_169 tw_171 ts_M_isStation tw_2 tw_172) (na := 1) (by decide +kernel) rfl ⟨rfl, rfl, Nat.le_of_ble_eq_true rfl, Nat.le_of_ble_eq_true rfl⟩ (Nat.le_of_ble_eq_true rfl) ⟨Nat.zero_le _, Nat.zero_le _⟩ rfl d_M_queue_2 (fun r u H locs hw hP hD hS => ?_)
    obtain ⟨rfl, rfl⟩ := hw
    have hP : va_P D classes (wM cA h N C (st, nx, fr, mn, rc, tk, us)) H := hP
    have hD : va_D A (wM cA h N C (st, nx, fr, mn, rc, tk, us)) := hD
    refine nv_if_eq (pc := 5) (tgt := 17) (x := 1) hx hb (by decide) d_M_queue_5 (by decide) (fun q => absurd q (by decide)) (fun _ => ?_)
    refine lv_aload_n (pc := 8) hx hb d_M_queue_8 rfl (lv_at hl 0 rfl) ?_
    refine gM (pc := 9) hx hb hts hown hK hP 2 (v := .ref (h 1)) rfl (by decide) tw_138 d_M_queue_9 ?_
    refine lv_iload_n (pc := 12) hx hb d_M_queue_12 rfl (lv_at hl 1 rfl) ?_
    refine nv_ald (pc := 13) (f := st) (j := j) (v := st j) hx hb hK hP 1 rfl (by omega) (by decide) rfl d_M_queue_13 ?_
    refine nv_if_ne (pc := 14) (tgt := 19) (x := st j) hx hb (by have := hst j; omega) d_M_queue_14 (by decide) (fun c_14 => ?_) (fun c_14 => ?_)
    · refine lv_aload_n (pc := 19) hx hb d_M_queue_19 rfl (lv_at hl 0 rfl) ?_
      refine gM (pc := 20) hx hb hts hown hK hP 5 (v := .ref (h 4)) rfl (by decide) tw_141 d_M_queue_20 ?_
      refine lv_iload_n (pc := 23) hx hb d_M_queue_23 rfl (lv_at hl 1 rfl) ?_
      refine nv_ald (pc := 24) (f := mn) (j := j) (v := mn j) hx hb hK hP 4 rfl (by omega) (by decide) rfl d_M_queue_24 ?_
      refine lv_aload_n (pc := 25) hx hb d_M_queue_25 rfl (lv_at hl 0 rfl) ?_
      refine gM (pc := 26) hx hb hts hown hK hP 1 (v := .int (nI C)) rfl (by decide) tw_137 d_M_queue_26 ?_
      refine nv_icmp_ne (pc := 29) (tgt := 34) (x := mn j) (y := C) hx hb (by have := hmn j; omega) (by omega) d_M_queue_29 (by decide) (fun c_29 => ?_) (fun c_29 => ?_)
      · refine lv_aload_n (pc := 34) hx hb d_M_queue_34 rfl (lv_at hl 0 rfl) ?_
        refine gM (pc := 35) hx hb hts hown hK hP 4 (v := .ref (h 3)) rfl (by decide) tw_140 d_M_queue_35 ?_
        refine lv_bipush (pc := 38) (v := nI 8) hx hb d_M_queue_38 (by decide) ?_
        refine lv_iload_n (pc := 40) hx hb d_M_queue_40 rfl (lv_at hl 1 rfl) ?_
        refine nv_imul (pc := 41) (x := 8) (y := j) hx hb d_M_queue_41 ?_
        refine lv_aload_n (pc := 42) hx hb d_M_queue_42 rfl (lv_at hl 0 rfl) ?_
        refine gM (pc := 43) hx hb hts hown hK hP 5 (v := .ref (h 4)) rfl (by decide) tw_141 d_M_queue_43 ?_
        refine lv_iload_n (pc := 46) hx hb d_M_queue_46 rfl (lv_at hl 1 rfl) ?_
        refine nv_ald (pc := 47) (f := mn) (j := j) (v := mn j) hx hb hK hP 4 rfl (by omega) (by decide) rfl d_M_queue_47 ?_
        refine nv_iadd (pc := 48) (x := 8 * j) (y := mn j) hx hb d_M_queue_48 ?_
        refine lv_iload_n (pc := 49) hx hb d_M_queue_49 rfl (lv_at hl 2 rfl) ?_
        refine ni_ast (pc := 50) (f := fr) (j := (8 * j) + (mn j)) (v := w) hx hb hK hP hD hS 3 rfl (upd fr ((8 * j) + (mn j)) w) (by have := hmn j; omega) (by decide) rfl d_M_queue_50 (fun H locs hP hD hS => ?_)
        have hP : va_P D classes (wM cA h N C (st, nx, (upd fr ((8 * j) + (mn j)) w), mn, rc, tk, us)) H := hP
        have hD : va_D A (wM cA h N C (st, nx, (upd fr ((8 * j) + (mn j)) w), mn, rc, tk, us)) := hD
        refine lv_aload_n (pc := 51) hx hb d_M_queue_51 rfl (lv_at hl 0 rfl) ?_
        refine gM (pc := 52) hx hb hts hown hK hP 5 (v := .ref (h 4)) rfl (by decide) tw_141 d_M_queue_52 ?_
        refine lv_iload_n (pc := 55) hx hb d_M_queue_55 rfl (lv_at hl 1 rfl) ?_
        refine lv_dup2_11 (pc := 56) hx hb d_M_queue_56 rfl rfl ?_
        refine nv_ald (pc := 57) (f := mn) (j := j) (v := mn j) hx hb hK hP 4 rfl (by omega) (by decide) rfl d_M_queue_57 ?_
        refine lv_iconst (pc := 58) (v := (nI 1)) hx hb d_M_queue_58 (by decide) ?_
        refine nv_iadd (pc := 59) (x := mn j) (y := 1) hx hb d_M_queue_59 ?_
        refine nv_ast (pc := 60) (f := mn) (j := j) (v := (mn j) + 1) hx hb hK hP hD hS 4 rfl (upN mn j ((mn j) + 1)) (by omega) (by decide) rfl d_M_queue_60 (fun H locs hP hD hS => ?_)
        have hP : va_P D classes (wM cA h N C (st, nx, (upd fr ((8 * j) + (mn j)) w), (upN mn j ((mn j) + 1)), rc, tk, us)) H := hP
        have hD : va_D A (wM cA h N C (st, nx, (upd fr ((8 * j) + (mn j)) w), (upN mn j ((mn j) + 1)), rc, tk, us)) := hD
        refine lv_iconst (pc := 61) (v := (nI 0)) hx hb d_M_queue_61 (by decide) ?_
        exact retI (st, nx, (upd fr ((8 * j) + (mn j)) w), (upN mn j ((mn j) + 1)), rc, tk, us) hx hb hr hlk hK hP hD hS (by simp [M_queue, c_14, c_29]) d_M_queue_62
      · refine lv_iconst (pc := 32) (v := (nI 2)) hx hb d_M_queue_32 (by decide) ?_
        exact retI (st, nx, fr, mn, rc, tk, us) hx hb hr hlk hK hP hD hS (by simp [M_queue, c_14, c_29]) d_M_queue_33
    · refine lv_iconst (pc := 17) (v := (nI 1)) hx hb d_M_queue_17 (by decide) ?_
      exact retI (st, nx, fr, mn, rc, tk, us) hx hb hr hlk hK hP hD hS (by simp [M_queue, c_14]) d_M_queue_18
end
section
set_option maxHeartbeats 4000000 in
set_option maxRecDepth 100000 in
theorem lp_X_init {p : Program} {l : Launch} {e : Env} {R : Room} {s : State} {m : MethodId} {args : Array Value} {below : List Frame} {meth : Method} {c : Code} {A : Nat → Prop} {Q : State → Prop} {ret : Option FieldType} {D : va_G} {cA : ClassId} {h : Nat → Nat} {N C : Nat} {st nx : Nat → Nat} {fr : Nat → Int32} {fi mn : Nat → Nat} {rc : Nat → Int32} {tk : Option Nat} {us : Bool}  (B : Ctx p s m args meth c b_X_init 2 ret R_X D cA A)
    (kk : ∀ (H : Heap) (locs : List Loc) (ls : Array Slot), va_P D classes (wX cA h N C ((zr 16 st), nx, fr, fi, (zr 16 mn), (zrI 16 rc), tk, us)) H → va_D A (wX cA h N C ((zr 16 st), nx, fr, fi, (zr 16 mn), (zrI 16 rc), tk, us)) → va_S A s.heap H locs → lv_has ls 2 [(0, .ref (h 0))] → W p l e R s m args below meth c H locs 0 0 Q (F0 m 35 ls [])) :
    ∀ (n i : Nat) (H : Heap) (locs : List Loc) (ls : Array Slot), i ≤ 16 → 16 < i + n → va_P D classes (wX cA h N C ((zr i st), nx, fr, fi, (zr i mn), (zrI i rc), tk, us)) H → va_D A (wX cA h N C ((zr i st), nx, fr, fi, (zr i mn), (zrI i rc), tk, us)) → va_S A s.heap H locs → lv_has ls 2 [(1, .int (nI i)), (0, .ref (h 0))] → W p l e R s m args below meth c H locs 0 0 Q (F0 m 2 ls []) := by
  obtain ⟨hx, hb, hr, hlk, hml, hown, hts, hK, hA⟩ := B
  intro n
  induction n with
  | zero =>
    intro i H locs ls h1 h2 hP hD hS hl
    exact absurd h2 (by omega)
  | succ n ih =>
    intro i H locs ls h1 h2 hP hD hS hl
    refine lv_iload_n (pc := 2) hx hb d_X_init_2 rfl (lv_at hl 0 rfl) ?_
    refine lv_bipush (pc := 3) (v := nI 16) hx hb d_X_init_3 (by decide) ?_
    refine nv_icmp_ge (pc := 5) (tgt := 35) (x := i) (y := 16) hx hb (by omega) (by decide) d_X_init_5 (by decide) (fun c_5 => ?_) (fun c_5 => ?_)
    · have ei : i = 16 := by omega
      rw [ei] at hP hD
      exact kk H locs ls hP hD hS (lv_sub hl [1] rfl)
    · refine lv_aload_n (pc := 8) hx hb d_X_init_8 rfl (lv_at hl 1 rfl) ?_
      refine gX (pc := 9) hx hb hts hown hK hP 2 (v := .ref (h 1)) rfl (by decide) tw_13 d_X_init_9 ?_
      refine lv_iload_n (pc := 12) hx hb d_X_init_12 rfl (lv_at hl 0 rfl) ?_
      refine lv_iconst (pc := 13) (v := (nI 0)) hx hb d_X_init_13 (by decide) ?_
      refine nv_ast (pc := 14) (f := (zr i st)) (j := i) (v := 0) hx hb hK hP hD hS 1 rfl (zr (i + 1) st) (by omega) (by decide) (zr_s i st) d_X_init_14 (fun H locs hP hD hS => ?_)
      have hP : va_P D classes (wX cA h N C ((zr (i + 1) st), nx, fr, fi, (zr i mn), (zrI i rc), tk, us)) H := hP
      have hD : va_D A (wX cA h N C ((zr (i + 1) st), nx, fr, fi, (zr i mn), (zrI i rc), tk, us)) := hD
      refine lv_aload_n (pc := 15) hx hb d_X_init_15 rfl (lv_at hl 1 rfl) ?_
      refine gX (pc := 16) hx hb hts hown hK hP 6 (v := .ref (h 5)) rfl (by decide) tw_17 d_X_init_16 ?_
      refine lv_iload_n (pc := 19) hx hb d_X_init_19 rfl (lv_at hl 0 rfl) ?_
      refine lv_iconst (pc := 20) (v := (nI 0)) hx hb d_X_init_20 (by decide) ?_
      refine nv_ast (pc := 21) (f := (zr i mn)) (j := i) (v := 0) hx hb hK hP hD hS 5 rfl (zr (i + 1) mn) (by omega) (by decide) (zr_s i mn) d_X_init_21 (fun H locs hP hD hS => ?_)
      have hP : va_P D classes (wX cA h N C ((zr (i + 1) st), nx, fr, fi, (zr (i + 1) mn), (zrI i rc), tk, us)) H := hP
      have hD : va_D A (wX cA h N C ((zr (i + 1) st), nx, fr, fi, (zr (i + 1) mn), (zrI i rc), tk, us)) := hD
      refine lv_aload_n (pc := 22) hx hb d_X_init_22 rfl (lv_at hl 1 rfl) ?_
      refine gX (pc := 23) hx hb hts hown hK hP 7 (v := .ref (h 6)) rfl (by decide) tw_18 d_X_init_23 ?_
      refine lv_iload_n (pc := 26) hx hb d_X_init_26 rfl (lv_at hl 0 rfl) ?_
      refine lv_iconst (pc := 27) (v := (nI 0)) hx hb d_X_init_27 (by decide) ?_
      refine ni_ast (pc := 28) (f := (zrI i rc)) (j := i) (v := (nI 0)) hx hb hK hP hD hS 6 rfl (zrI (i + 1) rc) (by omega) (by decide) (zrI_s i rc) d_X_init_28 (fun H locs hP hD hS => ?_)
      have hP : va_P D classes (wX cA h N C ((zr (i + 1) st), nx, fr, fi, (zr (i + 1) mn), (zrI (i + 1) rc), tk, us)) H := hP
      have hD : va_D A (wX cA h N C ((zr (i + 1) st), nx, fr, fi, (zr (i + 1) mn), (zrI (i + 1) rc), tk, us)) := hD
      refine nv_iinc (pc := 29) (k := 0) hx hb [(1, .int (nI (i + 1))), (0, .ref (h 0))] d_X_init_29 hl rfl (by decide) rfl (fun ls hl => ?_)
      refine lv_goto (pc := 32) (tgt := 2) hx hb d_X_init_32 (by decide) ?_
      exact ih (i + 1) H locs ls (by omega) (by omega) hP hD hS (lv_sub hl [0, 1] rfl)
set_option maxHeartbeats 4000000 in
set_option maxRecDepth 100000 in
/-- init -/
theorem c_X_init (l : Launch) (D : va_G) (cA : ClassId) (h : Nat → Nat) (sz N C : Nat) (st nx : Nat → Nat) (fr : Nat → Int32) (fi mn : Nat → Nat) (rc : Nat → Int32) (tk : Option Nat) (us : Bool)  : MetV l y_X_init b_X_init 2 rq0 D cA (h 0) [] (wX cA h N C (st, nx, fr, fi, mn, rc, tk, us)) (wX cA h N C) (fun u => u = (zr 16 st, nx, fr, fi, zr 16 mn, zrI 16 rc, none, false)) sz := by
  refine metV (own := R_X) (by decide) rfl (Nat.le_of_ble_eq_true rfl) ?_
  intro p e s m below meth c A ls H locs B hP hD hS hl
  obtain ⟨hx, hb, hr, hlk, hml, hown, hts, hK, hA⟩ := B
  have hl : lv_has ls 2 [(0, .ref (h 0))] := hl
  refine lv_iconst (pc := 0) (v := (nI 0)) hx hb d_X_init_0 (by decide) ?_
  refine lv_istore_n (pc := 1) (lv' := [(1, .int (nI 0)), (0, .ref (h 0))]) hx hb d_X_init_1 rfl hl (by decide) rfl (fun ls hl => ?_)
  refine lp_X_init (N := N) (C := C) (st := st) (nx := nx) (fr := fr) (fi := fi) (mn := mn) (rc := rc) (tk := tk) (us := us) ⟨hx, hb, hr, hlk, hml, hown, hts, hK, hA⟩ (fun H locs ls hP hD hS hl => ?_) 17 0 H locs ls (by decide) (by decide) (by rw [zr_0, zr_0, zrI_0]; exact hP) (by rw [zr_0, zr_0, zrI_0]; exact hD) hS (lv_sub hl [0, 1] rfl)
  refine lv_aload_n (pc := 35) hx hb d_X_init_35 rfl (lv_at hl 0 rfl) ?_
  refine lv_iconst (pc := 36) (v := (tv none)) hx hb d_X_init_36 (by decide) ?_
  refine pX_tok (pc := 37) hx hb hts hown hK hP hD hS none d_X_init_37 (fun H locs hP hD hS => ?_)
  refine lv_aload_n (pc := 40) hx hb d_X_init_40 rfl (lv_at hl 0 rfl) ?_
  refine lv_iconst (pc := 41) (v := (bv false)) hx hb d_X_init_41 (by decide) ?_
  refine pX_use (pc := 42) hx hb hts hown hK hP hD hS false d_X_init_42 (fun H locs hP hD hS => ?_)
  exact retV ((zr 16 st), nx, fr, fi, (zr 16 mn), (zrI 16 rc), none, false) hx hb hr hlk hK hP hD hS (rfl) d_X_init_45
set_option maxHeartbeats 4000000 in
set_option maxRecDepth 100000 in
theorem lp_M_init {p : Program} {l : Launch} {e : Env} {R : Room} {s : State} {m : MethodId} {args : Array Value} {below : List Frame} {meth : Method} {c : Code} {A : Nat → Prop} {Q : State → Prop} {ret : Option FieldType} {D : va_G} {cA : ClassId} {h : Nat → Nat} {N C : Nat} {st nx : Nat → Nat} {fr : Nat → Int32} {mn : Nat → Nat} {rc : Nat → Int32} {tk : Option Nat} {us : Bool}  (B : Ctx p s m args meth c b_M_init 2 ret R_M D cA A)
    (kk : ∀ (H : Heap) (locs : List Loc) (ls : Array Slot), va_P D classes (wM cA h N C ((zr 16 st), nx, fr, (zr 16 mn), (zrI 16 rc), tk, us)) H → va_D A (wM cA h N C ((zr 16 st), nx, fr, (zr 16 mn), (zrI 16 rc), tk, us)) → va_S A s.heap H locs → lv_has ls 2 [(0, .ref (h 0))] → W p l e R s m args below meth c H locs 0 0 Q (F0 m 35 ls [])) :
    ∀ (n i : Nat) (H : Heap) (locs : List Loc) (ls : Array Slot), i ≤ 16 → 16 < i + n → va_P D classes (wM cA h N C ((zr i st), nx, fr, (zr i mn), (zrI i rc), tk, us)) H → va_D A (wM cA h N C ((zr i st), nx, fr, (zr i mn), (zrI i rc), tk, us)) → va_S A s.heap H locs → lv_has ls 2 [(1, .int (nI i)), (0, .ref (h 0))] → W p l e R s m args below meth c H locs 0 0 Q (F0 m 2 ls []) := by
  obtain ⟨hx, hb, hr, hlk, hml, hown, hts, hK, hA⟩ := B
  intro n
  induction n with
  | zero =>
    intro i H locs ls h1 h2 hP hD hS hl
    exact absurd h2 (by omega)
  | succ n ih =>
    intro i H locs ls h1 h2 hP hD hS hl
    refine lv_iload_n (pc := 2) hx hb d_M_init_2 rfl (lv_at hl 0 rfl) ?_
    refine lv_bipush (pc := 3) (v := nI 16) hx hb d_M_init_3 (by decide) ?_
    refine nv_icmp_ge (pc := 5) (tgt := 35) (x := i) (y := 16) hx hb (by omega) (by decide) d_M_init_5 (by decide) (fun c_5 => ?_) (fun c_5 => ?_)
    · have ei : i = 16 := by omega
      rw [ei] at hP hD
      exact kk H locs ls hP hD hS (lv_sub hl [1] rfl)
    · refine lv_aload_n (pc := 8) hx hb d_M_init_8 rfl (lv_at hl 1 rfl) ?_
      refine gM (pc := 9) hx hb hts hown hK hP 2 (v := .ref (h 1)) rfl (by decide) tw_138 d_M_init_9 ?_
      refine lv_iload_n (pc := 12) hx hb d_M_init_12 rfl (lv_at hl 0 rfl) ?_
      refine lv_iconst (pc := 13) (v := (nI 0)) hx hb d_M_init_13 (by decide) ?_
      refine nv_ast (pc := 14) (f := (zr i st)) (j := i) (v := 0) hx hb hK hP hD hS 1 rfl (zr (i + 1) st) (by omega) (by decide) (zr_s i st) d_M_init_14 (fun H locs hP hD hS => ?_)
      have hP : va_P D classes (wM cA h N C ((zr (i + 1) st), nx, fr, (zr i mn), (zrI i rc), tk, us)) H := hP
      have hD : va_D A (wM cA h N C ((zr (i + 1) st), nx, fr, (zr i mn), (zrI i rc), tk, us)) := hD
      refine lv_aload_n (pc := 15) hx hb d_M_init_15 rfl (lv_at hl 1 rfl) ?_
      refine gM (pc := 16) hx hb hts hown hK hP 5 (v := .ref (h 4)) rfl (by decide) tw_141 d_M_init_16 ?_
      refine lv_iload_n (pc := 19) hx hb d_M_init_19 rfl (lv_at hl 0 rfl) ?_
      refine lv_iconst (pc := 20) (v := (nI 0)) hx hb d_M_init_20 (by decide) ?_
      refine nv_ast (pc := 21) (f := (zr i mn)) (j := i) (v := 0) hx hb hK hP hD hS 4 rfl (zr (i + 1) mn) (by omega) (by decide) (zr_s i mn) d_M_init_21 (fun H locs hP hD hS => ?_)
      have hP : va_P D classes (wM cA h N C ((zr (i + 1) st), nx, fr, (zr (i + 1) mn), (zrI i rc), tk, us)) H := hP
      have hD : va_D A (wM cA h N C ((zr (i + 1) st), nx, fr, (zr (i + 1) mn), (zrI i rc), tk, us)) := hD
      refine lv_aload_n (pc := 22) hx hb d_M_init_22 rfl (lv_at hl 1 rfl) ?_
      refine gM (pc := 23) hx hb hts hown hK hP 6 (v := .ref (h 5)) rfl (by decide) tw_142 d_M_init_23 ?_
      refine lv_iload_n (pc := 26) hx hb d_M_init_26 rfl (lv_at hl 0 rfl) ?_
      refine lv_iconst (pc := 27) (v := (nI 0)) hx hb d_M_init_27 (by decide) ?_
      refine ni_ast (pc := 28) (f := (zrI i rc)) (j := i) (v := (nI 0)) hx hb hK hP hD hS 5 rfl (zrI (i + 1) rc) (by omega) (by decide) (zrI_s i rc) d_M_init_28 (fun H locs hP hD hS => ?_)
      have hP : va_P D classes (wM cA h N C ((zr (i + 1) st), nx, fr, (zr (i + 1) mn), (zrI (i + 1) rc), tk, us)) H := hP
      have hD : va_D A (wM cA h N C ((zr (i + 1) st), nx, fr, (zr (i + 1) mn), (zrI (i + 1) rc), tk, us)) := hD
      refine nv_iinc (pc := 29) (k := 0) hx hb [(1, .int (nI (i + 1))), (0, .ref (h 0))] d_M_init_29 hl rfl (by decide) rfl (fun ls hl => ?_)
      refine lv_goto (pc := 32) (tgt := 2) hx hb d_M_init_32 (by decide) ?_
      exact ih (i + 1) H locs ls (by omega) (by omega) hP hD hS (lv_sub hl [0, 1] rfl)
set_option maxHeartbeats 4000000 in
set_option maxRecDepth 100000 in
/-- init -/
theorem c_M_init (l : Launch) (D : va_G) (cA : ClassId) (h : Nat → Nat) (sz N C : Nat) (st nx : Nat → Nat) (fr : Nat → Int32) (mn : Nat → Nat) (rc : Nat → Int32) (tk : Option Nat) (us : Bool)  : MetV l y_M_init b_M_init 2 rq0 D cA (h 0) [] (wM cA h N C (st, nx, fr, mn, rc, tk, us)) (wM cA h N C) (fun u => u = (zr 16 st, nx, fr, zr 16 mn, zrI 16 rc, none, false)) sz := by
  refine metV (own := R_M) (by decide) rfl (Nat.le_of_ble_eq_true rfl) ?_
  intro p e s m below meth c A ls H locs B hP hD hS hl
  obtain ⟨hx, hb, hr, hlk, hml, hown, hts, hK, hA⟩ := B
  have hl : lv_has ls 2 [(0, .ref (h 0))] := hl
  refine lv_iconst (pc := 0) (v := (nI 0)) hx hb d_M_init_0 (by decide) ?_
  refine lv_istore_n (pc := 1) (lv' := [(1, .int (nI 0)), (0, .ref (h 0))]) hx hb d_M_init_1 rfl hl (by decide) rfl (fun ls hl => ?_)
  refine lp_M_init (N := N) (C := C) (st := st) (nx := nx) (fr := fr) (mn := mn) (rc := rc) (tk := tk) (us := us) ⟨hx, hb, hr, hlk, hml, hown, hts, hK, hA⟩ (fun H locs ls hP hD hS hl => ?_) 17 0 H locs ls (by decide) (by decide) (by rw [zr_0, zr_0, zrI_0]; exact hP) (by rw [zr_0, zr_0, zrI_0]; exact hD) hS (lv_sub hl [0, 1] rfl)
  refine lv_aload_n (pc := 35) hx hb d_M_init_35 rfl (lv_at hl 0 rfl) ?_
  refine lv_iconst (pc := 36) (v := (tv none)) hx hb d_M_init_36 (by decide) ?_
  refine pM_tok (pc := 37) hx hb hts hown hK hP hD hS none d_M_init_37 (fun H locs hP hD hS => ?_)
  refine lv_aload_n (pc := 40) hx hb d_M_init_40 rfl (lv_at hl 0 rfl) ?_
  refine lv_iconst (pc := 41) (v := (bv false)) hx hb d_M_init_41 (by decide) ?_
  refine pM_use (pc := 42) hx hb hts hown hK hP hD hS false d_M_init_42 (fun H locs hP hD hS => ?_)
  exact retV ((zr 16 st), nx, fr, (zr 16 mn), (zrI 16 rc), none, false) hx hb hr hlk hK hP hD hS (rfl) d_M_init_45
end
section
set_option maxHeartbeats 4000000 in
set_option maxRecDepth 100000 in
theorem lp_X_useToken {p : Program} {l : Launch} {e : Env} {R : Room} {s : State} {m : MethodId} {args : Array Value} {below : List Frame} {meth : Method} {c : Code} {A : Nat → Prop} {Q : State → Prop} {ret : Option FieldType} {D : va_G} {cA : ClassId} {h : Nat → Nat} {N C : Nat} {st nx : Nat → Nat} {fr : Nat → Int32} {fi mn : Nat → Nat} {rc : Nat → Int32} {tk : Option Nat} {us : Bool} {k : Nat} {wv : Int32} (hN : 2 ≤ N ∧ N ≤ 16) (hst : ∀ j, st j ≤ 3) (hk : k < N) (B : Ctx p s m args meth c b_X_useToken 3 ret R_X D cA A)
    (kk : ∀ (H : Heap) (locs : List Loc) (ls : Array Slot), va_P D classes (wX cA h N C (st, nx, fr, fi, mn, (rcv N k st rc), (some k), us)) H → va_D A (wX cA h N C (st, nx, fr, fi, mn, (rcv N k st rc), (some k), us)) → va_S A s.heap H locs → lv_has ls 3 [(1, .int wv), (0, .ref (h 0))] → W p l e R s m args below meth c H locs 0 0 Q (F0 m 135 ls [])) :
    ∀ (n i : Nat) (H : Heap) (locs : List Loc) (ls : Array Slot), i ≤ N → N < i + n → va_P D classes (wX cA h N C (st, nx, fr, fi, mn, (rcv i k st rc), (some k), us)) H → va_D A (wX cA h N C (st, nx, fr, fi, mn, (rcv i k st rc), (some k), us)) → va_S A s.heap H locs → lv_has ls 3 [(2, .int (nI i)), (1, .int wv), (0, .ref (h 0))] → W p l e R s m args below meth c H locs 0 0 Q (F0 m 94 ls []) := by
  obtain ⟨hx, hb, hr, hlk, hml, hown, hts, hK, hA⟩ := B
  intro n
  induction n with
  | zero =>
    intro i H locs ls h1 h2 hP hD hS hl
    exact absurd h2 (by omega)
  | succ n ih =>
    intro i H locs ls h1 h2 hP hD hS hl
    refine lv_iload_n (pc := 94) hx hb d_X_useToken_94 rfl (lv_at hl 0 rfl) ?_
    refine lv_aload_n (pc := 95) hx hb d_X_useToken_95 rfl (lv_at hl 2 rfl) ?_
    refine gX (pc := 96) hx hb hts hown hK hP 0 (v := .int (nI N)) rfl (by decide) tw_11 d_X_useToken_96 ?_
    refine nv_icmp_ge (pc := 99) (tgt := 135) (x := i) (y := N) hx hb (by omega) (by omega) d_X_useToken_99 (by decide) (fun c_99 => ?_) (fun c_99 => ?_)
    · have ei : i = N := by omega
      rw [ei] at hP hD
      exact kk H locs ls hP hD hS (lv_sub hl [1, 2] rfl)
    · refine lv_iload_n (pc := 102) hx hb d_X_useToken_102 rfl (lv_at hl 0 rfl) ?_
      refine lv_aload_n (pc := 103) hx hb d_X_useToken_103 rfl (lv_at hl 2 rfl) ?_
      refine gX (pc := 104) hx hb hts hown hK hP 8 (v := .int (nI k)) rfl (by decide) tw_19 d_X_useToken_104 ?_
      refine nv_icmp_eq (pc := 107) (tgt := 129) (x := i) (y := k) hx hb (by omega) (by omega) d_X_useToken_107 (by decide) (fun c_107 => ?_) (fun c_107 => ?_)
      · refine nv_iinc (pc := 129) (k := 0) hx hb [(2, .int (nI (i + 1))), (1, .int wv), (0, .ref (h 0))] d_X_useToken_129 hl rfl (by decide) rfl (fun ls hl => ?_)
        refine lv_goto (pc := 132) (tgt := 94) hx hb d_X_useToken_132 (by decide) ?_
        exact ih (i + 1) H locs ls (by omega) (by omega) (by rw [← rcv_n (Or.inl c_107)]; exact hP) (by rw [← rcv_n (Or.inl c_107)]; exact hD) hS (lv_sub hl [0, 1, 2] rfl)
      · refine lv_aload_n (pc := 110) hx hb d_X_useToken_110 rfl (lv_at hl 2 rfl) ?_
        refine gX (pc := 111) hx hb hts hown hK hP 2 (v := .ref (h 1)) rfl (by decide) tw_13 d_X_useToken_111 ?_
        refine lv_iload_n (pc := 114) hx hb d_X_useToken_114 rfl (lv_at hl 0 rfl) ?_
        refine nv_ald (pc := 115) (f := st) (j := i) (v := st i) hx hb hK hP 1 rfl (by omega) (by decide) rfl d_X_useToken_115 ?_
        refine nv_if_eq (pc := 116) (tgt := 129) (x := st i) hx hb (by have := hst i; omega) d_X_useToken_116 (by decide) (fun c_116 => ?_) (fun c_116 => ?_)
        · refine nv_iinc (pc := 129) (k := 0) hx hb [(2, .int (nI (i + 1))), (1, .int wv), (0, .ref (h 0))] d_X_useToken_129 hl rfl (by decide) rfl (fun ls hl => ?_)
          refine lv_goto (pc := 132) (tgt := 94) hx hb d_X_useToken_132 (by decide) ?_
          exact ih (i + 1) H locs ls (by omega) (by omega) (by rw [← rcv_n (Or.inr c_116)]; exact hP) (by rw [← rcv_n (Or.inr c_116)]; exact hD) hS (lv_sub hl [0, 1, 2] rfl)
        · refine lv_aload_n (pc := 119) hx hb d_X_useToken_119 rfl (lv_at hl 2 rfl) ?_
          refine gX (pc := 120) hx hb hts hown hK hP 7 (v := .ref (h 6)) rfl (by decide) tw_18 d_X_useToken_120 ?_
          refine lv_iload_n (pc := 123) hx hb d_X_useToken_123 rfl (lv_at hl 0 rfl) ?_
          refine lv_dup2_11 (pc := 124) hx hb d_X_useToken_124 rfl rfl ?_
          refine ni_ald (pc := 125) (f := (rcv i k st rc)) (j := i) (v := rc i) hx hb hK hP 6 rfl (by omega) (by decide) (rcv_at i k st rc) d_X_useToken_125 ?_
          refine lv_iconst (pc := 126) (v := (nI 1)) hx hb d_X_useToken_126 (by decide) ?_
          refine lv_iadd (pc := 127) hx hb d_X_useToken_127 ?_
          refine ni_ast (pc := 128) (f := (rcv i k st rc)) (j := i) (v := ((rc i) + (nI 1))) hx hb hK hP hD hS 6 rfl (rcv (i + 1) k st rc) (by omega) (by decide) (rcv_y c_107 c_116) d_X_useToken_128 (fun H locs hP hD hS => ?_)
          have hP : va_P D classes (wX cA h N C (st, nx, fr, fi, mn, (rcv (i + 1) k st rc), (some k), us)) H := hP
          have hD : va_D A (wX cA h N C (st, nx, fr, fi, mn, (rcv (i + 1) k st rc), (some k), us)) := hD
          refine nv_iinc (pc := 129) (k := 0) hx hb [(2, .int (nI (i + 1))), (1, .int wv), (0, .ref (h 0))] d_X_useToken_129 hl rfl (by decide) rfl (fun ls hl => ?_)
          refine lv_goto (pc := 132) (tgt := 94) hx hb d_X_useToken_132 (by decide) ?_
          exact ih (i + 1) H locs ls (by omega) (by omega) hP hD hS (lv_sub hl [0, 1, 2] rfl)
set_option maxHeartbeats 4000000 in
set_option maxRecDepth 100000 in
/-- useToken -/
theorem c_X_useToken (l : Launch) (D : va_G) (cA : ClassId) (h : Nat → Nat) (sz N C : Nat) (st nx : Nat → Nat) (fr : Nat → Int32) (fi mn : Nat → Nat) (rc : Nat → Int32) (tk : Option Nat) (us : Bool) (hN : 2 ≤ N ∧ N ≤ 16) (hst : ∀ j, st j ≤ 3) (hC : 1 ≤ C ∧ C ≤ 8) (hfi : ∀ j, fi j < 8) (hmn : ∀ j, mn j ≤ C) (htk : ∀ k, tk = some k → k < N) : MetI l y_X_useToken b_X_useToken 3 (some .int) rq0 D cA (h 0) [] (wX cA h N C (st, nx, fr, fi, mn, rc, tk, us)) (wX cA h N C) (fun r u => (r, u) = X_useToken N st nx fr fi mn rc tk us) sz := by
  refine metI (own := R_X) (by decide) rfl (Nat.le_of_ble_eq_true rfl) ?_
  intro p e s m below meth c A ls H locs B hP hD hS hl
  obtain ⟨hx, hb, hr, hlk, hml, hown, hts, hK, hA⟩ := B
  have hl : lv_has ls 3 [(0, .ref (h 0))] := hl
  cases tk with
  | none =>
    refine lv_aload_n (pc := 0) hx hb d_X_useToken_0 rfl (lv_at hl 0 rfl) ?_
    refine gX (pc := 1) hx hb hts hown hK hP 8 (v := .int (-1)) rfl (by decide) tw_19 d_X_useToken_1 ?_
    refine nv_if_ltM (pc := 4) (tgt := 26) hx hb d_X_useToken_4 (by decide) ?_
    refine lv_iconst (pc := 26) (v := -1) hx hb d_X_useToken_26 (by decide) ?_
    exact retI (st, nx, fr, fi, mn, rc, none, us) hx hb hr hlk hK hP hD hS (rfl) d_X_useToken_27
  | some k =>
    have hk := htk k rfl
    refine lv_aload_n (pc := 0) hx hb d_X_useToken_0 rfl (lv_at hl 0 rfl) ?_
    refine gX (pc := 1) hx hb hts hown hK hP 8 (v := .int (nI k)) rfl (by decide) tw_19 d_X_useToken_1 ?_
    refine nv_if_ltN (pc := 4) (tgt := 26) (x := k) hx hb (by omega) d_X_useToken_4 (by decide) ?_
    refine lv_aload_n (pc := 7) hx hb d_X_useToken_7 rfl (lv_at hl 0 rfl) ?_
    refine gX (pc := 8) hx hb hts hown hK hP 9 (v := .int (bv us)) rfl (by decide) tw_20 d_X_useToken_8 ?_
    refine nv_if_neB (pc := 11) (tgt := 26) hx hb d_X_useToken_11 (by decide) (fun c_11 => ?_) (fun c_11 => ?_)
    · refine lv_iconst (pc := 26) (v := -1) hx hb d_X_useToken_26 (by decide) ?_
      exact retI (st, nx, fr, fi, mn, rc, (some k), us) hx hb hr hlk hK hP hD hS (by simp [X_useToken, c_11]) d_X_useToken_27
    · refine lv_aload_n (pc := 14) hx hb d_X_useToken_14 rfl (lv_at hl 0 rfl) ?_
      refine gX (pc := 15) hx hb hts hown hK hP 6 (v := .ref (h 5)) rfl (by decide) tw_17 d_X_useToken_15 ?_
      refine lv_aload_n (pc := 18) hx hb d_X_useToken_18 rfl (lv_at hl 0 rfl) ?_
      refine gX (pc := 19) hx hb hts hown hK hP 8 (v := .int (nI k)) rfl (by decide) tw_19 d_X_useToken_19 ?_
      refine nv_ald (pc := 22) (f := mn) (j := k) (v := mn k) hx hb hK hP 5 rfl (by omega) (by decide) rfl d_X_useToken_22 ?_
      refine nv_if_ne (pc := 23) (tgt := 28) (x := mn k) hx hb (by have := hmn k; omega) d_X_useToken_23 (by decide) (fun c_23 => ?_) (fun c_23 => ?_)
      · refine lv_aload_n (pc := 28) hx hb d_X_useToken_28 rfl (lv_at hl 0 rfl) ?_
        refine gX (pc := 29) hx hb hts hown hK hP 4 (v := .ref (h 3)) rfl (by decide) tw_15 d_X_useToken_29 ?_
        refine lv_bipush (pc := 32) (v := nI 8) hx hb d_X_useToken_32 (by decide) ?_
        refine lv_aload_n (pc := 34) hx hb d_X_useToken_34 rfl (lv_at hl 0 rfl) ?_
        refine gX (pc := 35) hx hb hts hown hK hP 8 (v := .int (nI k)) rfl (by decide) tw_19 d_X_useToken_35 ?_
        refine nv_imul (pc := 38) (x := 8) (y := k) hx hb d_X_useToken_38 ?_
        refine lv_aload_n (pc := 39) hx hb d_X_useToken_39 rfl (lv_at hl 0 rfl) ?_
        refine gX (pc := 40) hx hb hts hown hK hP 5 (v := .ref (h 4)) rfl (by decide) tw_16 d_X_useToken_40 ?_
        refine lv_aload_n (pc := 43) hx hb d_X_useToken_43 rfl (lv_at hl 0 rfl) ?_
        refine gX (pc := 44) hx hb hts hown hK hP 8 (v := .int (nI k)) rfl (by decide) tw_19 d_X_useToken_44 ?_
        refine nv_ald (pc := 47) (f := fi) (j := k) (v := fi k) hx hb hK hP 4 rfl (by omega) (by decide) rfl d_X_useToken_47 ?_
        refine nv_iadd (pc := 48) (x := 8 * k) (y := fi k) hx hb d_X_useToken_48 ?_
        refine ni_ald (pc := 49) (f := fr) (j := (8 * k) + (fi k)) (v := fr ((8 * k) + (fi k))) hx hb hK hP 3 rfl (by have := hfi k; omega) (by decide) rfl d_X_useToken_49 ?_
        refine lv_istore_n (pc := 50) (lv' := [(1, .int (fr ((8 * k) + (fi k)))), (0, .ref (h 0))]) hx hb d_X_useToken_50 rfl hl (by decide) rfl (fun ls hl => ?_)
        refine lv_aload_n (pc := 51) hx hb d_X_useToken_51 rfl (lv_at hl 1 rfl) ?_
        refine gX (pc := 52) hx hb hts hown hK hP 5 (v := .ref (h 4)) rfl (by decide) tw_16 d_X_useToken_52 ?_
        refine lv_aload_n (pc := 55) hx hb d_X_useToken_55 rfl (lv_at hl 1 rfl) ?_
        refine gX (pc := 56) hx hb hts hown hK hP 8 (v := .int (nI k)) rfl (by decide) tw_19 d_X_useToken_56 ?_
        refine lv_aload_n (pc := 59) hx hb d_X_useToken_59 rfl (lv_at hl 1 rfl) ?_
        refine gX (pc := 60) hx hb hts hown hK hP 5 (v := .ref (h 4)) rfl (by decide) tw_16 d_X_useToken_60 ?_
        refine lv_aload_n (pc := 63) hx hb d_X_useToken_63 rfl (lv_at hl 1 rfl) ?_
        refine gX (pc := 64) hx hb hts hown hK hP 8 (v := .int (nI k)) rfl (by decide) tw_19 d_X_useToken_64 ?_
        refine nv_ald (pc := 67) (f := fi) (j := k) (v := fi k) hx hb hK hP 4 rfl (by omega) (by decide) rfl d_X_useToken_67 ?_
        refine lv_iconst (pc := 68) (v := (nI 1)) hx hb d_X_useToken_68 (by decide) ?_
        refine nv_iadd (pc := 69) (x := fi k) (y := 1) hx hb d_X_useToken_69 ?_
        refine lv_bipush (pc := 70) (v := nI 8) hx hb d_X_useToken_70 (by decide) ?_
        refine nv_irem (pc := 72) (x := (fi k) + 1) (y := 8) hx hb (by have := hfi k; omega) (by omega) (by decide) d_X_useToken_72 ?_
        refine nv_ast (pc := 73) (f := fi) (j := k) (v := ((fi k) + 1) % 8) hx hb hK hP hD hS 4 rfl (upN fi k (((fi k) + 1) % 8)) (by omega) (by decide) rfl d_X_useToken_73 (fun H locs hP hD hS => ?_)
        have hP : va_P D classes (wX cA h N C (st, nx, fr, (upN fi k (((fi k) + 1) % 8)), mn, rc, (some k), us)) H := hP
        have hD : va_D A (wX cA h N C (st, nx, fr, (upN fi k (((fi k) + 1) % 8)), mn, rc, (some k), us)) := hD
        refine lv_aload_n (pc := 74) hx hb d_X_useToken_74 rfl (lv_at hl 1 rfl) ?_
        refine gX (pc := 75) hx hb hts hown hK hP 6 (v := .ref (h 5)) rfl (by decide) tw_17 d_X_useToken_75 ?_
        refine lv_aload_n (pc := 78) hx hb d_X_useToken_78 rfl (lv_at hl 1 rfl) ?_
        refine gX (pc := 79) hx hb hts hown hK hP 8 (v := .int (nI k)) rfl (by decide) tw_19 d_X_useToken_79 ?_
        refine lv_dup2_11 (pc := 82) hx hb d_X_useToken_82 rfl rfl ?_
        refine nv_ald (pc := 83) (f := mn) (j := k) (v := mn k) hx hb hK hP 5 rfl (by omega) (by decide) rfl d_X_useToken_83 ?_
        refine lv_iconst (pc := 84) (v := (nI 1)) hx hb d_X_useToken_84 (by decide) ?_
        refine nv_isub (pc := 85) (x := mn k) (y := 1) hx hb (by have := hmn k; omega) d_X_useToken_85 ?_
        refine nv_ast (pc := 86) (f := mn) (j := k) (v := (mn k) - 1) hx hb hK hP hD hS 5 rfl (upN mn k ((mn k) - 1)) (by omega) (by decide) rfl d_X_useToken_86 (fun H locs hP hD hS => ?_)
        have hP : va_P D classes (wX cA h N C (st, nx, fr, (upN fi k (((fi k) + 1) % 8)), (upN mn k ((mn k) - 1)), rc, (some k), us)) H := hP
        have hD : va_D A (wX cA h N C (st, nx, fr, (upN fi k (((fi k) + 1) % 8)), (upN mn k ((mn k) - 1)), rc, (some k), us)) := hD
        refine lv_aload_n (pc := 87) hx hb d_X_useToken_87 rfl (lv_at hl 1 rfl) ?_
        refine lv_iconst (pc := 88) (v := (bv true)) hx hb d_X_useToken_88 (by decide) ?_
        refine pX_use (pc := 89) hx hb hts hown hK hP hD hS true d_X_useToken_89 (fun H locs hP hD hS => ?_)
        refine lv_iconst (pc := 92) (v := (nI 0)) hx hb d_X_useToken_92 (by decide) ?_
        refine lv_istore_n (pc := 93) (lv' := [(2, .int (nI 0)), (1, .int (fr ((8 * k) + (fi k)))), (0, .ref (h 0))]) hx hb d_X_useToken_93 rfl hl (by decide) rfl (fun ls hl => ?_)
        refine lp_X_useToken (N := N) (C := C) (st := st) (nx := nx) (fr := fr) (fi := (upN fi k (((fi k) + 1) % 8))) (mn := (upN mn k ((mn k) - 1))) (rc := rc) (tk := none) (us := true) (k := k) hN hst hk ⟨hx, hb, hr, hlk, hml, hown, hts, hK, hA⟩ (fun H locs ls hP hD hS hl => ?_) (N + 1) 0 H locs ls (by omega) (by omega) (by rw [rcv_0]; exact hP) (by rw [rcv_0]; exact hD) hS (lv_sub hl [0, 1, 2] rfl)
        refine lv_iload_n (pc := 135) hx hb d_X_useToken_135 rfl (lv_at hl 0 rfl) ?_
        exact retI (st, nx, fr, (upN fi k (((fi k) + 1) % 8)), (upN mn k ((mn k) - 1)), (rcv N k st rc), (some k), true) hx hb hr hlk hK hP hD hS (by simp [X_useToken, c_11, c_23]) d_X_useToken_136
      · refine lv_iconst (pc := 26) (v := -1) hx hb d_X_useToken_26 (by decide) ?_
        exact retI (st, nx, fr, fi, mn, rc, (some k), us) hx hb hr hlk hK hP hD hS (by simp [X_useToken, c_11, c_23]) d_X_useToken_27
set_option maxHeartbeats 4000000 in
set_option maxRecDepth 100000 in
theorem lp_M_useToken1 {p : Program} {l : Launch} {e : Env} {R : Room} {s : State} {m : MethodId} {args : Array Value} {below : List Frame} {meth : Method} {c : Code} {A : Nat → Prop} {Q : State → Prop} {ret : Option FieldType} {D : va_G} {cA : ClassId} {h : Nat → Nat} {N C : Nat} {st nx : Nat → Nat} {fr : Nat → Int32} {mn : Nat → Nat} {rc : Nat → Int32} {tk : Option Nat} {us : Bool} {k cnt : Nat} {wv : Int32} (hN : 2 ≤ N ∧ N ≤ 16) (hk : k < N) (hcnt : cnt < 8) (B : Ctx p s m args meth c b_M_useToken 3 ret R_M D cA A)
    (kk : ∀ (H : Heap) (locs : List Loc) (ls : Array Slot), va_P D classes (wM cA h N C (st, nx, (sh k cnt fr), (upN mn k cnt), rc, (some k), us)) H → va_D A (wM cA h N C (st, nx, (sh k cnt fr), (upN mn k cnt), rc, (some k), us)) → va_S A s.heap H locs → lv_has ls 3 [(1, .int wv), (0, .ref (h 0))] → W p l e R s m args below meth c H locs 0 0 Q (F0 m 105 ls [])) :
    ∀ (n i : Nat) (H : Heap) (locs : List Loc) (ls : Array Slot), i ≤ cnt → cnt < i + n → va_P D classes (wM cA h N C (st, nx, (sh k i fr), (upN mn k cnt), rc, (some k), us)) H → va_D A (wM cA h N C (st, nx, (sh k i fr), (upN mn k cnt), rc, (some k), us)) → va_S A s.heap H locs → lv_has ls 3 [(2, .int (nI i)), (1, .int wv), (0, .ref (h 0))] → W p l e R s m args below meth c H locs 0 0 Q (F0 m 56 ls []) := by
  obtain ⟨hx, hb, hr, hlk, hml, hown, hts, hK, hA⟩ := B
  intro n
  induction n with
  | zero =>
    intro i H locs ls h1 h2 hP hD hS hl
    exact absurd h2 (by omega)
  | succ n ih =>
    intro i H locs ls h1 h2 hP hD hS hl
    refine lv_iload_n (pc := 56) hx hb d_M_useToken_56 rfl (lv_at hl 0 rfl) ?_
    refine lv_aload_n (pc := 57) hx hb d_M_useToken_57 rfl (lv_at hl 2 rfl) ?_
    refine gM (pc := 58) hx hb hts hown hK hP 5 (v := .ref (h 4)) rfl (by decide) tw_141 d_M_useToken_58 ?_
    refine lv_aload_n (pc := 61) hx hb d_M_useToken_61 rfl (lv_at hl 2 rfl) ?_
    refine gM (pc := 62) hx hb hts hown hK hP 7 (v := .int (nI k)) rfl (by decide) tw_143 d_M_useToken_62 ?_
    refine nv_ald (pc := 65) (f := (upN mn k cnt)) (j := k) (v := cnt) hx hb hK hP 4 rfl (by omega) (by decide) (upN_s mn k cnt) d_M_useToken_65 ?_
    refine nv_icmp_ge (pc := 66) (tgt := 105) (x := i) (y := cnt) hx hb (by omega) (by omega) d_M_useToken_66 (by decide) (fun c_66 => ?_) (fun c_66 => ?_)
    · have ei : i = cnt := by omega
      rw [ei] at hP hD
      exact kk H locs ls hP hD hS (lv_sub hl [1, 2] rfl)
    · refine lv_aload_n (pc := 69) hx hb d_M_useToken_69 rfl (lv_at hl 2 rfl) ?_
      refine gM (pc := 70) hx hb hts hown hK hP 4 (v := .ref (h 3)) rfl (by decide) tw_140 d_M_useToken_70 ?_
      refine lv_bipush (pc := 73) (v := nI 8) hx hb d_M_useToken_73 (by decide) ?_
      refine lv_aload_n (pc := 75) hx hb d_M_useToken_75 rfl (lv_at hl 2 rfl) ?_
      refine gM (pc := 76) hx hb hts hown hK hP 7 (v := .int (nI k)) rfl (by decide) tw_143 d_M_useToken_76 ?_
      refine nv_imul (pc := 79) (x := 8) (y := k) hx hb d_M_useToken_79 ?_
      refine lv_iload_n (pc := 80) hx hb d_M_useToken_80 rfl (lv_at hl 0 rfl) ?_
      refine nv_iadd (pc := 81) (x := 8 * k) (y := i) hx hb d_M_useToken_81 ?_
      refine lv_aload_n (pc := 82) hx hb d_M_useToken_82 rfl (lv_at hl 2 rfl) ?_
      refine gM (pc := 83) hx hb hts hown hK hP 4 (v := .ref (h 3)) rfl (by decide) tw_140 d_M_useToken_83 ?_
      refine lv_bipush (pc := 86) (v := nI 8) hx hb d_M_useToken_86 (by decide) ?_
      refine lv_aload_n (pc := 88) hx hb d_M_useToken_88 rfl (lv_at hl 2 rfl) ?_
      refine gM (pc := 89) hx hb hts hown hK hP 7 (v := .int (nI k)) rfl (by decide) tw_143 d_M_useToken_89 ?_
      refine nv_imul (pc := 92) (x := 8) (y := k) hx hb d_M_useToken_92 ?_
      refine lv_iload_n (pc := 93) hx hb d_M_useToken_93 rfl (lv_at hl 0 rfl) ?_
      refine nv_iadd (pc := 94) (x := 8 * k) (y := i) hx hb d_M_useToken_94 ?_
      refine lv_iconst (pc := 95) (v := (nI 1)) hx hb d_M_useToken_95 (by decide) ?_
      refine nv_iadd (pc := 96) (x := (8 * k) + i) (y := 1) hx hb d_M_useToken_96 ?_
      refine ni_ald (pc := 97) (f := (sh k i fr)) (j := ((8 * k) + i) + 1) (v := fr (8 * k + i + 1)) hx hb hK hP 3 rfl (by omega) (by decide) (sh_at k i fr) d_M_useToken_97 ?_
      refine ni_ast (pc := 98) (f := (sh k i fr)) (j := (8 * k) + i) (v := (fr (8 * k + i + 1))) hx hb hK hP hD hS 3 rfl (sh k (i + 1) fr) (by omega) (by decide) (sh_s k i fr) d_M_useToken_98 (fun H locs hP hD hS => ?_)
      have hP : va_P D classes (wM cA h N C (st, nx, (sh k (i + 1) fr), (upN mn k cnt), rc, (some k), us)) H := hP
      have hD : va_D A (wM cA h N C (st, nx, (sh k (i + 1) fr), (upN mn k cnt), rc, (some k), us)) := hD
      refine nv_iinc (pc := 99) (k := 0) hx hb [(2, .int (nI (i + 1))), (1, .int wv), (0, .ref (h 0))] d_M_useToken_99 hl rfl (by decide) rfl (fun ls hl => ?_)
      refine lv_goto (pc := 102) (tgt := 56) hx hb d_M_useToken_102 (by decide) ?_
      exact ih (i + 1) H locs ls (by omega) (by omega) hP hD hS (lv_sub hl [0, 1, 2] rfl)
set_option maxHeartbeats 4000000 in
set_option maxRecDepth 100000 in
theorem lp_M_useToken2 {p : Program} {l : Launch} {e : Env} {R : Room} {s : State} {m : MethodId} {args : Array Value} {below : List Frame} {meth : Method} {c : Code} {A : Nat → Prop} {Q : State → Prop} {ret : Option FieldType} {D : va_G} {cA : ClassId} {h : Nat → Nat} {N C : Nat} {st nx : Nat → Nat} {fr : Nat → Int32} {mn : Nat → Nat} {rc : Nat → Int32} {tk : Option Nat} {us : Bool} {k : Nat} {wv : Int32} (hN : 2 ≤ N ∧ N ≤ 16) (hst : ∀ j, st j ≤ 3) (hk : k < N) (B : Ctx p s m args meth c b_M_useToken 3 ret R_M D cA A)
    (kk : ∀ (H : Heap) (locs : List Loc) (ls : Array Slot), va_P D classes (wM cA h N C (st, nx, fr, mn, (rcv N k st rc), (some k), us)) H → va_D A (wM cA h N C (st, nx, fr, mn, (rcv N k st rc), (some k), us)) → va_S A s.heap H locs → lv_has ls 3 [(1, .int wv), (0, .ref (h 0))] → W p l e R s m args below meth c H locs 0 0 Q (F0 m 161 ls [])) :
    ∀ (n i : Nat) (H : Heap) (locs : List Loc) (ls : Array Slot), i ≤ N → N < i + n → va_P D classes (wM cA h N C (st, nx, fr, mn, (rcv i k st rc), (some k), us)) H → va_D A (wM cA h N C (st, nx, fr, mn, (rcv i k st rc), (some k), us)) → va_S A s.heap H locs → lv_has ls 3 [(2, .int (nI i)), (1, .int wv), (0, .ref (h 0))] → W p l e R s m args below meth c H locs 0 0 Q (F0 m 107 ls []) := by
  obtain ⟨hx, hb, hr, hlk, hml, hown, hts, hK, hA⟩ := B
  intro n
  induction n with
  | zero =>
    intro i H locs ls h1 h2 hP hD hS hl
    exact absurd h2 (by omega)
  | succ n ih =>
    intro i H locs ls h1 h2 hP hD hS hl
    refine lv_iload_n (pc := 107) hx hb d_M_useToken_107 rfl (lv_at hl 0 rfl) ?_
    refine lv_aload_n (pc := 108) hx hb d_M_useToken_108 rfl (lv_at hl 2 rfl) ?_
    refine gM (pc := 109) hx hb hts hown hK hP 0 (v := .int (nI N)) rfl (by decide) tw_136 d_M_useToken_109 ?_
    refine nv_icmp_ge (pc := 112) (tgt := 161) (x := i) (y := N) hx hb (by omega) (by omega) d_M_useToken_112 (by decide) (fun c_112 => ?_) (fun c_112 => ?_)
    · have ei : i = N := by omega
      rw [ei] at hP hD
      exact kk H locs ls hP hD hS (lv_sub hl [1, 2] rfl)
    · refine lv_aload_n (pc := 115) hx hb d_M_useToken_115 rfl (lv_at hl 2 rfl) ?_
      refine gM (pc := 116) hx hb hts hown hK hP 6 (v := .ref (h 5)) rfl (by decide) tw_142 d_M_useToken_116 ?_
      refine lv_iload_n (pc := 119) hx hb d_M_useToken_119 rfl (lv_at hl 0 rfl) ?_
      refine lv_iload_n (pc := 120) hx hb d_M_useToken_120 rfl (lv_at hl 0 rfl) ?_
      refine lv_aload_n (pc := 121) hx hb d_M_useToken_121 rfl (lv_at hl 2 rfl) ?_
      refine gM (pc := 122) hx hb hts hown hK hP 7 (v := .int (nI k)) rfl (by decide) tw_143 d_M_useToken_122 ?_
      refine nv_icmp_eq (pc := 125) (tgt := 148) (x := i) (y := k) hx hb (by omega) (by omega) d_M_useToken_125 (by decide) (fun c_125 => ?_) (fun c_125 => ?_)
      · refine lv_aload_n (pc := 148) hx hb d_M_useToken_148 rfl (lv_at hl 2 rfl) ?_
        refine gM (pc := 149) hx hb hts hown hK hP 6 (v := .ref (h 5)) rfl (by decide) tw_142 d_M_useToken_149 ?_
        refine lv_iload_n (pc := 152) hx hb d_M_useToken_152 rfl (lv_at hl 0 rfl) ?_
        refine ni_ald (pc := 153) (f := (rcv i k st rc)) (j := i) (v := rc i) hx hb hK hP 5 rfl (by omega) (by decide) (rcv_at i k st rc) d_M_useToken_153 ?_
        refine ni_ast (pc := 154) (f := (rcv i k st rc)) (j := i) (v := (rc i)) hx hb hK hP hD hS 5 rfl (rcv (i + 1) k st rc) (by omega) (by decide) (rcv_w (Or.inl c_125)) d_M_useToken_154 (fun H locs hP hD hS => ?_)
        have hP : va_P D classes (wM cA h N C (st, nx, fr, mn, (rcv (i + 1) k st rc), (some k), us)) H := hP
        have hD : va_D A (wM cA h N C (st, nx, fr, mn, (rcv (i + 1) k st rc), (some k), us)) := hD
        refine nv_iinc (pc := 155) (k := 0) hx hb [(2, .int (nI (i + 1))), (1, .int wv), (0, .ref (h 0))] d_M_useToken_155 hl rfl (by decide) rfl (fun ls hl => ?_)
        refine lv_goto (pc := 158) (tgt := 107) hx hb d_M_useToken_158 (by decide) ?_
        exact ih (i + 1) H locs ls (by omega) (by omega) hP hD hS (lv_sub hl [0, 1, 2] rfl)
      · refine lv_aload_n (pc := 128) hx hb d_M_useToken_128 rfl (lv_at hl 2 rfl) ?_
        refine gM (pc := 129) hx hb hts hown hK hP 2 (v := .ref (h 1)) rfl (by decide) tw_138 d_M_useToken_129 ?_
        refine lv_iload_n (pc := 132) hx hb d_M_useToken_132 rfl (lv_at hl 0 rfl) ?_
        refine nv_ald (pc := 133) (f := st) (j := i) (v := st i) hx hb hK hP 1 rfl (by omega) (by decide) rfl d_M_useToken_133 ?_
        refine nv_if_eq (pc := 134) (tgt := 148) (x := st i) hx hb (by have := hst i; omega) d_M_useToken_134 (by decide) (fun c_134 => ?_) (fun c_134 => ?_)
        · refine lv_aload_n (pc := 148) hx hb d_M_useToken_148 rfl (lv_at hl 2 rfl) ?_
          refine gM (pc := 149) hx hb hts hown hK hP 6 (v := .ref (h 5)) rfl (by decide) tw_142 d_M_useToken_149 ?_
          refine lv_iload_n (pc := 152) hx hb d_M_useToken_152 rfl (lv_at hl 0 rfl) ?_
          refine ni_ald (pc := 153) (f := (rcv i k st rc)) (j := i) (v := rc i) hx hb hK hP 5 rfl (by omega) (by decide) (rcv_at i k st rc) d_M_useToken_153 ?_
          refine ni_ast (pc := 154) (f := (rcv i k st rc)) (j := i) (v := (rc i)) hx hb hK hP hD hS 5 rfl (rcv (i + 1) k st rc) (by omega) (by decide) (rcv_w (Or.inr c_134)) d_M_useToken_154 (fun H locs hP hD hS => ?_)
          have hP : va_P D classes (wM cA h N C (st, nx, fr, mn, (rcv (i + 1) k st rc), (some k), us)) H := hP
          have hD : va_D A (wM cA h N C (st, nx, fr, mn, (rcv (i + 1) k st rc), (some k), us)) := hD
          refine nv_iinc (pc := 155) (k := 0) hx hb [(2, .int (nI (i + 1))), (1, .int wv), (0, .ref (h 0))] d_M_useToken_155 hl rfl (by decide) rfl (fun ls hl => ?_)
          refine lv_goto (pc := 158) (tgt := 107) hx hb d_M_useToken_158 (by decide) ?_
          exact ih (i + 1) H locs ls (by omega) (by omega) hP hD hS (lv_sub hl [0, 1, 2] rfl)
        · refine lv_aload_n (pc := 137) hx hb d_M_useToken_137 rfl (lv_at hl 2 rfl) ?_
          refine gM (pc := 138) hx hb hts hown hK hP 6 (v := .ref (h 5)) rfl (by decide) tw_142 d_M_useToken_138 ?_
          refine lv_iload_n (pc := 141) hx hb d_M_useToken_141 rfl (lv_at hl 0 rfl) ?_
          refine ni_ald (pc := 142) (f := (rcv i k st rc)) (j := i) (v := rc i) hx hb hK hP 5 rfl (by omega) (by decide) (rcv_at i k st rc) d_M_useToken_142 ?_
          refine lv_iconst (pc := 143) (v := (nI 1)) hx hb d_M_useToken_143 (by decide) ?_
          refine lv_iadd (pc := 144) hx hb d_M_useToken_144 ?_
          refine lv_goto (pc := 145) (tgt := 154) hx hb d_M_useToken_145 (by decide) ?_
          refine ni_ast (pc := 154) (f := (rcv i k st rc)) (j := i) (v := ((rc i) + (nI 1))) hx hb hK hP hD hS 5 rfl (rcv (i + 1) k st rc) (by omega) (by decide) (rcv_y c_125 c_134) d_M_useToken_154 (fun H locs hP hD hS => ?_)
          have hP : va_P D classes (wM cA h N C (st, nx, fr, mn, (rcv (i + 1) k st rc), (some k), us)) H := hP
          have hD : va_D A (wM cA h N C (st, nx, fr, mn, (rcv (i + 1) k st rc), (some k), us)) := hD
          refine nv_iinc (pc := 155) (k := 0) hx hb [(2, .int (nI (i + 1))), (1, .int wv), (0, .ref (h 0))] d_M_useToken_155 hl rfl (by decide) rfl (fun ls hl => ?_)
          refine lv_goto (pc := 158) (tgt := 107) hx hb d_M_useToken_158 (by decide) ?_
          exact ih (i + 1) H locs ls (by omega) (by omega) hP hD hS (lv_sub hl [0, 1, 2] rfl)
set_option maxHeartbeats 4000000 in
set_option maxRecDepth 100000 in
/-- useToken -/
theorem c_M_useToken (l : Launch) (D : va_G) (cA : ClassId) (h : Nat → Nat) (sz N C : Nat) (st nx : Nat → Nat) (fr : Nat → Int32) (mn : Nat → Nat) (rc : Nat → Int32) (tk : Option Nat) (us : Bool) (hN : 2 ≤ N ∧ N ≤ 16) (hst : ∀ j, st j ≤ 3) (hC : 1 ≤ C ∧ C ≤ 8) (hmn : ∀ j, mn j ≤ C) (htk : ∀ k, tk = some k → k < N) : MetI l y_M_useToken b_M_useToken 3 (some .int) rq0 D cA (h 0) [] (wM cA h N C (st, nx, fr, mn, rc, tk, us)) (wM cA h N C) (fun r u => (r, u) = M_useToken N st nx fr mn rc tk us) sz := by
  refine metI (own := R_M) (by decide) rfl (Nat.le_of_ble_eq_true rfl) ?_
  intro p e s m below meth c A ls H locs B hP hD hS hl
  obtain ⟨hx, hb, hr, hlk, hml, hown, hts, hK, hA⟩ := B
  have hl : lv_has ls 3 [(0, .ref (h 0))] := hl
  cases tk with
  | none =>
    refine lv_aload_n (pc := 0) hx hb d_M_useToken_0 rfl (lv_at hl 0 rfl) ?_
    refine gM (pc := 1) hx hb hts hown hK hP 7 (v := .int (-1)) rfl (by decide) tw_143 d_M_useToken_1 ?_
    refine nv_if_ltM (pc := 4) (tgt := 26) hx hb d_M_useToken_4 (by decide) ?_
    refine lv_iconst (pc := 26) (v := -1) hx hb d_M_useToken_26 (by decide) ?_
    exact retI (st, nx, fr, mn, rc, none, us) hx hb hr hlk hK hP hD hS (rfl) d_M_useToken_27
  | some k =>
    have hk := htk k rfl
    have hmk := hmn k
    refine lv_aload_n (pc := 0) hx hb d_M_useToken_0 rfl (lv_at hl 0 rfl) ?_
    refine gM (pc := 1) hx hb hts hown hK hP 7 (v := .int (nI k)) rfl (by decide) tw_143 d_M_useToken_1 ?_
    refine nv_if_ltN (pc := 4) (tgt := 26) (x := k) hx hb (by omega) d_M_useToken_4 (by decide) ?_
    refine lv_aload_n (pc := 7) hx hb d_M_useToken_7 rfl (lv_at hl 0 rfl) ?_
    refine gM (pc := 8) hx hb hts hown hK hP 8 (v := .int (bv us)) rfl (by decide) tw_144 d_M_useToken_8 ?_
    refine nv_if_neB (pc := 11) (tgt := 26) hx hb d_M_useToken_11 (by decide) (fun c_11 => ?_) (fun c_11 => ?_)
    · refine lv_iconst (pc := 26) (v := -1) hx hb d_M_useToken_26 (by decide) ?_
      exact retI (st, nx, fr, mn, rc, (some k), us) hx hb hr hlk hK hP hD hS (by simp [M_useToken, c_11]) d_M_useToken_27
    · refine lv_aload_n (pc := 14) hx hb d_M_useToken_14 rfl (lv_at hl 0 rfl) ?_
      refine gM (pc := 15) hx hb hts hown hK hP 5 (v := .ref (h 4)) rfl (by decide) tw_141 d_M_useToken_15 ?_
      refine lv_aload_n (pc := 18) hx hb d_M_useToken_18 rfl (lv_at hl 0 rfl) ?_
      refine gM (pc := 19) hx hb hts hown hK hP 7 (v := .int (nI k)) rfl (by decide) tw_143 d_M_useToken_19 ?_
      refine nv_ald (pc := 22) (f := mn) (j := k) (v := mn k) hx hb hK hP 4 rfl (by omega) (by decide) rfl d_M_useToken_22 ?_
      refine nv_if_ne (pc := 23) (tgt := 28) (x := mn k) hx hb (by have := hmn k; omega) d_M_useToken_23 (by decide) (fun c_23 => ?_) (fun c_23 => ?_)
      · refine lv_aload_n (pc := 28) hx hb d_M_useToken_28 rfl (lv_at hl 0 rfl) ?_
        refine gM (pc := 29) hx hb hts hown hK hP 4 (v := .ref (h 3)) rfl (by decide) tw_140 d_M_useToken_29 ?_
        refine lv_bipush (pc := 32) (v := nI 8) hx hb d_M_useToken_32 (by decide) ?_
        refine lv_aload_n (pc := 34) hx hb d_M_useToken_34 rfl (lv_at hl 0 rfl) ?_
        refine gM (pc := 35) hx hb hts hown hK hP 7 (v := .int (nI k)) rfl (by decide) tw_143 d_M_useToken_35 ?_
        refine nv_imul (pc := 38) (x := 8) (y := k) hx hb d_M_useToken_38 ?_
        refine ni_ald (pc := 39) (f := fr) (j := 8 * k) (v := fr (8 * k)) hx hb hK hP 3 rfl (by omega) (by decide) rfl d_M_useToken_39 ?_
        refine lv_istore_n (pc := 40) (lv' := [(1, .int (fr (8 * k))), (0, .ref (h 0))]) hx hb d_M_useToken_40 rfl hl (by decide) rfl (fun ls hl => ?_)
        refine lv_aload_n (pc := 41) hx hb d_M_useToken_41 rfl (lv_at hl 1 rfl) ?_
        refine gM (pc := 42) hx hb hts hown hK hP 5 (v := .ref (h 4)) rfl (by decide) tw_141 d_M_useToken_42 ?_
        refine lv_aload_n (pc := 45) hx hb d_M_useToken_45 rfl (lv_at hl 1 rfl) ?_
        refine gM (pc := 46) hx hb hts hown hK hP 7 (v := .int (nI k)) rfl (by decide) tw_143 d_M_useToken_46 ?_
        refine lv_dup2_11 (pc := 49) hx hb d_M_useToken_49 rfl rfl ?_
        refine nv_ald (pc := 50) (f := mn) (j := k) (v := mn k) hx hb hK hP 4 rfl (by omega) (by decide) rfl d_M_useToken_50 ?_
        refine lv_iconst (pc := 51) (v := (nI 1)) hx hb d_M_useToken_51 (by decide) ?_
        refine nv_isub (pc := 52) (x := mn k) (y := 1) hx hb (by have := hmn k; omega) d_M_useToken_52 ?_
        refine nv_ast (pc := 53) (f := mn) (j := k) (v := (mn k) - 1) hx hb hK hP hD hS 4 rfl (upN mn k ((mn k) - 1)) (by omega) (by decide) rfl d_M_useToken_53 (fun H locs hP hD hS => ?_)
        have hP : va_P D classes (wM cA h N C (st, nx, fr, (upN mn k ((mn k) - 1)), rc, (some k), us)) H := hP
        have hD : va_D A (wM cA h N C (st, nx, fr, (upN mn k ((mn k) - 1)), rc, (some k), us)) := hD
        refine lv_iconst (pc := 54) (v := (nI 0)) hx hb d_M_useToken_54 (by decide) ?_
        refine lv_istore_n (pc := 55) (lv' := [(2, .int (nI 0)), (1, .int (fr (8 * k))), (0, .ref (h 0))]) hx hb d_M_useToken_55 rfl hl (by decide) rfl (fun ls hl => ?_)
        refine lp_M_useToken1 (N := N) (C := C) (st := st) (nx := nx) (fr := fr) (mn := mn) (rc := rc) (tk := none) (us := us) (k := k) (cnt := mn k - 1) hN hk (by omega) ⟨hx, hb, hr, hlk, hml, hown, hts, hK, hA⟩ (fun H locs ls hP hD hS hl => ?_) (mn k - 1 + 1) 0 H locs ls (by omega) (by omega) (by rw [sh_0]; exact hP) (by rw [sh_0]; exact hD) hS (lv_sub hl [0, 1, 2] rfl)
        refine lv_iconst (pc := 105) (v := (nI 0)) hx hb d_M_useToken_105 (by decide) ?_
        refine lv_istore_n (pc := 106) (lv' := [(2, .int (nI 0)), (1, .int (fr (8 * k))), (0, .ref (h 0))]) hx hb d_M_useToken_106 rfl hl (by decide) rfl (fun ls hl => ?_)
        refine lp_M_useToken2 (N := N) (C := C) (st := st) (nx := nx) (fr := (sh k (mn k - 1) fr)) (mn := (upN mn k ((mn k) - 1))) (rc := rc) (tk := none) (us := us) (k := k) hN hst hk ⟨hx, hb, hr, hlk, hml, hown, hts, hK, hA⟩ (fun H locs ls hP hD hS hl => ?_) (N + 1) 0 H locs ls (by omega) (by omega) (by rw [rcv_0]; exact hP) (by rw [rcv_0]; exact hD) hS (lv_sub hl [0, 1, 2] rfl)
        refine lv_aload_n (pc := 161) hx hb d_M_useToken_161 rfl (lv_at hl 1 rfl) ?_
        refine lv_iconst (pc := 162) (v := (bv true)) hx hb d_M_useToken_162 (by decide) ?_
        refine pM_use (pc := 163) hx hb hts hown hK hP hD hS true d_M_useToken_163 (fun H locs hP hD hS => ?_)
        refine lv_iload_n (pc := 166) hx hb d_M_useToken_166 rfl (lv_at hl 0 rfl) ?_
        exact retI (st, nx, (sh k (mn k - 1) fr), (upN mn k ((mn k) - 1)), (rcv N k st rc), (some k), true) hx hb hr hlk hK hP hD hS (by simp [M_useToken, c_11, c_23]) d_M_useToken_167
      · refine lv_iconst (pc := 26) (v := -1) hx hb d_M_useToken_26 (by decide) ?_
        exact retI (st, nx, fr, mn, rc, (some k), us) hx hb hr hlk hK hP hD hS (by simp [M_useToken, c_11, c_23]) d_M_useToken_27
end
section
set_option maxHeartbeats 4000000 in
set_option maxRecDepth 100000 in
theorem lp_X_repair {p : Program} {l : Launch} {e : Env} {R : Room} {s : State} {m : MethodId} {args : Array Value} {below : List Frame} {meth : Method} {c : Code} {A : Nat → Prop} {Q : State → Prop} {ret : Option FieldType} {D : va_G} {cA : ClassId} {h : Nat → Nat} {N C : Nat} {st nx : Nat → Nat} {fr : Nat → Int32} {fi mn : Nat → Nat} {rc : Nat → Int32} {tk : Option Nat} {us : Bool} {k r : Nat} (hN : 2 ≤ N ∧ N ≤ 16) (hst : ∀ j, st j ≤ 3) (hnx : ∀ j, nx j < N) (hk : k < N) (hR : 1 ≤ R.frames ∧ 21 ≤ R.locals) (h3 : st r = 3) (B : Ctx p s m args meth c b_X_repair 2 ret R_X D cA A)
    (kk : ∀ (H : Heap) (locs : List Loc) (ls : Array Slot), va_P D classes (wX cA h N C (st, nx, fr, fi, mn, rc, (some k), us)) H → va_D A (wX cA h N C (st, nx, fr, fi, mn, rc, (some k), us)) → va_S A s.heap H locs → lv_has ls 2 [(1, .int (nI r)), (0, .ref (h 0))] → W p l e R s m args below meth c H locs 0 0 Q (F0 m 29 ls [])) :
    ∀ (n j : Nat) (H : Heap) (locs : List Loc) (ls : Array Slot), j < N → wk N (mem st) n j = r → va_P D classes (wX cA h N C (st, nx, fr, fi, mn, rc, (some k), us)) H → va_D A (wX cA h N C (st, nx, fr, fi, mn, rc, (some k), us)) → va_S A s.heap H locs → lv_has ls 2 [(1, .int (nI j)), (0, .ref (h 0))] → W p l e R s m args below meth c H locs 0 0 Q (F0 m 10 ls []) := by
  obtain ⟨hx, hb, hr, hlk, hml, hown, hts, hK, hA⟩ := B
  intro n
  induction n with
  | zero =>
    intro j H locs ls hj hw0 hP hD hS hl
    have ej : j = r := hw0
    refine lv_aload_n (pc := 10) hx hb d_X_repair_10 rfl (lv_at hl 1 rfl) ?_
    refine gX (pc := 11) hx hb hts hown hK hP 2 (v := .ref (h 1)) rfl (by decide) tw_13 d_X_repair_11 ?_
    refine lv_iload_n (pc := 14) hx hb d_X_repair_14 rfl (lv_at hl 0 rfl) ?_
    refine nv_ald (pc := 15) (f := st) (j := j) (v := st j) hx hb hK hP 1 rfl (by omega) (by decide) rfl d_X_repair_15 ?_
    refine lv_iconst (pc := 16) (v := (nI 3)) hx hb d_X_repair_16 (by decide) ?_
    refine nv_icmp_eq (pc := 17) (tgt := 29) (x := st j) (y := 3) hx hb (by have := hst j; omega) (by decide) d_X_repair_17 (by decide) (fun c_17 => ?_) (fun c_17 => absurd c_17 (fun z => z (by rw [ej]; exact h3)))
    rw [ej] at hl
    exact kk H locs ls hP hD hS (lv_sub hl [0, 1] rfl)
  | succ n ih =>
    intro j H locs ls hj hw0 hP hD hS hl
    refine lv_aload_n (pc := 10) hx hb d_X_repair_10 rfl (lv_at hl 1 rfl) ?_
    refine gX (pc := 11) hx hb hts hown hK hP 2 (v := .ref (h 1)) rfl (by decide) tw_13 d_X_repair_11 ?_
    refine lv_iload_n (pc := 14) hx hb d_X_repair_14 rfl (lv_at hl 0 rfl) ?_
    refine nv_ald (pc := 15) (f := st) (j := j) (v := st j) hx hb hK hP 1 rfl (by omega) (by decide) rfl d_X_repair_15 ?_
    refine lv_iconst (pc := 16) (v := (nI 3)) hx hb d_X_repair_16 (by decide) ?_
    refine nv_icmp_eq (pc := 17) (tgt := 29) (x := st j) (y := 3) hx hb (by have := hst j; omega) (by decide) d_X_repair_17 (by decide) (fun c_17 => ?_) (fun c_17 => ?_)
    · have ej : j = r := (wk_at (by simpa using c_17)).symm.trans hw0
      rw [ej] at hl
      exact kk H locs ls hP hD hS (lv_sub hl [0, 1] rfl)
    · refine lv_aload_n (pc := 20) hx hb d_X_repair_20 rfl (lv_at hl 1 rfl) ?_
      refine lv_iload_n (pc := 21) hx hb d_X_repair_21 rfl (lv_at hl 0 rfl) ?_
      refine cllI (pc := 22) (As := [.int (nI j)]) (rest := []) (wr := []) hx hb hml hown hts hK hP hD hS hA hl.1 (c_X_below l D cA h H.size N C st nx fr fi mn rc (some k) us (j) hN hj) [0, 1, 2, 3, 4, 5, 6] [] rfl rfl (by decide) (by decide) (by decide) rfl rfl rfl (goodV tw_79 tw_81 ts_X_below tw_1 tw_82) (na := 1) (by decide +kernel) rfl ⟨rfl, rfl, hR.1, hR.2⟩ (Nat.le_of_ble_eq_true rfl) ⟨Nat.zero_le _, Nat.zero_le _⟩ rfl d_X_repair_22 (fun r u H locs hw hP hD hS => ?_)
      obtain ⟨rfl, rfl⟩ := hw
      have hP : va_P D classes (wX cA h N C (st, nx, fr, fi, mn, rc, (some k), us)) H := hP
      have hD : va_D A (wX cA h N C (st, nx, fr, fi, mn, rc, (some k), us)) := hD
      refine lv_istore_n (pc := 25) (lv' := [(1, .int (nI (bl N j))), (0, .ref (h 0))]) hx hb d_X_repair_25 rfl hl (by decide) rfl (fun ls hl => ?_)
      refine lv_goto (pc := 26) (tgt := 10) hx hb d_X_repair_26 (by decide) ?_
      exact ih (bl N j) H locs ls (bl_lt hN.1 hj) ((wk_step (by simpa using c_17)).symm.trans hw0) hP hD hS (lv_sub hl [0, 1] rfl)
set_option maxHeartbeats 4000000 in
set_option maxRecDepth 100000 in
/-- repair: the successor of the holder put right -/
theorem c_X_repair (l : Launch) (D : va_G) (cA : ClassId) (h : Nat → Nat) (sz N C : Nat) (st nx : Nat → Nat) (fr : Nat → Int32) (fi mn : Nat → Nat) (rc : Nat → Int32) (tk : Option Nat) (us : Bool) (k : Nat) (hk : k < N) (h3 : st k = 3) (hN : 2 ≤ N ∧ N ≤ 16) (hst : ∀ j, st j ≤ 3) (hnx : ∀ j, nx j < N) (htk : tk = some k) : MetV l y_X_repair b_X_repair 2 rq1 D cA (h 0) [] (wX cA h N C (st, nx, fr, fi, mn, rc, tk, us)) (wX cA h N C) (fun u => u = (st, upN nx k (gw N st nx k), fr, fi, mn, rc, some k, us)) sz := by
  refine metV (own := R_X) (by decide) rfl (Nat.le_of_ble_eq_true rfl) ?_
  intro p e s m below meth c A ls H locs B hP hD hS hl
  obtain ⟨hx, hb, hr, hlk, hml, hown, hts, hK, hA⟩ := B
  have hl : lv_has ls 2 [(0, .ref (h 0))] := hl
  subst htk
  have hnk := hnx k
  have hg := gw_ok hN hnx hk h3
  refine lv_aload_n (pc := 0) hx hb d_X_repair_0 rfl (lv_at hl 0 rfl) ?_
  refine gX (pc := 1) hx hb hts hown hK hP 3 (v := .ref (h 2)) rfl (by decide) tw_14 d_X_repair_1 ?_
  refine lv_aload_n (pc := 4) hx hb d_X_repair_4 rfl (lv_at hl 0 rfl) ?_
  refine gX (pc := 5) hx hb hts hown hK hP 8 (v := .int (nI k)) rfl (by decide) tw_19 d_X_repair_5 ?_
  refine nv_ald (pc := 8) (f := nx) (j := k) (v := nx k) hx hb hK hP 2 rfl (by omega) (by decide) rfl d_X_repair_8 ?_
  refine lv_istore_n (pc := 9) (lv' := [(1, .int (nI (nx k))), (0, .ref (h 0))]) hx hb d_X_repair_9 rfl hl (by decide) rfl (fun ls hl => ?_)
  refine lp_X_repair (N := N) (C := C) (st := st) (nx := nx) (fr := fr) (fi := fi) (mn := mn) (rc := rc) (tk := none) (us := us) (k := k) (r := gw N st nx k) hN hst hnx hk ⟨by decide, by decide⟩ hg.2 ⟨hx, hb, hr, hlk, hml, hown, hts, hK, hA⟩ (fun H locs ls hP hD hS hl => ?_) 16 (nx k) H locs ls hnk rfl hP hD hS (lv_sub hl [0, 1] rfl)
  refine lv_aload_n (pc := 29) hx hb d_X_repair_29 rfl (lv_at hl 1 rfl) ?_
  refine gX (pc := 30) hx hb hts hown hK hP 3 (v := .ref (h 2)) rfl (by decide) tw_14 d_X_repair_30 ?_
  refine lv_aload_n (pc := 33) hx hb d_X_repair_33 rfl (lv_at hl 1 rfl) ?_
  refine gX (pc := 34) hx hb hts hown hK hP 8 (v := .int (nI k)) rfl (by decide) tw_19 d_X_repair_34 ?_
  refine lv_iload_n (pc := 37) hx hb d_X_repair_37 rfl (lv_at hl 0 rfl) ?_
  refine nv_ast (pc := 38) (f := nx) (j := k) (v := gw N st nx k) hx hb hK hP hD hS 2 rfl (upN nx k (gw N st nx k)) (by omega) (by decide) rfl d_X_repair_38 (fun H locs hP hD hS => ?_)
  have hP : va_P D classes (wX cA h N C (st, (upN nx k (gw N st nx k)), fr, fi, mn, rc, (some k), us)) H := hP
  have hD : va_D A (wX cA h N C (st, (upN nx k (gw N st nx k)), fr, fi, mn, rc, (some k), us)) := hD
  exact retV (st, (upN nx k (gw N st nx k)), fr, fi, mn, rc, (some k), us) hx hb hr hlk hK hP hD hS (rfl) d_X_repair_39
set_option maxHeartbeats 4000000 in
set_option maxRecDepth 100000 in
theorem lp_M_pass {p : Program} {l : Launch} {e : Env} {R : Room} {s : State} {m : MethodId} {args : Array Value} {below : List Frame} {meth : Method} {c : Code} {A : Nat → Prop} {Q : State → Prop} {ret : Option FieldType} {D : va_G} {cA : ClassId} {h : Nat → Nat} {N C : Nat} {st nx : Nat → Nat} {fr : Nat → Int32} {mn : Nat → Nat} {rc : Nat → Int32} {tk : Option Nat} {us : Bool} {k r : Nat} (hN : 2 ≤ N ∧ N ≤ 16) (hst : ∀ j, st j ≤ 3) (hnx : ∀ j, nx j < N) (hk : k < N) (hR : 1 ≤ R.frames ∧ 21 ≤ R.locals) (h3 : st r = 3) (B : Ctx p s m args meth c b_M_pass 2 ret R_M D cA A)
    (kk : ∀ (H : Heap) (locs : List Loc) (ls : Array Slot), va_P D classes (wM cA h N C (st, nx, fr, mn, rc, (some k), us)) H → va_D A (wM cA h N C (st, nx, fr, mn, rc, (some k), us)) → va_S A s.heap H locs → lv_has ls 2 [(1, .int (nI r)), (0, .ref (h 0))] → W p l e R s m args below meth c H locs 0 0 Q (F0 m 45 ls [])) :
    ∀ (n j : Nat) (H : Heap) (locs : List Loc) (ls : Array Slot), j < N → wk N (mem st) n j = r → va_P D classes (wM cA h N C (st, nx, fr, mn, rc, (some k), us)) H → va_D A (wM cA h N C (st, nx, fr, mn, rc, (some k), us)) → va_S A s.heap H locs → lv_has ls 2 [(1, .int (nI j)), (0, .ref (h 0))] → W p l e R s m args below meth c H locs 0 0 Q (F0 m 26 ls []) := by
  obtain ⟨hx, hb, hr, hlk, hml, hown, hts, hK, hA⟩ := B
  intro n
  induction n with
  | zero =>
    intro j H locs ls hj hw0 hP hD hS hl
    have ej : j = r := hw0
    refine lv_aload_n (pc := 26) hx hb d_M_pass_26 rfl (lv_at hl 1 rfl) ?_
    refine gM (pc := 27) hx hb hts hown hK hP 2 (v := .ref (h 1)) rfl (by decide) tw_138 d_M_pass_27 ?_
    refine lv_iload_n (pc := 30) hx hb d_M_pass_30 rfl (lv_at hl 0 rfl) ?_
    refine nv_ald (pc := 31) (f := st) (j := j) (v := st j) hx hb hK hP 1 rfl (by omega) (by decide) rfl d_M_pass_31 ?_
    refine lv_iconst (pc := 32) (v := (nI 3)) hx hb d_M_pass_32 (by decide) ?_
    refine nv_icmp_eq (pc := 33) (tgt := 45) (x := st j) (y := 3) hx hb (by have := hst j; omega) (by decide) d_M_pass_33 (by decide) (fun c_33 => ?_) (fun c_33 => absurd c_33 (fun z => z (by rw [ej]; exact h3)))
    rw [ej] at hl
    exact kk H locs ls hP hD hS (lv_sub hl [0, 1] rfl)
  | succ n ih =>
    intro j H locs ls hj hw0 hP hD hS hl
    refine lv_aload_n (pc := 26) hx hb d_M_pass_26 rfl (lv_at hl 1 rfl) ?_
    refine gM (pc := 27) hx hb hts hown hK hP 2 (v := .ref (h 1)) rfl (by decide) tw_138 d_M_pass_27 ?_
    refine lv_iload_n (pc := 30) hx hb d_M_pass_30 rfl (lv_at hl 0 rfl) ?_
    refine nv_ald (pc := 31) (f := st) (j := j) (v := st j) hx hb hK hP 1 rfl (by omega) (by decide) rfl d_M_pass_31 ?_
    refine lv_iconst (pc := 32) (v := (nI 3)) hx hb d_M_pass_32 (by decide) ?_
    refine nv_icmp_eq (pc := 33) (tgt := 45) (x := st j) (y := 3) hx hb (by have := hst j; omega) (by decide) d_M_pass_33 (by decide) (fun c_33 => ?_) (fun c_33 => ?_)
    · have ej : j = r := (wk_at (by simpa using c_33)).symm.trans hw0
      rw [ej] at hl
      exact kk H locs ls hP hD hS (lv_sub hl [0, 1] rfl)
    · refine lv_aload_n (pc := 36) hx hb d_M_pass_36 rfl (lv_at hl 1 rfl) ?_
      refine lv_iload_n (pc := 37) hx hb d_M_pass_37 rfl (lv_at hl 0 rfl) ?_
      refine cllI (pc := 38) (As := [.int (nI j)]) (rest := []) (wr := []) hx hb hml hown hts hK hP hD hS hA hl.1 (c_M_below l D cA h H.size N C st nx fr mn rc (some k) us (j) hN hj) [0, 1, 2, 3, 4, 5] [] rfl rfl (by decide) (by decide) (by decide) rfl rfl rfl (goodV tw_193 tw_195 ts_M_below tw_2 tw_196) (na := 1) (by decide +kernel) rfl ⟨rfl, rfl, hR.1, hR.2⟩ (Nat.le_of_ble_eq_true rfl) ⟨Nat.zero_le _, Nat.zero_le _⟩ rfl d_M_pass_38 (fun r u H locs hw hP hD hS => ?_)
      obtain ⟨rfl, rfl⟩ := hw
      have hP : va_P D classes (wM cA h N C (st, nx, fr, mn, rc, (some k), us)) H := hP
      have hD : va_D A (wM cA h N C (st, nx, fr, mn, rc, (some k), us)) := hD
      refine lv_istore_n (pc := 41) (lv' := [(1, .int (nI (bl N j))), (0, .ref (h 0))]) hx hb d_M_pass_41 rfl hl (by decide) rfl (fun ls hl => ?_)
      refine lv_goto (pc := 42) (tgt := 26) hx hb d_M_pass_42 (by decide) ?_
      exact ih (bl N j) H locs ls (bl_lt hN.1 hj) ((wk_step (by simpa using c_33)).symm.trans hw0) hP hD hS (lv_sub hl [0, 1] rfl)
set_option maxHeartbeats 4000000 in
set_option maxRecDepth 100000 in
/-- pass: the token goes on -/
theorem c_M_pass (l : Launch) (D : va_G) (cA : ClassId) (h : Nat → Nat) (sz N C : Nat) (st nx : Nat → Nat) (fr : Nat → Int32) (mn : Nat → Nat) (rc : Nat → Int32) (tk : Option Nat) (us : Bool) (k : Nat) (hk : k < N) (h3 : st k = 3) (hN : 2 ≤ N ∧ N ≤ 16) (hst : ∀ j, st j ≤ 3) (hnx : ∀ j, nx j < N) (htk : tk = some k) : MetV l y_M_pass b_M_pass 2 rq1 D cA (h 0) [] (wM cA h N C (st, nx, fr, mn, rc, tk, us)) (wM cA h N C) (fun u => u = (st, upN nx k (gw N st nx k), fr, mn, rc, some (gw N st nx k), false)) sz := by
  refine metV (own := R_M) (by decide) rfl (Nat.le_of_ble_eq_true rfl) ?_
  intro p e s m below meth c A ls H locs B hP hD hS hl
  obtain ⟨hx, hb, hr, hlk, hml, hown, hts, hK, hA⟩ := B
  have hl : lv_has ls 2 [(0, .ref (h 0))] := hl
  subst htk
  have hnk := hnx k
  have hg := gw_ok hN hnx hk h3
  refine lv_aload_n (pc := 0) hx hb d_M_pass_0 rfl (lv_at hl 0 rfl) ?_
  refine gM (pc := 1) hx hb hts hown hK hP 3 (v := .ref (h 2)) rfl (by decide) tw_139 d_M_pass_1 ?_
  refine lv_aload_n (pc := 4) hx hb d_M_pass_4 rfl (lv_at hl 0 rfl) ?_
  refine gM (pc := 5) hx hb hts hown hK hP 7 (v := .int (nI k)) rfl (by decide) tw_143 d_M_pass_5 ?_
  refine nv_ald (pc := 8) (f := nx) (j := k) (v := nx k) hx hb hK hP 2 rfl (by omega) (by decide) rfl d_M_pass_8 ?_
  refine lv_istore_n (pc := 9) (lv' := [(1, .int (nI (nx k))), (0, .ref (h 0))]) hx hb d_M_pass_9 rfl hl (by decide) rfl (fun ls hl => ?_)
  refine lv_aload_n (pc := 10) hx hb d_M_pass_10 rfl (lv_at hl 1 rfl) ?_
  refine gM (pc := 11) hx hb hts hown hK hP 2 (v := .ref (h 1)) rfl (by decide) tw_138 d_M_pass_11 ?_
  refine lv_iload_n (pc := 14) hx hb d_M_pass_14 rfl (lv_at hl 0 rfl) ?_
  refine nv_ald (pc := 15) (f := st) (j := nx k) (v := st (nx k)) hx hb hK hP 1 rfl (by have := hnx k; omega) (by decide) rfl d_M_pass_15 ?_
  refine lv_iconst (pc := 16) (v := (nI 3)) hx hb d_M_pass_16 (by decide) ?_
  refine nv_icmp_eq (pc := 17) (tgt := 55) (x := st (nx k)) (y := 3) hx hb (by have := hst (nx k); have := hnx k; omega) (by decide) d_M_pass_17 (by decide) (fun c_17 => ?_) (fun c_17 => ?_)
  · refine lv_aload_n (pc := 55) hx hb d_M_pass_55 rfl (lv_at hl 1 rfl) ?_
    refine lv_iload_n (pc := 56) hx hb d_M_pass_56 rfl (lv_at hl 0 rfl) ?_
    refine pM_tok (pc := 57) hx hb hts hown hK hP hD hS (some (nx k)) d_M_pass_57 (fun H locs hP hD hS => ?_)
    refine lv_aload_n (pc := 60) hx hb d_M_pass_60 rfl (lv_at hl 1 rfl) ?_
    refine lv_iconst (pc := 61) (v := (bv false)) hx hb d_M_pass_61 (by decide) ?_
    refine pM_use (pc := 62) hx hb hts hown hK hP hD hS false d_M_pass_62 (fun H locs hP hD hS => ?_)
    exact retV (st, nx, fr, mn, rc, (some (nx k)), false) hx hb hr hlk hK hP hD hS (by rw [show gw N st nx k = nx k from wk_at (by simpa using c_17), upN_id]) d_M_pass_65
  · refine lv_aload_n (pc := 20) hx hb d_M_pass_20 rfl (lv_at hl 1 rfl) ?_
    refine lv_iload_n (pc := 21) hx hb d_M_pass_21 rfl (lv_at hl 0 rfl) ?_
    refine cllI (pc := 22) (As := [.int (nI (nx k))]) (rest := []) (wr := []) hx hb hml hown hts hK hP hD hS hA hl.1 (c_M_below l D cA h H.size N C st nx fr mn rc (some k) us (nx k) hN hnk) [0, 1, 2, 3, 4, 5] [] rfl rfl (by decide) (by decide) (by decide) rfl rfl rfl (goodV tw_193 tw_195 ts_M_below tw_2 tw_196) (na := 1) (by decide +kernel) rfl ⟨rfl, rfl, Nat.le_of_ble_eq_true rfl, Nat.le_of_ble_eq_true rfl⟩ (Nat.le_of_ble_eq_true rfl) ⟨Nat.zero_le _, Nat.zero_le _⟩ rfl d_M_pass_22 (fun r u H locs hw hP hD hS => ?_)
    obtain ⟨rfl, rfl⟩ := hw
    have hP : va_P D classes (wM cA h N C (st, nx, fr, mn, rc, (some k), us)) H := hP
    have hD : va_D A (wM cA h N C (st, nx, fr, mn, rc, (some k), us)) := hD
    refine lv_istore_n (pc := 25) (lv' := [(1, .int (nI (bl N (nx k)))), (0, .ref (h 0))]) hx hb d_M_pass_25 rfl hl (by decide) rfl (fun ls hl => ?_)
    refine lp_M_pass (N := N) (C := C) (st := st) (nx := nx) (fr := fr) (mn := mn) (rc := rc) (tk := none) (us := us) (k := k) (r := gw N st nx k) hN hst hnx hk ⟨by decide, by decide⟩ hg.2 ⟨hx, hb, hr, hlk, hml, hown, hts, hK, hA⟩ (fun H locs ls hP hD hS hl => ?_) 15 (bl N (nx k)) H locs ls (bl_lt hN.1 hnk) (wk_step (by simpa using c_17)).symm hP hD hS (lv_sub hl [0, 1] rfl)
    refine lv_aload_n (pc := 45) hx hb d_M_pass_45 rfl (lv_at hl 1 rfl) ?_
    refine gM (pc := 46) hx hb hts hown hK hP 3 (v := .ref (h 2)) rfl (by decide) tw_139 d_M_pass_46 ?_
    refine lv_aload_n (pc := 49) hx hb d_M_pass_49 rfl (lv_at hl 1 rfl) ?_
    refine gM (pc := 50) hx hb hts hown hK hP 7 (v := .int (nI k)) rfl (by decide) tw_143 d_M_pass_50 ?_
    refine lv_iload_n (pc := 53) hx hb d_M_pass_53 rfl (lv_at hl 0 rfl) ?_
    refine nv_ast (pc := 54) (f := nx) (j := k) (v := gw N st nx k) hx hb hK hP hD hS 2 rfl (upN nx k (gw N st nx k)) (by omega) (by decide) rfl d_M_pass_54 (fun H locs hP hD hS => ?_)
    have hP : va_P D classes (wM cA h N C (st, (upN nx k (gw N st nx k)), fr, mn, rc, (some k), us)) H := hP
    have hD : va_D A (wM cA h N C (st, (upN nx k (gw N st nx k)), fr, mn, rc, (some k), us)) := hD
    refine lv_aload_n (pc := 55) hx hb d_M_pass_55 rfl (lv_at hl 1 rfl) ?_
    refine lv_iload_n (pc := 56) hx hb d_M_pass_56 rfl (lv_at hl 0 rfl) ?_
    refine pM_tok (pc := 57) hx hb hts hown hK hP hD hS (some (gw N st nx k)) d_M_pass_57 (fun H locs hP hD hS => ?_)
    refine lv_aload_n (pc := 60) hx hb d_M_pass_60 rfl (lv_at hl 1 rfl) ?_
    refine lv_iconst (pc := 61) (v := (bv false)) hx hb d_M_pass_61 (by decide) ?_
    refine pM_use (pc := 62) hx hb hts hown hK hP hD hS false d_M_pass_62 (fun H locs hP hD hS => ?_)
    exact retV (st, (upN nx k (gw N st nx k)), fr, mn, rc, (some (gw N st nx k)), false) hx hb hr hlk hK hP hD hS (rfl) d_M_pass_65
set_option maxHeartbeats 4000000 in
set_option maxRecDepth 100000 in
/-- passToken -/
theorem c_X_passToken (l : Launch) (D : va_G) (cA : ClassId) (h : Nat → Nat) (sz N C : Nat) (st nx : Nat → Nat) (fr : Nat → Int32) (fi mn : Nat → Nat) (rc : Nat → Int32) (tk : Option Nat) (us : Bool) (hN : 2 ≤ N ∧ N ≤ 16) (hst : ∀ j, st j ≤ 3) (hnx : ∀ j, nx j < N) (htk : ∀ k, tk = some k → k < N ∧ st k = 3) : MetI l y_X_passToken b_X_passToken 1 (some .int) rq2 D cA (h 0) [] (wX cA h N C (st, nx, fr, fi, mn, rc, tk, us)) (wX cA h N C) (fun r u => (r, u) = X_passToken N st nx fr fi mn rc tk us) sz := by
  refine metI (own := R_X) (by decide) rfl (Nat.le_of_ble_eq_true rfl) ?_
  intro p e s m below meth c A ls H locs B hP hD hS hl
  obtain ⟨hx, hb, hr, hlk, hml, hown, hts, hK, hA⟩ := B
  have hl : lv_has ls 1 [(0, .ref (h 0))] := hl
  cases tk with
  | none =>
    refine lv_aload_n (pc := 0) hx hb d_X_passToken_0 rfl (lv_at hl 0 rfl) ?_
    refine gX (pc := 1) hx hb hts hown hK hP 8 (v := .int (-1)) rfl (by decide) tw_19 d_X_passToken_1 ?_
    refine nv_if_geM (pc := 4) (tgt := 9) hx hb d_X_passToken_4 (by decide) ?_
    refine lv_iconst (pc := 7) (v := -1) hx hb d_X_passToken_7 (by decide) ?_
    exact retI (st, nx, fr, fi, mn, rc, none, us) hx hb hr hlk hK hP hD hS (rfl) d_X_passToken_8
  | some k =>
    obtain ⟨hk, h3⟩ := htk k rfl
    have hg := gw_ok hN hnx hk h3
    refine lv_aload_n (pc := 0) hx hb d_X_passToken_0 rfl (lv_at hl 0 rfl) ?_
    refine gX (pc := 1) hx hb hts hown hK hP 8 (v := .int (nI k)) rfl (by decide) tw_19 d_X_passToken_1 ?_
    refine nv_if_geN (pc := 4) (tgt := 9) (x := k) hx hb (by omega) d_X_passToken_4 (by decide) ?_
    refine lv_aload_n (pc := 9) hx hb d_X_passToken_9 rfl (lv_at hl 0 rfl) ?_
    refine cllV (pc := 10) (As := []) (rest := []) (wr := []) hx hb hml hown hts hK hP hD hS hA hl.1 (c_X_repair l D cA h H.size N C st nx fr fi mn rc (some k) us k hk h3 hN hst hnx rfl) [0, 1, 2, 3, 4, 5, 6] [] rfl rfl (by decide) (by decide) (by decide) rfl rfl rfl (goodV tw_75 tw_77 ts_X_repair tw_1 tw_78) (na := 0) (by decide +kernel) rfl ⟨rfl, rfl, Nat.le_of_ble_eq_true rfl, Nat.le_of_ble_eq_true rfl⟩ (Nat.le_of_ble_eq_true rfl) ⟨Nat.zero_le _, Nat.zero_le _⟩ rfl d_X_passToken_10 (fun u H locs hw hP hD hS => ?_)
    obtain rfl := hw
    have hP : va_P D classes (wX cA h N C (st, (upN nx k (gw N st nx k)), fr, fi, mn, rc, (some k), us)) H := hP
    have hD : va_D A (wX cA h N C (st, (upN nx k (gw N st nx k)), fr, fi, mn, rc, (some k), us)) := hD
    refine lv_aload_n (pc := 13) hx hb d_X_passToken_13 rfl (lv_at hl 0 rfl) ?_
    refine lv_aload_n (pc := 14) hx hb d_X_passToken_14 rfl (lv_at hl 0 rfl) ?_
    refine gX (pc := 15) hx hb hts hown hK hP 3 (v := .ref (h 2)) rfl (by decide) tw_14 d_X_passToken_15 ?_
    refine lv_aload_n (pc := 18) hx hb d_X_passToken_18 rfl (lv_at hl 0 rfl) ?_
    refine gX (pc := 19) hx hb hts hown hK hP 8 (v := .int (nI k)) rfl (by decide) tw_19 d_X_passToken_19 ?_
    refine nv_ald (pc := 22) (f := (upN nx k (gw N st nx k))) (j := k) (v := gw N st nx k) hx hb hK hP 2 rfl (by omega) (by decide) (upN_s nx k _) d_X_passToken_22 ?_
    refine cllV (pc := 23) (As := [.int (nI (gw N st nx k))]) (rest := []) (wr := []) hx hb hml hown hts hK hP hD hS hA hl.1 (c_X_come l D cA h H.size N C st (upN nx k (gw N st nx k)) fr fi mn rc (some k) us (gw N st nx k)) [0, 1, 2, 3, 4, 5, 6] [] rfl rfl (by decide) (by decide) (by decide) rfl rfl rfl (goodV tw_83 tw_85 ts_X_come tw_1 tw_86) (na := 1) (by decide +kernel) rfl ⟨rfl, rfl, Nat.le_of_ble_eq_true rfl, Nat.le_of_ble_eq_true rfl⟩ (Nat.le_of_ble_eq_true rfl) ⟨Nat.zero_le _, Nat.zero_le _⟩ rfl d_X_passToken_23 (fun u H locs hw hP hD hS => ?_)
    obtain rfl := hw
    have hP : va_P D classes (wX cA h N C (st, (upN nx k (gw N st nx k)), fr, fi, mn, rc, (some (gw N st nx k)), false)) H := hP
    have hD : va_D A (wX cA h N C (st, (upN nx k (gw N st nx k)), fr, fi, mn, rc, (some (gw N st nx k)), false)) := hD
    refine lv_aload_n (pc := 26) hx hb d_X_passToken_26 rfl (lv_at hl 0 rfl) ?_
    refine gX (pc := 27) hx hb hts hown hK hP 8 (v := .int (nI (gw N st nx k))) rfl (by decide) tw_19 d_X_passToken_27 ?_
    exact retI (st, (upN nx k (gw N st nx k)), fr, fi, mn, rc, (some (gw N st nx k)), false) hx hb hr hlk hK hP hD hS (rfl) d_X_passToken_30
set_option maxHeartbeats 4000000 in
set_option maxRecDepth 100000 in
/-- passToken -/
theorem c_M_passToken (l : Launch) (D : va_G) (cA : ClassId) (h : Nat → Nat) (sz N C : Nat) (st nx : Nat → Nat) (fr : Nat → Int32) (mn : Nat → Nat) (rc : Nat → Int32) (tk : Option Nat) (us : Bool) (hN : 2 ≤ N ∧ N ≤ 16) (hst : ∀ j, st j ≤ 3) (hnx : ∀ j, nx j < N) (htk : ∀ k, tk = some k → k < N ∧ st k = 3) : MetI l y_M_passToken b_M_passToken 1 (some .int) rq2 D cA (h 0) [] (wM cA h N C (st, nx, fr, mn, rc, tk, us)) (wM cA h N C) (fun r u => (r, u) = M_passToken N st nx fr mn rc tk us) sz := by
  refine metI (own := R_M) (by decide) rfl (Nat.le_of_ble_eq_true rfl) ?_
  intro p e s m below meth c A ls H locs B hP hD hS hl
  obtain ⟨hx, hb, hr, hlk, hml, hown, hts, hK, hA⟩ := B
  have hl : lv_has ls 1 [(0, .ref (h 0))] := hl
  cases tk with
  | none =>
    refine lv_aload_n (pc := 0) hx hb d_M_passToken_0 rfl (lv_at hl 0 rfl) ?_
    refine gM (pc := 1) hx hb hts hown hK hP 7 (v := .int (-1)) rfl (by decide) tw_143 d_M_passToken_1 ?_
    refine nv_if_ltM (pc := 4) (tgt := 11) hx hb d_M_passToken_4 (by decide) ?_
    refine lv_aload_n (pc := 11) hx hb d_M_passToken_11 rfl (lv_at hl 0 rfl) ?_
    refine gM (pc := 12) hx hb hts hown hK hP 7 (v := .int (-1)) rfl (by decide) tw_143 d_M_passToken_12 ?_
    exact retI (st, nx, fr, mn, rc, none, us) hx hb hr hlk hK hP hD hS (rfl) d_M_passToken_15
  | some k =>
    obtain ⟨hk, h3⟩ := htk k rfl
    have hg := gw_ok hN hnx hk h3
    refine lv_aload_n (pc := 0) hx hb d_M_passToken_0 rfl (lv_at hl 0 rfl) ?_
    refine gM (pc := 1) hx hb hts hown hK hP 7 (v := .int (nI k)) rfl (by decide) tw_143 d_M_passToken_1 ?_
    refine nv_if_ltN (pc := 4) (tgt := 11) (x := k) hx hb (by omega) d_M_passToken_4 (by decide) ?_
    refine lv_aload_n (pc := 7) hx hb d_M_passToken_7 rfl (lv_at hl 0 rfl) ?_
    refine cllV (pc := 8) (As := []) (rest := []) (wr := []) hx hb hml hown hts hK hP hD hS hA hl.1 (c_M_pass l D cA h H.size N C st nx fr mn rc (some k) us k hk h3 hN hst hnx rfl) [0, 1, 2, 3, 4, 5] [] rfl rfl (by decide) (by decide) (by decide) rfl rfl rfl (goodV tw_189 tw_191 ts_M_pass tw_2 tw_192) (na := 0) (by decide +kernel) rfl ⟨rfl, rfl, Nat.le_of_ble_eq_true rfl, Nat.le_of_ble_eq_true rfl⟩ (Nat.le_of_ble_eq_true rfl) ⟨Nat.zero_le _, Nat.zero_le _⟩ rfl d_M_passToken_8 (fun u H locs hw hP hD hS => ?_)
    obtain rfl := hw
    have hP : va_P D classes (wM cA h N C (st, (upN nx k (gw N st nx k)), fr, mn, rc, (some (gw N st nx k)), false)) H := hP
    have hD : va_D A (wM cA h N C (st, (upN nx k (gw N st nx k)), fr, mn, rc, (some (gw N st nx k)), false)) := hD
    refine lv_aload_n (pc := 11) hx hb d_M_passToken_11 rfl (lv_at hl 0 rfl) ?_
    refine gM (pc := 12) hx hb hts hown hK hP 7 (v := .int (nI (gw N st nx k))) rfl (by decide) tw_143 d_M_passToken_12 ?_
    exact retI (st, (upN nx k (gw N st nx k)), fr, mn, rc, (some (gw N st nx k)), false) hx hb hr hlk hK hP hD hS (rfl) d_M_passToken_15
end
section
set_option maxHeartbeats 4000000 in
set_option maxRecDepth 100000 in
theorem lp_X_solicit {p : Program} {l : Launch} {e : Env} {R : Room} {s : State} {m : MethodId} {args : Array Value} {below : List Frame} {meth : Method} {c : Code} {A : Nat → Prop} {Q : State → Prop} {ret : Option FieldType} {D : va_G} {cA : ClassId} {h : Nat → Nat} {N C : Nat} {st nx : Nat → Nat} {fr : Nat → Int32} {fi mn : Nat → Nat} {rc : Nat → Int32} {tk : Option Nat} {us : Bool} {k r : Nat} (hN : 2 ≤ N ∧ N ≤ 16) (hst : ∀ j, st j ≤ 3) (hnx : ∀ j, nx j < N) (hk : k < N) (hR : 1 ≤ R.frames ∧ 21 ≤ R.locals) (hP3 : sol k (nx k) st r = true) (B : Ctx p s m args meth c b_X_solicit 2 ret R_X D cA A)
    (kk : ∀ (H : Heap) (locs : List Loc) (ls : Array Slot), va_P D classes (wX cA h N C (st, nx, fr, fi, mn, rc, (some k), us)) H → va_D A (wX cA h N C (st, nx, fr, fi, mn, rc, (some k), us)) → va_S A s.heap H locs → lv_has ls 2 [(1, .int (nI r)), (0, .ref (h 0))] → W p l e R s m args below meth c H locs 0 0 Q (F0 m 58 ls [])) :
    ∀ (n j : Nat) (H : Heap) (locs : List Loc) (ls : Array Slot), j < N → wk N (sol k (nx k) st) n j = r → va_P D classes (wX cA h N C (st, nx, fr, fi, mn, rc, (some k), us)) H → va_D A (wX cA h N C (st, nx, fr, fi, mn, rc, (some k), us)) → va_S A s.heap H locs → lv_has ls 2 [(1, .int (nI j)), (0, .ref (h 0))] → W p l e R s m args below meth c H locs 0 0 Q (F0 m 18 ls []) := by
  obtain ⟨hx, hb, hr, hlk, hml, hown, hts, hK, hA⟩ := B
  intro n
  induction n with
  | zero =>
    intro j H locs ls hj hw0 hP hD hS hl
    have ej : j = r := hw0
    rw [← ej] at hP3
    refine lv_iload_n (pc := 18) hx hb d_X_solicit_18 rfl (lv_at hl 0 rfl) ?_
    refine lv_aload_n (pc := 19) hx hb d_X_solicit_19 rfl (lv_at hl 1 rfl) ?_
    refine gX (pc := 20) hx hb hts hown hK hP 8 (v := .int (nI k)) rfl (by decide) tw_19 d_X_solicit_20 ?_
    refine nv_icmp_eq (pc := 23) (tgt := 58) (x := j) (y := k) hx hb (by omega) (by omega) d_X_solicit_23 (by decide) (fun c_23 => ?_) (fun c_23 => ?_)
    · rw [ej] at hl
      exact kk H locs ls hP hD hS (lv_sub hl [0, 1] rfl)
    · refine lv_iload_n (pc := 26) hx hb d_X_solicit_26 rfl (lv_at hl 0 rfl) ?_
      refine lv_aload_n (pc := 27) hx hb d_X_solicit_27 rfl (lv_at hl 1 rfl) ?_
      refine gX (pc := 28) hx hb hts hown hK hP 3 (v := .ref (h 2)) rfl (by decide) tw_14 d_X_solicit_28 ?_
      refine lv_aload_n (pc := 31) hx hb d_X_solicit_31 rfl (lv_at hl 1 rfl) ?_
      refine gX (pc := 32) hx hb hts hown hK hP 8 (v := .int (nI k)) rfl (by decide) tw_19 d_X_solicit_32 ?_
      refine nv_ald (pc := 35) (f := nx) (j := k) (v := nx k) hx hb hK hP 2 rfl (by omega) (by decide) rfl d_X_solicit_35 ?_
      refine nv_icmp_eq (pc := 36) (tgt := 58) (x := j) (y := nx k) hx hb (by omega) (by have := hnx k; omega) d_X_solicit_36 (by decide) (fun c_36 => ?_) (fun c_36 => ?_)
      · rw [ej] at hl
        exact kk H locs ls hP hD hS (lv_sub hl [0, 1] rfl)
      · refine lv_aload_n (pc := 39) hx hb d_X_solicit_39 rfl (lv_at hl 1 rfl) ?_
        refine gX (pc := 40) hx hb hts hown hK hP 2 (v := .ref (h 1)) rfl (by decide) tw_13 d_X_solicit_40 ?_
        refine lv_iload_n (pc := 43) hx hb d_X_solicit_43 rfl (lv_at hl 0 rfl) ?_
        refine nv_ald (pc := 44) (f := st) (j := j) (v := st j) hx hb hK hP 1 rfl (by omega) (by decide) rfl d_X_solicit_44 ?_
        refine lv_iconst (pc := 45) (v := (nI 2)) hx hb d_X_solicit_45 (by decide) ?_
        refine nv_icmp_eq (pc := 46) (tgt := 58) (x := st j) (y := 2) hx hb (by have := hst j; omega) (by decide) d_X_solicit_46 (by decide) (fun c_46 => ?_) (fun c_46 => absurd c_46 (fun z => by simp only [sol, decide_eq_true_eq] at hP3; omega))
        rw [ej] at hl
        exact kk H locs ls hP hD hS (lv_sub hl [0, 1] rfl)
  | succ n ih =>
    intro j H locs ls hj hw0 hP hD hS hl
    refine lv_iload_n (pc := 18) hx hb d_X_solicit_18 rfl (lv_at hl 0 rfl) ?_
    refine lv_aload_n (pc := 19) hx hb d_X_solicit_19 rfl (lv_at hl 1 rfl) ?_
    refine gX (pc := 20) hx hb hts hown hK hP 8 (v := .int (nI k)) rfl (by decide) tw_19 d_X_solicit_20 ?_
    refine nv_icmp_eq (pc := 23) (tgt := 58) (x := j) (y := k) hx hb (by omega) (by omega) d_X_solicit_23 (by decide) (fun c_23 => ?_) (fun c_23 => ?_)
    · have ej : j = r := (wk_at (by simp only [sol, decide_eq_true_eq]; omega)).symm.trans hw0
      rw [ej] at hl
      exact kk H locs ls hP hD hS (lv_sub hl [0, 1] rfl)
    · refine lv_iload_n (pc := 26) hx hb d_X_solicit_26 rfl (lv_at hl 0 rfl) ?_
      refine lv_aload_n (pc := 27) hx hb d_X_solicit_27 rfl (lv_at hl 1 rfl) ?_
      refine gX (pc := 28) hx hb hts hown hK hP 3 (v := .ref (h 2)) rfl (by decide) tw_14 d_X_solicit_28 ?_
      refine lv_aload_n (pc := 31) hx hb d_X_solicit_31 rfl (lv_at hl 1 rfl) ?_
      refine gX (pc := 32) hx hb hts hown hK hP 8 (v := .int (nI k)) rfl (by decide) tw_19 d_X_solicit_32 ?_
      refine nv_ald (pc := 35) (f := nx) (j := k) (v := nx k) hx hb hK hP 2 rfl (by omega) (by decide) rfl d_X_solicit_35 ?_
      refine nv_icmp_eq (pc := 36) (tgt := 58) (x := j) (y := nx k) hx hb (by omega) (by have := hnx k; omega) d_X_solicit_36 (by decide) (fun c_36 => ?_) (fun c_36 => ?_)
      · have ej : j = r := (wk_at (by simp only [sol, decide_eq_true_eq]; omega)).symm.trans hw0
        rw [ej] at hl
        exact kk H locs ls hP hD hS (lv_sub hl [0, 1] rfl)
      · refine lv_aload_n (pc := 39) hx hb d_X_solicit_39 rfl (lv_at hl 1 rfl) ?_
        refine gX (pc := 40) hx hb hts hown hK hP 2 (v := .ref (h 1)) rfl (by decide) tw_13 d_X_solicit_40 ?_
        refine lv_iload_n (pc := 43) hx hb d_X_solicit_43 rfl (lv_at hl 0 rfl) ?_
        refine nv_ald (pc := 44) (f := st) (j := j) (v := st j) hx hb hK hP 1 rfl (by omega) (by decide) rfl d_X_solicit_44 ?_
        refine lv_iconst (pc := 45) (v := (nI 2)) hx hb d_X_solicit_45 (by decide) ?_
        refine nv_icmp_eq (pc := 46) (tgt := 58) (x := st j) (y := 2) hx hb (by have := hst j; omega) (by decide) d_X_solicit_46 (by decide) (fun c_46 => ?_) (fun c_46 => ?_)
        · have ej : j = r := (wk_at (by simp only [sol, decide_eq_true_eq]; omega)).symm.trans hw0
          rw [ej] at hl
          exact kk H locs ls hP hD hS (lv_sub hl [0, 1] rfl)
        · refine lv_aload_n (pc := 49) hx hb d_X_solicit_49 rfl (lv_at hl 1 rfl) ?_
          refine lv_iload_n (pc := 50) hx hb d_X_solicit_50 rfl (lv_at hl 0 rfl) ?_
          refine cllI (pc := 51) (As := [.int (nI j)]) (rest := []) (wr := []) hx hb hml hown hts hK hP hD hS hA hl.1 (c_X_below l D cA h H.size N C st nx fr fi mn rc (some k) us (j) hN hj) [0, 1, 2, 3, 4, 5, 6] [] rfl rfl (by decide) (by decide) (by decide) rfl rfl rfl (goodV tw_79 tw_81 ts_X_below tw_1 tw_82) (na := 1) (by decide +kernel) rfl ⟨rfl, rfl, hR.1, hR.2⟩ (Nat.le_of_ble_eq_true rfl) ⟨Nat.zero_le _, Nat.zero_le _⟩ rfl d_X_solicit_51 (fun r u H locs hw hP hD hS => ?_)
          obtain ⟨rfl, rfl⟩ := hw
          have hP : va_P D classes (wX cA h N C (st, nx, fr, fi, mn, rc, (some k), us)) H := hP
          have hD : va_D A (wX cA h N C (st, nx, fr, fi, mn, rc, (some k), us)) := hD
          refine lv_istore_n (pc := 54) (lv' := [(1, .int (nI (bl N j))), (0, .ref (h 0))]) hx hb d_X_solicit_54 rfl hl (by decide) rfl (fun ls hl => ?_)
          refine lv_goto (pc := 55) (tgt := 18) hx hb d_X_solicit_55 (by decide) ?_
          exact ih (bl N j) H locs ls (bl_lt hN.1 hj) ((wk_step (by simp only [sol, decide_eq_true_eq]; omega)).symm.trans hw0) hP hD hS (lv_sub hl [0, 1] rfl)
set_option maxHeartbeats 4000000 in
set_option maxRecDepth 100000 in
/-- solicit -/
theorem c_X_solicit (l : Launch) (D : va_G) (cA : ClassId) (h : Nat → Nat) (sz N C : Nat) (st nx : Nat → Nat) (fr : Nat → Int32) (fi mn : Nat → Nat) (rc : Nat → Int32) (tk : Option Nat) (us : Bool) (hN : 2 ≤ N ∧ N ≤ 16) (hst : ∀ j, st j ≤ 3) (hnx : ∀ j, nx j < N) (htk : ∀ k, tk = some k → k < N ∧ st k = 3) : MetI l y_X_solicit b_X_solicit 2 (some .int) rq1 D cA (h 0) [] (wX cA h N C (st, nx, fr, fi, mn, rc, tk, us)) (wX cA h N C) (fun r u => (r, u) = X_solicit N st nx fr fi mn rc tk us) sz := by
  refine metI (own := R_X) (by decide) rfl (Nat.le_of_ble_eq_true rfl) ?_
  intro p e s m below meth c A ls H locs B hP hD hS hl
  obtain ⟨hx, hb, hr, hlk, hml, hown, hts, hK, hA⟩ := B
  have hl : lv_has ls 2 [(0, .ref (h 0))] := hl
  cases tk with
  | none =>
    refine lv_aload_n (pc := 0) hx hb d_X_solicit_0 rfl (lv_at hl 0 rfl) ?_
    refine gX (pc := 1) hx hb hts hown hK hP 8 (v := .int (-1)) rfl (by decide) tw_19 d_X_solicit_1 ?_
    refine nv_if_geM (pc := 4) (tgt := 9) hx hb d_X_solicit_4 (by decide) ?_
    refine lv_iconst (pc := 7) (v := -1) hx hb d_X_solicit_7 (by decide) ?_
    exact retI (st, nx, fr, fi, mn, rc, none, us) hx hb hr hlk hK hP hD hS (rfl) d_X_solicit_8
  | some k =>
    obtain ⟨hk, h3⟩ := htk k rfl
    have hg := sw_ok (st := st) (nx := nx) hN hk
    refine lv_aload_n (pc := 0) hx hb d_X_solicit_0 rfl (lv_at hl 0 rfl) ?_
    refine gX (pc := 1) hx hb hts hown hK hP 8 (v := .int (nI k)) rfl (by decide) tw_19 d_X_solicit_1 ?_
    refine nv_if_geN (pc := 4) (tgt := 9) (x := k) hx hb (by omega) d_X_solicit_4 (by decide) ?_
    refine lv_aload_n (pc := 9) hx hb d_X_solicit_9 rfl (lv_at hl 0 rfl) ?_
    refine lv_aload_n (pc := 10) hx hb d_X_solicit_10 rfl (lv_at hl 0 rfl) ?_
    refine gX (pc := 11) hx hb hts hown hK hP 8 (v := .int (nI k)) rfl (by decide) tw_19 d_X_solicit_11 ?_
    refine cllI (pc := 14) (As := [.int (nI k)]) (rest := []) (wr := []) hx hb hml hown hts hK hP hD hS hA hl.1 (c_X_below l D cA h H.size N C st nx fr fi mn rc (some k) us (k) hN hk) [0, 1, 2, 3, 4, 5, 6] [] rfl rfl (by decide) (by decide) (by decide) rfl rfl rfl (goodV tw_79 tw_81 ts_X_below tw_1 tw_82) (na := 1) (by decide +kernel) rfl ⟨rfl, rfl, Nat.le_of_ble_eq_true rfl, Nat.le_of_ble_eq_true rfl⟩ (Nat.le_of_ble_eq_true rfl) ⟨Nat.zero_le _, Nat.zero_le _⟩ rfl d_X_solicit_14 (fun r u H locs hw hP hD hS => ?_)
    obtain ⟨rfl, rfl⟩ := hw
    have hP : va_P D classes (wX cA h N C (st, nx, fr, fi, mn, rc, (some k), us)) H := hP
    have hD : va_D A (wX cA h N C (st, nx, fr, fi, mn, rc, (some k), us)) := hD
    refine lv_istore_n (pc := 17) (lv' := [(1, .int (nI (bl N k))), (0, .ref (h 0))]) hx hb d_X_solicit_17 rfl hl (by decide) rfl (fun ls hl => ?_)
    refine lp_X_solicit (N := N) (C := C) (st := st) (nx := nx) (fr := fr) (fi := fi) (mn := mn) (rc := rc) (tk := none) (us := us) (k := k) (r := sw N st nx k) hN hst hnx hk ⟨by decide, by decide⟩ hg.2 ⟨hx, hb, hr, hlk, hml, hown, hts, hK, hA⟩ (fun H locs ls hP hD hS hl => ?_) 16 (bl N k) H locs ls (bl_lt hN.1 hk) rfl hP hD hS (lv_sub hl [0, 1] rfl)
    refine lv_iload_n (pc := 58) hx hb d_X_solicit_58 rfl (lv_at hl 0 rfl) ?_
    refine lv_aload_n (pc := 59) hx hb d_X_solicit_59 rfl (lv_at hl 1 rfl) ?_
    refine gX (pc := 60) hx hb hts hown hK hP 8 (v := .int (nI k)) rfl (by decide) tw_19 d_X_solicit_60 ?_
    refine nv_icmp_eq (pc := 63) (tgt := 79) (x := sw N st nx k) (y := k) hx hb (by omega) (by omega) d_X_solicit_63 (by decide) (fun c_63 => ?_) (fun c_63 => ?_)
    · refine lv_iconst (pc := 79) (v := -1) hx hb d_X_solicit_79 (by decide) ?_
      exact retI (st, nx, fr, fi, mn, rc, (some k), us) hx hb hr hlk hK hP hD hS (by simp [X_solicit, c_63]) d_X_solicit_80
    · refine lv_iload_n (pc := 66) hx hb d_X_solicit_66 rfl (lv_at hl 0 rfl) ?_
      refine lv_aload_n (pc := 67) hx hb d_X_solicit_67 rfl (lv_at hl 1 rfl) ?_
      refine gX (pc := 68) hx hb hts hown hK hP 3 (v := .ref (h 2)) rfl (by decide) tw_14 d_X_solicit_68 ?_
      refine lv_aload_n (pc := 71) hx hb d_X_solicit_71 rfl (lv_at hl 1 rfl) ?_
      refine gX (pc := 72) hx hb hts hown hK hP 8 (v := .int (nI k)) rfl (by decide) tw_19 d_X_solicit_72 ?_
      refine nv_ald (pc := 75) (f := nx) (j := k) (v := nx k) hx hb hK hP 2 rfl (by omega) (by decide) rfl d_X_solicit_75 ?_
      refine nv_icmp_ne (pc := 76) (tgt := 81) (x := sw N st nx k) (y := nx k) hx hb (by omega) (by have := hnx k; omega) d_X_solicit_76 (by decide) (fun c_76 => ?_) (fun c_76 => ?_)
      · refine lv_aload_n (pc := 81) hx hb d_X_solicit_81 rfl (lv_at hl 1 rfl) ?_
        refine gX (pc := 82) hx hb hts hown hK hP 2 (v := .ref (h 1)) rfl (by decide) tw_13 d_X_solicit_82 ?_
        refine lv_iload_n (pc := 85) hx hb d_X_solicit_85 rfl (lv_at hl 0 rfl) ?_
        refine lv_iconst (pc := 86) (v := (nI 3)) hx hb d_X_solicit_86 (by decide) ?_
        refine nv_ast (pc := 87) (f := st) (j := sw N st nx k) (v := 3) hx hb hK hP hD hS 1 rfl (upN st (sw N st nx k) 3) (by omega) (by decide) rfl d_X_solicit_87 (fun H locs hP hD hS => ?_)
        have hP : va_P D classes (wX cA h N C ((upN st (sw N st nx k) 3), nx, fr, fi, mn, rc, (some k), us)) H := hP
        have hD : va_D A (wX cA h N C ((upN st (sw N st nx k) 3), nx, fr, fi, mn, rc, (some k), us)) := hD
        refine lv_aload_n (pc := 88) hx hb d_X_solicit_88 rfl (lv_at hl 1 rfl) ?_
        refine gX (pc := 89) hx hb hts hown hK hP 3 (v := .ref (h 2)) rfl (by decide) tw_14 d_X_solicit_89 ?_
        refine lv_iload_n (pc := 92) hx hb d_X_solicit_92 rfl (lv_at hl 0 rfl) ?_
        refine lv_aload_n (pc := 93) hx hb d_X_solicit_93 rfl (lv_at hl 1 rfl) ?_
        refine gX (pc := 94) hx hb hts hown hK hP 3 (v := .ref (h 2)) rfl (by decide) tw_14 d_X_solicit_94 ?_
        refine lv_aload_n (pc := 97) hx hb d_X_solicit_97 rfl (lv_at hl 1 rfl) ?_
        refine gX (pc := 98) hx hb hts hown hK hP 8 (v := .int (nI k)) rfl (by decide) tw_19 d_X_solicit_98 ?_
        refine nv_ald (pc := 101) (f := nx) (j := k) (v := nx k) hx hb hK hP 2 rfl (by omega) (by decide) rfl d_X_solicit_101 ?_
        refine nv_ast (pc := 102) (f := nx) (j := sw N st nx k) (v := nx k) hx hb hK hP hD hS 2 rfl (upN nx (sw N st nx k) (nx k)) (by omega) (by decide) rfl d_X_solicit_102 (fun H locs hP hD hS => ?_)
        have hP : va_P D classes (wX cA h N C ((upN st (sw N st nx k) 3), (upN nx (sw N st nx k) (nx k)), fr, fi, mn, rc, (some k), us)) H := hP
        have hD : va_D A (wX cA h N C ((upN st (sw N st nx k) 3), (upN nx (sw N st nx k) (nx k)), fr, fi, mn, rc, (some k), us)) := hD
        refine lv_aload_n (pc := 103) hx hb d_X_solicit_103 rfl (lv_at hl 1 rfl) ?_
        refine gX (pc := 104) hx hb hts hown hK hP 3 (v := .ref (h 2)) rfl (by decide) tw_14 d_X_solicit_104 ?_
        refine lv_aload_n (pc := 107) hx hb d_X_solicit_107 rfl (lv_at hl 1 rfl) ?_
        refine gX (pc := 108) hx hb hts hown hK hP 8 (v := .int (nI k)) rfl (by decide) tw_19 d_X_solicit_108 ?_
        refine lv_iload_n (pc := 111) hx hb d_X_solicit_111 rfl (lv_at hl 0 rfl) ?_
        refine nv_ast (pc := 112) (f := (upN nx (sw N st nx k) (nx k))) (j := k) (v := sw N st nx k) hx hb hK hP hD hS 2 rfl (upN (upN nx (sw N st nx k) (nx k)) k (sw N st nx k)) (by omega) (by decide) rfl d_X_solicit_112 (fun H locs hP hD hS => ?_)
        have hP : va_P D classes (wX cA h N C ((upN st (sw N st nx k) 3), (upN (upN nx (sw N st nx k) (nx k)) k (sw N st nx k)), fr, fi, mn, rc, (some k), us)) H := hP
        have hD : va_D A (wX cA h N C ((upN st (sw N st nx k) 3), (upN (upN nx (sw N st nx k) (nx k)) k (sw N st nx k)), fr, fi, mn, rc, (some k), us)) := hD
        refine lv_iload_n (pc := 113) hx hb d_X_solicit_113 rfl (lv_at hl 0 rfl) ?_
        exact retI ((upN st (sw N st nx k) 3), (upN (upN nx (sw N st nx k) (nx k)) k (sw N st nx k)), fr, fi, mn, rc, (some k), us) hx hb hr hlk hK hP hD hS (by simp [X_solicit, c_63, c_76]) d_X_solicit_114
      · refine lv_iconst (pc := 79) (v := -1) hx hb d_X_solicit_79 (by decide) ?_
        exact retI (st, nx, fr, fi, mn, rc, (some k), us) hx hb hr hlk hK hP hD hS (by simp [X_solicit, c_63, c_76]) d_X_solicit_80
set_option maxHeartbeats 4000000 in
set_option maxRecDepth 100000 in
theorem lp_M_solicit {p : Program} {l : Launch} {e : Env} {R : Room} {s : State} {m : MethodId} {args : Array Value} {below : List Frame} {meth : Method} {c : Code} {A : Nat → Prop} {Q : State → Prop} {ret : Option FieldType} {D : va_G} {cA : ClassId} {h : Nat → Nat} {N C : Nat} {st nx : Nat → Nat} {fr : Nat → Int32} {mn : Nat → Nat} {rc : Nat → Int32} {tk : Option Nat} {us : Bool} {k r : Nat} (hN : 2 ≤ N ∧ N ≤ 16) (hst : ∀ j, st j ≤ 3) (hnx : ∀ j, nx j < N) (hk : k < N) (hR : 1 ≤ R.frames ∧ 21 ≤ R.locals) (hP3 : sol k (nx k) st r = true) (B : Ctx p s m args meth c b_M_solicit 2 ret R_M D cA A)
    (kk : ∀ (H : Heap) (locs : List Loc) (ls : Array Slot), va_P D classes (wM cA h N C (st, nx, fr, mn, rc, (some k), us)) H → va_D A (wM cA h N C (st, nx, fr, mn, rc, (some k), us)) → va_S A s.heap H locs → lv_has ls 2 [(1, .int (nI r)), (0, .ref (h 0))] → W p l e R s m args below meth c H locs 0 0 Q (F0 m 58 ls [])) :
    ∀ (n j : Nat) (H : Heap) (locs : List Loc) (ls : Array Slot), j < N → wk N (sol k (nx k) st) n j = r → va_P D classes (wM cA h N C (st, nx, fr, mn, rc, (some k), us)) H → va_D A (wM cA h N C (st, nx, fr, mn, rc, (some k), us)) → va_S A s.heap H locs → lv_has ls 2 [(1, .int (nI j)), (0, .ref (h 0))] → W p l e R s m args below meth c H locs 0 0 Q (F0 m 18 ls []) := by
  obtain ⟨hx, hb, hr, hlk, hml, hown, hts, hK, hA⟩ := B
  intro n
  induction n with
  | zero =>
    intro j H locs ls hj hw0 hP hD hS hl
    have ej : j = r := hw0
    rw [← ej] at hP3
    refine lv_iload_n (pc := 18) hx hb d_M_solicit_18 rfl (lv_at hl 0 rfl) ?_
    refine lv_aload_n (pc := 19) hx hb d_M_solicit_19 rfl (lv_at hl 1 rfl) ?_
    refine gM (pc := 20) hx hb hts hown hK hP 7 (v := .int (nI k)) rfl (by decide) tw_143 d_M_solicit_20 ?_
    refine nv_icmp_eq (pc := 23) (tgt := 58) (x := j) (y := k) hx hb (by omega) (by omega) d_M_solicit_23 (by decide) (fun c_23 => ?_) (fun c_23 => ?_)
    · rw [ej] at hl
      exact kk H locs ls hP hD hS (lv_sub hl [0, 1] rfl)
    · refine lv_iload_n (pc := 26) hx hb d_M_solicit_26 rfl (lv_at hl 0 rfl) ?_
      refine lv_aload_n (pc := 27) hx hb d_M_solicit_27 rfl (lv_at hl 1 rfl) ?_
      refine gM (pc := 28) hx hb hts hown hK hP 3 (v := .ref (h 2)) rfl (by decide) tw_139 d_M_solicit_28 ?_
      refine lv_aload_n (pc := 31) hx hb d_M_solicit_31 rfl (lv_at hl 1 rfl) ?_
      refine gM (pc := 32) hx hb hts hown hK hP 7 (v := .int (nI k)) rfl (by decide) tw_143 d_M_solicit_32 ?_
      refine nv_ald (pc := 35) (f := nx) (j := k) (v := nx k) hx hb hK hP 2 rfl (by omega) (by decide) rfl d_M_solicit_35 ?_
      refine nv_icmp_eq (pc := 36) (tgt := 58) (x := j) (y := nx k) hx hb (by omega) (by have := hnx k; omega) d_M_solicit_36 (by decide) (fun c_36 => ?_) (fun c_36 => ?_)
      · rw [ej] at hl
        exact kk H locs ls hP hD hS (lv_sub hl [0, 1] rfl)
      · refine lv_aload_n (pc := 39) hx hb d_M_solicit_39 rfl (lv_at hl 1 rfl) ?_
        refine gM (pc := 40) hx hb hts hown hK hP 2 (v := .ref (h 1)) rfl (by decide) tw_138 d_M_solicit_40 ?_
        refine lv_iload_n (pc := 43) hx hb d_M_solicit_43 rfl (lv_at hl 0 rfl) ?_
        refine nv_ald (pc := 44) (f := st) (j := j) (v := st j) hx hb hK hP 1 rfl (by omega) (by decide) rfl d_M_solicit_44 ?_
        refine lv_iconst (pc := 45) (v := (nI 2)) hx hb d_M_solicit_45 (by decide) ?_
        refine nv_icmp_eq (pc := 46) (tgt := 58) (x := st j) (y := 2) hx hb (by have := hst j; omega) (by decide) d_M_solicit_46 (by decide) (fun c_46 => ?_) (fun c_46 => absurd c_46 (fun z => by simp only [sol, decide_eq_true_eq] at hP3; omega))
        rw [ej] at hl
        exact kk H locs ls hP hD hS (lv_sub hl [0, 1] rfl)
  | succ n ih =>
    intro j H locs ls hj hw0 hP hD hS hl
    refine lv_iload_n (pc := 18) hx hb d_M_solicit_18 rfl (lv_at hl 0 rfl) ?_
    refine lv_aload_n (pc := 19) hx hb d_M_solicit_19 rfl (lv_at hl 1 rfl) ?_
    refine gM (pc := 20) hx hb hts hown hK hP 7 (v := .int (nI k)) rfl (by decide) tw_143 d_M_solicit_20 ?_
    refine nv_icmp_eq (pc := 23) (tgt := 58) (x := j) (y := k) hx hb (by omega) (by omega) d_M_solicit_23 (by decide) (fun c_23 => ?_) (fun c_23 => ?_)
    · have ej : j = r := (wk_at (by simp only [sol, decide_eq_true_eq]; omega)).symm.trans hw0
      rw [ej] at hl
      exact kk H locs ls hP hD hS (lv_sub hl [0, 1] rfl)
    · refine lv_iload_n (pc := 26) hx hb d_M_solicit_26 rfl (lv_at hl 0 rfl) ?_
      refine lv_aload_n (pc := 27) hx hb d_M_solicit_27 rfl (lv_at hl 1 rfl) ?_
      refine gM (pc := 28) hx hb hts hown hK hP 3 (v := .ref (h 2)) rfl (by decide) tw_139 d_M_solicit_28 ?_
      refine lv_aload_n (pc := 31) hx hb d_M_solicit_31 rfl (lv_at hl 1 rfl) ?_
      refine gM (pc := 32) hx hb hts hown hK hP 7 (v := .int (nI k)) rfl (by decide) tw_143 d_M_solicit_32 ?_
      refine nv_ald (pc := 35) (f := nx) (j := k) (v := nx k) hx hb hK hP 2 rfl (by omega) (by decide) rfl d_M_solicit_35 ?_
      refine nv_icmp_eq (pc := 36) (tgt := 58) (x := j) (y := nx k) hx hb (by omega) (by have := hnx k; omega) d_M_solicit_36 (by decide) (fun c_36 => ?_) (fun c_36 => ?_)
      · have ej : j = r := (wk_at (by simp only [sol, decide_eq_true_eq]; omega)).symm.trans hw0
        rw [ej] at hl
        exact kk H locs ls hP hD hS (lv_sub hl [0, 1] rfl)
      · refine lv_aload_n (pc := 39) hx hb d_M_solicit_39 rfl (lv_at hl 1 rfl) ?_
        refine gM (pc := 40) hx hb hts hown hK hP 2 (v := .ref (h 1)) rfl (by decide) tw_138 d_M_solicit_40 ?_
        refine lv_iload_n (pc := 43) hx hb d_M_solicit_43 rfl (lv_at hl 0 rfl) ?_
        refine nv_ald (pc := 44) (f := st) (j := j) (v := st j) hx hb hK hP 1 rfl (by omega) (by decide) rfl d_M_solicit_44 ?_
        refine lv_iconst (pc := 45) (v := (nI 2)) hx hb d_M_solicit_45 (by decide) ?_
        refine nv_icmp_eq (pc := 46) (tgt := 58) (x := st j) (y := 2) hx hb (by have := hst j; omega) (by decide) d_M_solicit_46 (by decide) (fun c_46 => ?_) (fun c_46 => ?_)
        · have ej : j = r := (wk_at (by simp only [sol, decide_eq_true_eq]; omega)).symm.trans hw0
          rw [ej] at hl
          exact kk H locs ls hP hD hS (lv_sub hl [0, 1] rfl)
        · refine lv_aload_n (pc := 49) hx hb d_M_solicit_49 rfl (lv_at hl 1 rfl) ?_
          refine lv_iload_n (pc := 50) hx hb d_M_solicit_50 rfl (lv_at hl 0 rfl) ?_
          refine cllI (pc := 51) (As := [.int (nI j)]) (rest := []) (wr := []) hx hb hml hown hts hK hP hD hS hA hl.1 (c_M_below l D cA h H.size N C st nx fr mn rc (some k) us (j) hN hj) [0, 1, 2, 3, 4, 5] [] rfl rfl (by decide) (by decide) (by decide) rfl rfl rfl (goodV tw_193 tw_195 ts_M_below tw_2 tw_196) (na := 1) (by decide +kernel) rfl ⟨rfl, rfl, hR.1, hR.2⟩ (Nat.le_of_ble_eq_true rfl) ⟨Nat.zero_le _, Nat.zero_le _⟩ rfl d_M_solicit_51 (fun r u H locs hw hP hD hS => ?_)
          obtain ⟨rfl, rfl⟩ := hw
          have hP : va_P D classes (wM cA h N C (st, nx, fr, mn, rc, (some k), us)) H := hP
          have hD : va_D A (wM cA h N C (st, nx, fr, mn, rc, (some k), us)) := hD
          refine lv_istore_n (pc := 54) (lv' := [(1, .int (nI (bl N j))), (0, .ref (h 0))]) hx hb d_M_solicit_54 rfl hl (by decide) rfl (fun ls hl => ?_)
          refine lv_goto (pc := 55) (tgt := 18) hx hb d_M_solicit_55 (by decide) ?_
          exact ih (bl N j) H locs ls (bl_lt hN.1 hj) ((wk_step (by simp only [sol, decide_eq_true_eq]; omega)).symm.trans hw0) hP hD hS (lv_sub hl [0, 1] rfl)
set_option maxHeartbeats 4000000 in
set_option maxRecDepth 100000 in
/-- solicit -/
theorem c_M_solicit (l : Launch) (D : va_G) (cA : ClassId) (h : Nat → Nat) (sz N C : Nat) (st nx : Nat → Nat) (fr : Nat → Int32) (mn : Nat → Nat) (rc : Nat → Int32) (tk : Option Nat) (us : Bool) (hN : 2 ≤ N ∧ N ≤ 16) (hst : ∀ j, st j ≤ 3) (hnx : ∀ j, nx j < N) (htk : ∀ k, tk = some k → k < N ∧ st k = 3) : MetI l y_M_solicit b_M_solicit 2 (some .int) rq1 D cA (h 0) [] (wM cA h N C (st, nx, fr, mn, rc, tk, us)) (wM cA h N C) (fun r u => (r, u) = M_solicit N st nx fr mn rc tk us) sz := by
  refine metI (own := R_M) (by decide) rfl (Nat.le_of_ble_eq_true rfl) ?_
  intro p e s m below meth c A ls H locs B hP hD hS hl
  obtain ⟨hx, hb, hr, hlk, hml, hown, hts, hK, hA⟩ := B
  have hl : lv_has ls 2 [(0, .ref (h 0))] := hl
  cases tk with
  | none =>
    refine lv_aload_n (pc := 0) hx hb d_M_solicit_0 rfl (lv_at hl 0 rfl) ?_
    refine gM (pc := 1) hx hb hts hown hK hP 7 (v := .int (-1)) rfl (by decide) tw_143 d_M_solicit_1 ?_
    refine nv_if_geM (pc := 4) (tgt := 9) hx hb d_M_solicit_4 (by decide) ?_
    refine lv_iconst (pc := 7) (v := -1) hx hb d_M_solicit_7 (by decide) ?_
    exact retI (st, nx, fr, mn, rc, none, us) hx hb hr hlk hK hP hD hS (rfl) d_M_solicit_8
  | some k =>
    obtain ⟨hk, h3⟩ := htk k rfl
    have hg := sw_ok (st := st) (nx := nx) hN hk
    refine lv_aload_n (pc := 0) hx hb d_M_solicit_0 rfl (lv_at hl 0 rfl) ?_
    refine gM (pc := 1) hx hb hts hown hK hP 7 (v := .int (nI k)) rfl (by decide) tw_143 d_M_solicit_1 ?_
    refine nv_if_geN (pc := 4) (tgt := 9) (x := k) hx hb (by omega) d_M_solicit_4 (by decide) ?_
    refine lv_aload_n (pc := 9) hx hb d_M_solicit_9 rfl (lv_at hl 0 rfl) ?_
    refine lv_aload_n (pc := 10) hx hb d_M_solicit_10 rfl (lv_at hl 0 rfl) ?_
    refine gM (pc := 11) hx hb hts hown hK hP 7 (v := .int (nI k)) rfl (by decide) tw_143 d_M_solicit_11 ?_
    refine cllI (pc := 14) (As := [.int (nI k)]) (rest := []) (wr := []) hx hb hml hown hts hK hP hD hS hA hl.1 (c_M_below l D cA h H.size N C st nx fr mn rc (some k) us (k) hN hk) [0, 1, 2, 3, 4, 5] [] rfl rfl (by decide) (by decide) (by decide) rfl rfl rfl (goodV tw_193 tw_195 ts_M_below tw_2 tw_196) (na := 1) (by decide +kernel) rfl ⟨rfl, rfl, Nat.le_of_ble_eq_true rfl, Nat.le_of_ble_eq_true rfl⟩ (Nat.le_of_ble_eq_true rfl) ⟨Nat.zero_le _, Nat.zero_le _⟩ rfl d_M_solicit_14 (fun r u H locs hw hP hD hS => ?_)
    obtain ⟨rfl, rfl⟩ := hw
    have hP : va_P D classes (wM cA h N C (st, nx, fr, mn, rc, (some k), us)) H := hP
    have hD : va_D A (wM cA h N C (st, nx, fr, mn, rc, (some k), us)) := hD
    refine lv_istore_n (pc := 17) (lv' := [(1, .int (nI (bl N k))), (0, .ref (h 0))]) hx hb d_M_solicit_17 rfl hl (by decide) rfl (fun ls hl => ?_)
    refine lp_M_solicit (N := N) (C := C) (st := st) (nx := nx) (fr := fr) (mn := mn) (rc := rc) (tk := none) (us := us) (k := k) (r := sw N st nx k) hN hst hnx hk ⟨by decide, by decide⟩ hg.2 ⟨hx, hb, hr, hlk, hml, hown, hts, hK, hA⟩ (fun H locs ls hP hD hS hl => ?_) 16 (bl N k) H locs ls (bl_lt hN.1 hk) rfl hP hD hS (lv_sub hl [0, 1] rfl)
    refine lv_iload_n (pc := 58) hx hb d_M_solicit_58 rfl (lv_at hl 0 rfl) ?_
    refine lv_aload_n (pc := 59) hx hb d_M_solicit_59 rfl (lv_at hl 1 rfl) ?_
    refine gM (pc := 60) hx hb hts hown hK hP 7 (v := .int (nI k)) rfl (by decide) tw_143 d_M_solicit_60 ?_
    refine nv_icmp_eq (pc := 63) (tgt := 79) (x := sw N st nx k) (y := k) hx hb (by omega) (by omega) d_M_solicit_63 (by decide) (fun c_63 => ?_) (fun c_63 => ?_)
    · refine lv_iconst (pc := 79) (v := -1) hx hb d_M_solicit_79 (by decide) ?_
      exact retI (st, nx, fr, mn, rc, (some k), us) hx hb hr hlk hK hP hD hS (by simp [M_solicit, c_63]) d_M_solicit_80
    · refine lv_iload_n (pc := 66) hx hb d_M_solicit_66 rfl (lv_at hl 0 rfl) ?_
      refine lv_aload_n (pc := 67) hx hb d_M_solicit_67 rfl (lv_at hl 1 rfl) ?_
      refine gM (pc := 68) hx hb hts hown hK hP 3 (v := .ref (h 2)) rfl (by decide) tw_139 d_M_solicit_68 ?_
      refine lv_aload_n (pc := 71) hx hb d_M_solicit_71 rfl (lv_at hl 1 rfl) ?_
      refine gM (pc := 72) hx hb hts hown hK hP 7 (v := .int (nI k)) rfl (by decide) tw_143 d_M_solicit_72 ?_
      refine nv_ald (pc := 75) (f := nx) (j := k) (v := nx k) hx hb hK hP 2 rfl (by omega) (by decide) rfl d_M_solicit_75 ?_
      refine nv_icmp_ne (pc := 76) (tgt := 81) (x := sw N st nx k) (y := nx k) hx hb (by omega) (by have := hnx k; omega) d_M_solicit_76 (by decide) (fun c_76 => ?_) (fun c_76 => ?_)
      · refine lv_aload_n (pc := 81) hx hb d_M_solicit_81 rfl (lv_at hl 1 rfl) ?_
        refine gM (pc := 82) hx hb hts hown hK hP 2 (v := .ref (h 1)) rfl (by decide) tw_138 d_M_solicit_82 ?_
        refine lv_iload_n (pc := 85) hx hb d_M_solicit_85 rfl (lv_at hl 0 rfl) ?_
        refine lv_iconst (pc := 86) (v := (nI 3)) hx hb d_M_solicit_86 (by decide) ?_
        refine nv_ast (pc := 87) (f := st) (j := sw N st nx k) (v := 3) hx hb hK hP hD hS 1 rfl (upN st (sw N st nx k) 3) (by omega) (by decide) rfl d_M_solicit_87 (fun H locs hP hD hS => ?_)
        have hP : va_P D classes (wM cA h N C ((upN st (sw N st nx k) 3), nx, fr, mn, rc, (some k), us)) H := hP
        have hD : va_D A (wM cA h N C ((upN st (sw N st nx k) 3), nx, fr, mn, rc, (some k), us)) := hD
        refine lv_aload_n (pc := 88) hx hb d_M_solicit_88 rfl (lv_at hl 1 rfl) ?_
        refine gM (pc := 89) hx hb hts hown hK hP 3 (v := .ref (h 2)) rfl (by decide) tw_139 d_M_solicit_89 ?_
        refine lv_iload_n (pc := 92) hx hb d_M_solicit_92 rfl (lv_at hl 0 rfl) ?_
        refine lv_aload_n (pc := 93) hx hb d_M_solicit_93 rfl (lv_at hl 1 rfl) ?_
        refine gM (pc := 94) hx hb hts hown hK hP 3 (v := .ref (h 2)) rfl (by decide) tw_139 d_M_solicit_94 ?_
        refine lv_aload_n (pc := 97) hx hb d_M_solicit_97 rfl (lv_at hl 1 rfl) ?_
        refine gM (pc := 98) hx hb hts hown hK hP 7 (v := .int (nI k)) rfl (by decide) tw_143 d_M_solicit_98 ?_
        refine nv_ald (pc := 101) (f := nx) (j := k) (v := nx k) hx hb hK hP 2 rfl (by omega) (by decide) rfl d_M_solicit_101 ?_
        refine nv_ast (pc := 102) (f := nx) (j := sw N st nx k) (v := nx k) hx hb hK hP hD hS 2 rfl (upN nx (sw N st nx k) (nx k)) (by omega) (by decide) rfl d_M_solicit_102 (fun H locs hP hD hS => ?_)
        have hP : va_P D classes (wM cA h N C ((upN st (sw N st nx k) 3), (upN nx (sw N st nx k) (nx k)), fr, mn, rc, (some k), us)) H := hP
        have hD : va_D A (wM cA h N C ((upN st (sw N st nx k) 3), (upN nx (sw N st nx k) (nx k)), fr, mn, rc, (some k), us)) := hD
        refine lv_aload_n (pc := 103) hx hb d_M_solicit_103 rfl (lv_at hl 1 rfl) ?_
        refine gM (pc := 104) hx hb hts hown hK hP 3 (v := .ref (h 2)) rfl (by decide) tw_139 d_M_solicit_104 ?_
        refine lv_aload_n (pc := 107) hx hb d_M_solicit_107 rfl (lv_at hl 1 rfl) ?_
        refine gM (pc := 108) hx hb hts hown hK hP 7 (v := .int (nI k)) rfl (by decide) tw_143 d_M_solicit_108 ?_
        refine lv_iload_n (pc := 111) hx hb d_M_solicit_111 rfl (lv_at hl 0 rfl) ?_
        refine nv_ast (pc := 112) (f := (upN nx (sw N st nx k) (nx k))) (j := k) (v := sw N st nx k) hx hb hK hP hD hS 2 rfl (upN (upN nx (sw N st nx k) (nx k)) k (sw N st nx k)) (by omega) (by decide) rfl d_M_solicit_112 (fun H locs hP hD hS => ?_)
        have hP : va_P D classes (wM cA h N C ((upN st (sw N st nx k) 3), (upN (upN nx (sw N st nx k) (nx k)) k (sw N st nx k)), fr, mn, rc, (some k), us)) H := hP
        have hD : va_D A (wM cA h N C ((upN st (sw N st nx k) 3), (upN (upN nx (sw N st nx k) (nx k)) k (sw N st nx k)), fr, mn, rc, (some k), us)) := hD
        refine lv_iload_n (pc := 113) hx hb d_M_solicit_113 rfl (lv_at hl 0 rfl) ?_
        exact retI ((upN st (sw N st nx k) 3), (upN (upN nx (sw N st nx k) (nx k)) k (sw N st nx k)), fr, mn, rc, (some k), us) hx hb hr hlk hK hP hD hS (by simp [M_solicit, c_63, c_76]) d_M_solicit_114
      · refine lv_iconst (pc := 79) (v := -1) hx hb d_M_solicit_79 (by decide) ?_
        exact retI (st, nx, fr, mn, rc, (some k), us) hx hb hr hlk hK hP hD hS (by simp [M_solicit, c_63, c_76]) d_M_solicit_80
end
section
theorem ne_of_out {N k : Nat} {p : Int32} (hN : N < 2 ^ 31) (hk : k < N) (ha : ixR N p none) : ¬ p = nI k := by
  intro q
  subst q
  rcases ha with z | z
  · exact nI_pos (Nat.lt_trans hk hN) z
  · exact absurd ((nI_leI hN (Nat.lt_trans hk hN)).mp z) (Nat.not_le.mpr hk)
set_option maxHeartbeats 4000000 in
set_option maxRecDepth 100000 in
theorem lp_X_leave {p : Program} {l : Launch} {e : Env} {R : Room} {s : State} {m : MethodId} {args : Array Value} {below : List Frame} {meth : Method} {c : Code} {A : Nat → Prop} {Q : State → Prop} {ret : Option FieldType} {D : va_G} {cA : ClassId} {h : Nat → Nat} {N C : Nat} {st nx : Nat → Nat} {fr : Nat → Int32} {fi mn : Nat → Nat} {rc : Nat → Int32} {tk : Option Nat} {us : Bool} {k r : Nat} (hN : 2 ≤ N ∧ N ≤ 16) (hst : ∀ j, st j ≤ 3) (hnx : ∀ j, nx j < N) (hk : k < N) (hr0 : r < N) (B : Ctx p s m args meth c b_X_leave 4 ret R_X D cA A)
    (kk : ∀ (H : Heap) (locs : List Loc) (ls : Array Slot), va_P D classes (wX cA h N C (st, (lvX N k r st nx), fr, fi, mn, rc, tk, us)) H → va_D A (wX cA h N C (st, (lvX N k r st nx), fr, fi, mn, rc, tk, us)) → va_S A s.heap H locs → lv_has ls 4 [(2, .int (nI r)), (1, .int (nI k)), (0, .ref (h 0))] → W p l e R s m args below meth c H locs 0 0 Q (F0 m 71 ls [])) :
    ∀ (n i : Nat) (H : Heap) (locs : List Loc) (ls : Array Slot), i ≤ N → N < i + n → va_P D classes (wX cA h N C (st, (lvX i k r st nx), fr, fi, mn, rc, tk, us)) H → va_D A (wX cA h N C (st, (lvX i k r st nx), fr, fi, mn, rc, tk, us)) → va_S A s.heap H locs → lv_has ls 4 [(3, .int (nI i)), (2, .int (nI r)), (1, .int (nI k)), (0, .ref (h 0))] → W p l e R s m args below meth c H locs 0 0 Q (F0 m 30 ls []) := by
  obtain ⟨hx, hb, hr, hlk, hml, hown, hts, hK, hA⟩ := B
  intro n
  induction n with
  | zero =>
    intro i H locs ls h1 h2 hP hD hS hl
    exact absurd h2 (by omega)
  | succ n ih =>
    intro i H locs ls h1 h2 hP hD hS hl
    refine lv_iload_n (pc := 30) hx hb d_X_leave_30 rfl (lv_at hl 0 rfl) ?_
    refine lv_aload_n (pc := 31) hx hb d_X_leave_31 rfl (lv_at hl 3 rfl) ?_
    refine gX (pc := 32) hx hb hts hown hK hP 0 (v := .int (nI N)) rfl (by decide) tw_11 d_X_leave_32 ?_
    refine nv_icmp_ge (pc := 35) (tgt := 71) (x := i) (y := N) hx hb (by omega) (by omega) d_X_leave_35 (by decide) (fun c_35 => ?_) (fun c_35 => ?_)
    · have ei : i = N := by omega
      rw [ei] at hP hD
      exact kk H locs ls hP hD hS (lv_sub hl [1, 2, 3] rfl)
    · refine lv_aload_n (pc := 38) hx hb d_X_leave_38 rfl (lv_at hl 3 rfl) ?_
      refine gX (pc := 39) hx hb hts hown hK hP 2 (v := .ref (h 1)) rfl (by decide) tw_13 d_X_leave_39 ?_
      refine lv_iload_n (pc := 42) hx hb d_X_leave_42 rfl (lv_at hl 0 rfl) ?_
      refine nv_ald (pc := 43) (f := st) (j := i) (v := st i) hx hb hK hP 1 rfl (by omega) (by decide) rfl d_X_leave_43 ?_
      refine lv_iconst (pc := 44) (v := (nI 3)) hx hb d_X_leave_44 (by decide) ?_
      refine nv_icmp_ne (pc := 45) (tgt := 65) (x := st i) (y := 3) hx hb (by have := hst i; omega) (by decide) d_X_leave_45 (by decide) (fun c_45 => ?_) (fun c_45 => ?_)
      · refine nv_iinc (pc := 65) (k := 0) hx hb [(3, .int (nI (i + 1))), (2, .int (nI r)), (1, .int (nI k)), (0, .ref (h 0))] d_X_leave_65 hl rfl (by decide) rfl (fun ls hl => ?_)
        refine lv_goto (pc := 68) (tgt := 30) hx hb d_X_leave_68 (by decide) ?_
        exact ih (i + 1) H locs ls (by omega) (by omega) (by rw [← lvX_n (Or.inl c_45)]; exact hP) (by rw [← lvX_n (Or.inl c_45)]; exact hD) hS (lv_sub hl [0, 1, 2, 3] rfl)
      · refine lv_aload_n (pc := 48) hx hb d_X_leave_48 rfl (lv_at hl 3 rfl) ?_
        refine gX (pc := 49) hx hb hts hown hK hP 3 (v := .ref (h 2)) rfl (by decide) tw_14 d_X_leave_49 ?_
        refine lv_iload_n (pc := 52) hx hb d_X_leave_52 rfl (lv_at hl 0 rfl) ?_
        refine nv_ald (pc := 53) (f := (lvX i k r st nx)) (j := i) (v := nx i) hx hb hK hP 2 rfl (by omega) (by decide) (lvX_at i k r st nx) d_X_leave_53 ?_
        refine lv_iload_n (pc := 54) hx hb d_X_leave_54 rfl (lv_at hl 2 rfl) ?_
        refine nv_icmp_ne (pc := 55) (tgt := 65) (x := nx i) (y := k) hx hb (by have := hnx i; omega) (by omega) d_X_leave_55 (by decide) (fun c_55 => ?_) (fun c_55 => ?_)
        · refine nv_iinc (pc := 65) (k := 0) hx hb [(3, .int (nI (i + 1))), (2, .int (nI r)), (1, .int (nI k)), (0, .ref (h 0))] d_X_leave_65 hl rfl (by decide) rfl (fun ls hl => ?_)
          refine lv_goto (pc := 68) (tgt := 30) hx hb d_X_leave_68 (by decide) ?_
          exact ih (i + 1) H locs ls (by omega) (by omega) (by rw [← lvX_n (Or.inr c_55)]; exact hP) (by rw [← lvX_n (Or.inr c_55)]; exact hD) hS (lv_sub hl [0, 1, 2, 3] rfl)
        · refine lv_aload_n (pc := 58) hx hb d_X_leave_58 rfl (lv_at hl 3 rfl) ?_
          refine gX (pc := 59) hx hb hts hown hK hP 3 (v := .ref (h 2)) rfl (by decide) tw_14 d_X_leave_59 ?_
          refine lv_iload_n (pc := 62) hx hb d_X_leave_62 rfl (lv_at hl 0 rfl) ?_
          refine lv_iload_n (pc := 63) hx hb d_X_leave_63 rfl (lv_at hl 1 rfl) ?_
          refine nv_ast (pc := 64) (f := (lvX i k r st nx)) (j := i) (v := r) hx hb hK hP hD hS 2 rfl (lvX (i + 1) k r st nx) (by omega) (by decide) (lvX_y c_45 c_55) d_X_leave_64 (fun H locs hP hD hS => ?_)
          have hP : va_P D classes (wX cA h N C (st, (lvX (i + 1) k r st nx), fr, fi, mn, rc, tk, us)) H := hP
          have hD : va_D A (wX cA h N C (st, (lvX (i + 1) k r st nx), fr, fi, mn, rc, tk, us)) := hD
          refine nv_iinc (pc := 65) (k := 0) hx hb [(3, .int (nI (i + 1))), (2, .int (nI r)), (1, .int (nI k)), (0, .ref (h 0))] d_X_leave_65 hl rfl (by decide) rfl (fun ls hl => ?_)
          refine lv_goto (pc := 68) (tgt := 30) hx hb d_X_leave_68 (by decide) ?_
          exact ih (i + 1) H locs ls (by omega) (by omega) hP hD hS (lv_sub hl [0, 1, 2, 3] rfl)
set_option maxHeartbeats 4000000 in
set_option maxRecDepth 100000 in
/-- leave -/
theorem c_X_leave (l : Launch) (D : va_G) (cA : ClassId) (h : Nat → Nat) (sz N C : Nat) (st nx : Nat → Nat) (fr : Nat → Int32) (fi mn : Nat → Nat) (rc : Nat → Int32) (tk : Option Nat) (us : Bool) (p0 : Int32) (a : Option Nat) (hN : 2 ≤ N ∧ N ≤ 16) (hst : ∀ j, st j ≤ 3) (hnx : ∀ j, nx j < N) (htk : ∀ k, tk = some k → k < N ∧ st k = 3) (ha : ixR N p0 a) : MetI l y_X_leave b_X_leave 4 (some .int) rq2 D cA (h 0) [.int p0] (wX cA h N C (st, nx, fr, fi, mn, rc, tk, us)) (wX cA h N C) (fun r u => (r, u) = X_leave N st nx fr fi mn rc tk us a) sz := by
  refine metI (own := R_X) (by decide) rfl (Nat.le_of_ble_eq_true rfl) ?_
  intro p e s m below meth c A ls H locs B hP hD hS hl
  obtain ⟨hx, hb, hr, hlk, hml, hown, hts, hK, hA⟩ := B
  have hl : lv_has ls 4 [(0, .ref (h 0)), (1, .int p0)] := hl
  cases tk with
  | none =>
    refine lv_aload_n (pc := 0) hx hb d_X_leave_0 rfl (lv_at hl 0 rfl) ?_
    refine gX (pc := 1) hx hb hts hown hK hP 8 (v := .int (-1)) rfl (by decide) tw_19 d_X_leave_1 ?_
    refine nv_if_ltM (pc := 4) (tgt := 15) hx hb d_X_leave_4 (by decide) ?_
    refine lv_iconst (pc := 15) (v := (nI 1)) hx hb d_X_leave_15 (by decide) ?_
    exact retI (st, nx, fr, fi, mn, rc, none, us) hx hb hr hlk hK hP hD hS (rfl) d_X_leave_16
  | some k =>
    obtain ⟨hk, h3⟩ := htk k rfl
    have hg := gw_ok hN hnx hk h3
    cases a with
    | none =>
      refine lv_aload_n (pc := 0) hx hb d_X_leave_0 rfl (lv_at hl 0 rfl) ?_
      refine gX (pc := 1) hx hb hts hown hK hP 8 (v := .int (nI k)) rfl (by decide) tw_19 d_X_leave_1 ?_
      refine nv_if_ltN (pc := 4) (tgt := 15) (x := k) hx hb (by omega) d_X_leave_4 (by decide) ?_
      refine lv_iload_n (pc := 7) hx hb d_X_leave_7 rfl (lv_at hl 1 rfl) ?_
      refine lv_aload_n (pc := 8) hx hb d_X_leave_8 rfl (lv_at hl 0 rfl) ?_
      refine gX (pc := 9) hx hb hts hown hK hP 8 (v := .int (nI k)) rfl (by decide) tw_19 d_X_leave_9 ?_
      refine lv_icmp_eq (pc := 12) (tgt := 17) hx hb d_X_leave_12 (by decide) (fun c_12 => absurd c_12 (ne_of_out (by omega) hk ha)) (fun c_12 => ?_)
      refine lv_iconst (pc := 15) (v := (nI 1)) hx hb d_X_leave_15 (by decide) ?_
      exact retI (st, nx, fr, fi, mn, rc, (some k), us) hx hb hr hlk hK hP hD hS (by simp [X_leave]) d_X_leave_16
    | some j =>
      obtain ⟨rfl, hj⟩ := ha
      by_cases hjk : j = k
      · subst hjk
        refine lv_aload_n (pc := 0) hx hb d_X_leave_0 rfl (lv_at hl 0 rfl) ?_
        refine gX (pc := 1) hx hb hts hown hK hP 8 (v := .int (nI j)) rfl (by decide) tw_19 d_X_leave_1 ?_
        refine nv_if_ltN (pc := 4) (tgt := 15) (x := j) hx hb (by omega) d_X_leave_4 (by decide) ?_
        refine lv_iload_n (pc := 7) hx hb d_X_leave_7 rfl (lv_at hl 1 rfl) ?_
        refine lv_aload_n (pc := 8) hx hb d_X_leave_8 rfl (lv_at hl 0 rfl) ?_
        refine gX (pc := 9) hx hb hts hown hK hP 8 (v := .int (nI j)) rfl (by decide) tw_19 d_X_leave_9 ?_
        refine nv_icmp_eq (pc := 12) (tgt := 17) (x := j) (y := j) hx hb (by omega) (by omega) d_X_leave_12 (by decide) (fun c_12 => ?_) (fun c_12 => absurd c_12 (fun z => z rfl))
        refine lv_aload_n (pc := 17) hx hb d_X_leave_17 rfl (lv_at hl 0 rfl) ?_
        refine cllV (pc := 18) (As := []) (rest := []) (wr := []) hx hb hml hown hts hK hP hD hS hA hl.1 (c_X_repair l D cA h H.size N C st nx fr fi mn rc (some j) us j hk h3 hN hst hnx rfl) [0, 1, 2, 3, 4, 5, 6] [] rfl rfl (by decide) (by decide) (by decide) rfl rfl rfl (goodV tw_75 tw_77 ts_X_repair tw_1 tw_78) (na := 0) (by decide +kernel) rfl ⟨rfl, rfl, Nat.le_of_ble_eq_true rfl, Nat.le_of_ble_eq_true rfl⟩ (Nat.le_of_ble_eq_true rfl) ⟨Nat.zero_le _, Nat.zero_le _⟩ rfl d_X_leave_18 (fun u H locs hw hP hD hS => ?_)
        obtain rfl := hw
        have hP : va_P D classes (wX cA h N C (st, (upN nx j (gw N st nx j)), fr, fi, mn, rc, (some j), us)) H := hP
        have hD : va_D A (wX cA h N C (st, (upN nx j (gw N st nx j)), fr, fi, mn, rc, (some j), us)) := hD
        refine lv_aload_n (pc := 21) hx hb d_X_leave_21 rfl (lv_at hl 0 rfl) ?_
        refine gX (pc := 22) hx hb hts hown hK hP 3 (v := .ref (h 2)) rfl (by decide) tw_14 d_X_leave_22 ?_
        refine lv_iload_n (pc := 25) hx hb d_X_leave_25 rfl (lv_at hl 1 rfl) ?_
        refine nv_ald (pc := 26) (f := (upN nx j (gw N st nx j))) (j := j) (v := gw N st nx j) hx hb hK hP 2 rfl (by omega) (by decide) (upN_s nx j _) d_X_leave_26 ?_
        refine lv_istore_n (pc := 27) (lv' := [(2, .int (nI (gw N st nx j))), (0, .ref (h 0)), (1, .int (nI j))]) hx hb d_X_leave_27 rfl hl (by decide) rfl (fun ls hl => ?_)
        refine lv_iconst (pc := 28) (v := (nI 0)) hx hb d_X_leave_28 (by decide) ?_
        refine lv_istore_n (pc := 29) (lv' := [(3, .int (nI 0)), (2, .int (nI (gw N st nx j))), (0, .ref (h 0)), (1, .int (nI j))]) hx hb d_X_leave_29 rfl hl (by decide) rfl (fun ls hl => ?_)
        refine lp_X_leave (N := N) (C := C) (st := st) (nx := (upN nx j (gw N st nx j))) (fr := fr) (fi := fi) (mn := mn) (rc := rc) (tk := (some j)) (us := us) (k := j) (r := gw N st nx j) hN hst (upN_lt hnx hg.1) hk hg.1 ⟨hx, hb, hr, hlk, hml, hown, hts, hK, hA⟩ (fun H locs ls hP hD hS hl => ?_) (N + 1) 0 H locs ls (by omega) (by omega) (by rw [lvX_0]; exact hP) (by rw [lvX_0]; exact hD) hS (lv_sub hl [0, 1, 3, 2] rfl)
        refine lv_aload_n (pc := 71) hx hb d_X_leave_71 rfl (lv_at hl 2 rfl) ?_
        refine gX (pc := 72) hx hb hts hown hK hP 2 (v := .ref (h 1)) rfl (by decide) tw_13 d_X_leave_72 ?_
        refine lv_iload_n (pc := 75) hx hb d_X_leave_75 rfl (lv_at hl 1 rfl) ?_
        refine lv_iconst (pc := 76) (v := (nI 1)) hx hb d_X_leave_76 (by decide) ?_
        refine nv_ast (pc := 77) (f := st) (j := j) (v := 1) hx hb hK hP hD hS 1 rfl (upN st j 1) (by omega) (by decide) rfl d_X_leave_77 (fun H locs hP hD hS => ?_)
        have hP : va_P D classes (wX cA h N C ((upN st j 1), (lvX N j (gw N st nx j) st (upN nx j (gw N st nx j))), fr, fi, mn, rc, (some j), us)) H := hP
        have hD : va_D A (wX cA h N C ((upN st j 1), (lvX N j (gw N st nx j) st (upN nx j (gw N st nx j))), fr, fi, mn, rc, (some j), us)) := hD
        refine lv_iload_n (pc := 78) hx hb d_X_leave_78 rfl (lv_at hl 0 rfl) ?_
        refine lv_iload_n (pc := 79) hx hb d_X_leave_79 rfl (lv_at hl 1 rfl) ?_
        refine nv_icmp_ne (pc := 80) (tgt := 91) (x := gw N st nx j) (y := j) hx hb (by omega) (by omega) d_X_leave_80 (by decide) (fun c_80 => ?_) (fun c_80 => ?_)
        · refine lv_aload_n (pc := 91) hx hb d_X_leave_91 rfl (lv_at hl 2 rfl) ?_
          refine lv_iload_n (pc := 92) hx hb d_X_leave_92 rfl (lv_at hl 0 rfl) ?_
          refine cllV (pc := 93) (As := [.int (nI (gw N st nx j))]) (rest := []) (wr := []) hx hb hml hown hts hK hP hD hS hA hl.1 (c_X_come l D cA h H.size N C (upN st j 1) (lvX N j (gw N st nx j) st (upN nx j (gw N st nx j))) fr fi mn rc (some j) us (gw N st nx j)) [0, 1, 2, 3, 4, 5, 6] [] rfl rfl (by decide) (by decide) (by decide) rfl rfl rfl (goodV tw_83 tw_85 ts_X_come tw_1 tw_86) (na := 1) (by decide +kernel) rfl ⟨rfl, rfl, Nat.le_of_ble_eq_true rfl, Nat.le_of_ble_eq_true rfl⟩ (Nat.le_of_ble_eq_true rfl) ⟨Nat.zero_le _, Nat.zero_le _⟩ rfl d_X_leave_93 (fun u H locs hw hP hD hS => ?_)
          obtain rfl := hw
          have hP : va_P D classes (wX cA h N C ((upN st j 1), (lvX N j (gw N st nx j) st (upN nx j (gw N st nx j))), fr, fi, mn, rc, (some (gw N st nx j)), false)) H := hP
          have hD : va_D A (wX cA h N C ((upN st j 1), (lvX N j (gw N st nx j) st (upN nx j (gw N st nx j))), fr, fi, mn, rc, (some (gw N st nx j)), false)) := hD
          refine lv_iconst (pc := 96) (v := (nI 0)) hx hb d_X_leave_96 (by decide) ?_
          exact retI ((upN st j 1), (lvX N j (gw N st nx j) st (upN nx j (gw N st nx j))), fr, fi, mn, rc, (some (gw N st nx j)), false) hx hb hr hlk hK hP hD hS (by simp [X_leave, c_80]) d_X_leave_97
        · refine lv_aload_n (pc := 83) hx hb d_X_leave_83 rfl (lv_at hl 2 rfl) ?_
          refine lv_iconst (pc := 84) (v := (tv none)) hx hb d_X_leave_84 (by decide) ?_
          refine pX_tok (pc := 85) hx hb hts hown hK hP hD hS none d_X_leave_85 (fun H locs hP hD hS => ?_)
          refine lv_goto (pc := 88) (tgt := 96) hx hb d_X_leave_88 (by decide) ?_
          refine lv_iconst (pc := 96) (v := (nI 0)) hx hb d_X_leave_96 (by decide) ?_
          exact retI ((upN st j 1), (lvX N j (gw N st nx j) st (upN nx j (gw N st nx j))), fr, fi, mn, rc, none, us) hx hb hr hlk hK hP hD hS (by simp [X_leave, c_80]) d_X_leave_97
      · refine lv_aload_n (pc := 0) hx hb d_X_leave_0 rfl (lv_at hl 0 rfl) ?_
        refine gX (pc := 1) hx hb hts hown hK hP 8 (v := .int (nI k)) rfl (by decide) tw_19 d_X_leave_1 ?_
        refine nv_if_ltN (pc := 4) (tgt := 15) (x := k) hx hb (by omega) d_X_leave_4 (by decide) ?_
        refine lv_iload_n (pc := 7) hx hb d_X_leave_7 rfl (lv_at hl 1 rfl) ?_
        refine lv_aload_n (pc := 8) hx hb d_X_leave_8 rfl (lv_at hl 0 rfl) ?_
        refine gX (pc := 9) hx hb hts hown hK hP 8 (v := .int (nI k)) rfl (by decide) tw_19 d_X_leave_9 ?_
        refine nv_icmp_eq (pc := 12) (tgt := 17) (x := j) (y := k) hx hb (by omega) (by omega) d_X_leave_12 (by decide) (fun c_12 => absurd c_12 hjk) (fun c_12 => ?_)
        refine lv_iconst (pc := 15) (v := (nI 1)) hx hb d_X_leave_15 (by decide) ?_
        exact retI (st, nx, fr, fi, mn, rc, (some k), us) hx hb hr hlk hK hP hD hS (by simp [X_leave, hjk]) d_X_leave_16
set_option maxHeartbeats 4000000 in
set_option maxRecDepth 100000 in
theorem lp_M_leave {p : Program} {l : Launch} {e : Env} {R : Room} {s : State} {m : MethodId} {args : Array Value} {below : List Frame} {meth : Method} {c : Code} {A : Nat → Prop} {Q : State → Prop} {ret : Option FieldType} {D : va_G} {cA : ClassId} {h : Nat → Nat} {N C : Nat} {st nx : Nat → Nat} {fr : Nat → Int32} {mn : Nat → Nat} {rc : Nat → Int32} {tk : Option Nat} {us : Bool} {k r : Nat} (hN : 2 ≤ N ∧ N ≤ 16) (hst : ∀ j, st j ≤ 3) (hnx : ∀ j, nx j < N) (hk : k < N) (hr0 : r < N) (B : Ctx p s m args meth c b_M_leave 4 ret R_M D cA A)
    (kk : ∀ (H : Heap) (locs : List Loc) (ls : Array Slot), va_P D classes (wM cA h N C (st, (lvM N k r nx), fr, mn, rc, tk, us)) H → va_D A (wM cA h N C (st, (lvM N k r nx), fr, mn, rc, tk, us)) → va_S A s.heap H locs → lv_has ls 4 [(2, .int (nI r)), (1, .int (nI k)), (0, .ref (h 0))] → W p l e R s m args below meth c H locs 0 0 Q (F0 m 68 ls [])) :
    ∀ (n i : Nat) (H : Heap) (locs : List Loc) (ls : Array Slot), i ≤ N → N < i + n → va_P D classes (wM cA h N C (st, (lvM i k r nx), fr, mn, rc, tk, us)) H → va_D A (wM cA h N C (st, (lvM i k r nx), fr, mn, rc, tk, us)) → va_S A s.heap H locs → lv_has ls 4 [(3, .int (nI i)), (2, .int (nI r)), (1, .int (nI k)), (0, .ref (h 0))] → W p l e R s m args below meth c H locs 0 0 Q (F0 m 28 ls []) := by
  obtain ⟨hx, hb, hr, hlk, hml, hown, hts, hK, hA⟩ := B
  intro n
  induction n with
  | zero =>
    intro i H locs ls h1 h2 hP hD hS hl
    exact absurd h2 (by omega)
  | succ n ih =>
    intro i H locs ls h1 h2 hP hD hS hl
    refine lv_iload_n (pc := 28) hx hb d_M_leave_28 rfl (lv_at hl 0 rfl) ?_
    refine lv_aload_n (pc := 29) hx hb d_M_leave_29 rfl (lv_at hl 3 rfl) ?_
    refine gM (pc := 30) hx hb hts hown hK hP 0 (v := .int (nI N)) rfl (by decide) tw_136 d_M_leave_30 ?_
    refine nv_icmp_ge (pc := 33) (tgt := 68) (x := i) (y := N) hx hb (by omega) (by omega) d_M_leave_33 (by decide) (fun c_33 => ?_) (fun c_33 => ?_)
    · have ei : i = N := by omega
      rw [ei] at hP hD
      exact kk H locs ls hP hD hS (lv_sub hl [1, 2, 3] rfl)
    · refine lv_aload_n (pc := 36) hx hb d_M_leave_36 rfl (lv_at hl 3 rfl) ?_
      refine gM (pc := 37) hx hb hts hown hK hP 3 (v := .ref (h 2)) rfl (by decide) tw_139 d_M_leave_37 ?_
      refine lv_iload_n (pc := 40) hx hb d_M_leave_40 rfl (lv_at hl 0 rfl) ?_
      refine lv_aload_n (pc := 41) hx hb d_M_leave_41 rfl (lv_at hl 3 rfl) ?_
      refine gM (pc := 42) hx hb hts hown hK hP 3 (v := .ref (h 2)) rfl (by decide) tw_139 d_M_leave_42 ?_
      refine lv_iload_n (pc := 45) hx hb d_M_leave_45 rfl (lv_at hl 0 rfl) ?_
      refine nv_ald (pc := 46) (f := (lvM i k r nx)) (j := i) (v := nx i) hx hb hK hP 2 rfl (by omega) (by decide) (lvM_at i k r nx) d_M_leave_46 ?_
      refine lv_iload_n (pc := 47) hx hb d_M_leave_47 rfl (lv_at hl 2 rfl) ?_
      refine nv_icmp_ne (pc := 48) (tgt := 55) (x := nx i) (y := k) hx hb (by have := hnx i; omega) (by omega) d_M_leave_48 (by decide) (fun c_48 => ?_) (fun c_48 => ?_)
      · refine lv_aload_n (pc := 55) hx hb d_M_leave_55 rfl (lv_at hl 3 rfl) ?_
        refine gM (pc := 56) hx hb hts hown hK hP 3 (v := .ref (h 2)) rfl (by decide) tw_139 d_M_leave_56 ?_
        refine lv_iload_n (pc := 59) hx hb d_M_leave_59 rfl (lv_at hl 0 rfl) ?_
        refine nv_ald (pc := 60) (f := (lvM i k r nx)) (j := i) (v := nx i) hx hb hK hP 2 rfl (by omega) (by decide) (lvM_at i k r nx) d_M_leave_60 ?_
        refine nv_ast (pc := 61) (f := (lvM i k r nx)) (j := i) (v := nx i) hx hb hK hP hD hS 2 rfl (lvM (i + 1) k r nx) (by omega) (by decide) (lvM_n c_48) d_M_leave_61 (fun H locs hP hD hS => ?_)
        have hP : va_P D classes (wM cA h N C (st, (lvM (i + 1) k r nx), fr, mn, rc, tk, us)) H := hP
        have hD : va_D A (wM cA h N C (st, (lvM (i + 1) k r nx), fr, mn, rc, tk, us)) := hD
        refine nv_iinc (pc := 62) (k := 0) hx hb [(3, .int (nI (i + 1))), (2, .int (nI r)), (1, .int (nI k)), (0, .ref (h 0))] d_M_leave_62 hl rfl (by decide) rfl (fun ls hl => ?_)
        refine lv_goto (pc := 65) (tgt := 28) hx hb d_M_leave_65 (by decide) ?_
        exact ih (i + 1) H locs ls (by omega) (by omega) hP hD hS (lv_sub hl [0, 1, 2, 3] rfl)
      · refine lv_iload_n (pc := 51) hx hb d_M_leave_51 rfl (lv_at hl 1 rfl) ?_
        refine lv_goto (pc := 52) (tgt := 61) hx hb d_M_leave_52 (by decide) ?_
        refine nv_ast (pc := 61) (f := (lvM i k r nx)) (j := i) (v := r) hx hb hK hP hD hS 2 rfl (lvM (i + 1) k r nx) (by omega) (by decide) (lvM_y c_48) d_M_leave_61 (fun H locs hP hD hS => ?_)
        have hP : va_P D classes (wM cA h N C (st, (lvM (i + 1) k r nx), fr, mn, rc, tk, us)) H := hP
        have hD : va_D A (wM cA h N C (st, (lvM (i + 1) k r nx), fr, mn, rc, tk, us)) := hD
        refine nv_iinc (pc := 62) (k := 0) hx hb [(3, .int (nI (i + 1))), (2, .int (nI r)), (1, .int (nI k)), (0, .ref (h 0))] d_M_leave_62 hl rfl (by decide) rfl (fun ls hl => ?_)
        refine lv_goto (pc := 65) (tgt := 28) hx hb d_M_leave_65 (by decide) ?_
        exact ih (i + 1) H locs ls (by omega) (by omega) hP hD hS (lv_sub hl [0, 1, 2, 3] rfl)
set_option maxHeartbeats 4000000 in
set_option maxRecDepth 100000 in
/-- leave -/
theorem c_M_leave (l : Launch) (D : va_G) (cA : ClassId) (h : Nat → Nat) (sz N C : Nat) (st nx : Nat → Nat) (fr : Nat → Int32) (mn : Nat → Nat) (rc : Nat → Int32) (tk : Option Nat) (us : Bool) (p0 : Int32) (a : Option Nat) (hN : 2 ≤ N ∧ N ≤ 16) (hst : ∀ j, st j ≤ 3) (hnx : ∀ j, nx j < N) (htk : ∀ k, tk = some k → k < N ∧ st k = 3) (ha : ixR N p0 a) : MetI l y_M_leave b_M_leave 4 (some .int) rq2 D cA (h 0) [.int p0] (wM cA h N C (st, nx, fr, mn, rc, tk, us)) (wM cA h N C) (fun r u => (r, u) = M_leave N st nx fr mn rc tk us a) sz := by
  refine metI (own := R_M) (by decide) rfl (Nat.le_of_ble_eq_true rfl) ?_
  intro p e s m below meth c A ls H locs B hP hD hS hl
  obtain ⟨hx, hb, hr, hlk, hml, hown, hts, hK, hA⟩ := B
  have hl : lv_has ls 4 [(0, .ref (h 0)), (1, .int p0)] := hl
  cases tk with
  | none =>
    refine lv_aload_n (pc := 0) hx hb d_M_leave_0 rfl (lv_at hl 0 rfl) ?_
    refine gM (pc := 1) hx hb hts hown hK hP 7 (v := .int (-1)) rfl (by decide) tw_143 d_M_leave_1 ?_
    refine nv_if_ltM (pc := 4) (tgt := 15) hx hb d_M_leave_4 (by decide) ?_
    refine lv_iconst (pc := 15) (v := (nI 1)) hx hb d_M_leave_15 (by decide) ?_
    exact retI (st, nx, fr, mn, rc, none, us) hx hb hr hlk hK hP hD hS (rfl) d_M_leave_16
  | some k =>
    obtain ⟨hk, h3⟩ := htk k rfl
    have hg := gw_ok hN hnx hk h3
    cases a with
    | none =>
      refine lv_aload_n (pc := 0) hx hb d_M_leave_0 rfl (lv_at hl 0 rfl) ?_
      refine gM (pc := 1) hx hb hts hown hK hP 7 (v := .int (nI k)) rfl (by decide) tw_143 d_M_leave_1 ?_
      refine nv_if_ltN (pc := 4) (tgt := 15) (x := k) hx hb (by omega) d_M_leave_4 (by decide) ?_
      refine lv_aload_n (pc := 7) hx hb d_M_leave_7 rfl (lv_at hl 0 rfl) ?_
      refine gM (pc := 8) hx hb hts hown hK hP 7 (v := .int (nI k)) rfl (by decide) tw_143 d_M_leave_8 ?_
      refine lv_iload_n (pc := 11) hx hb d_M_leave_11 rfl (lv_at hl 1 rfl) ?_
      refine lv_icmp_eq (pc := 12) (tgt := 17) hx hb d_M_leave_12 (by decide) (fun c_12 => absurd c_12 (fun z => ne_of_out (by omega) hk ha z.symm)) (fun c_12 => ?_)
      refine lv_iconst (pc := 15) (v := (nI 1)) hx hb d_M_leave_15 (by decide) ?_
      exact retI (st, nx, fr, mn, rc, (some k), us) hx hb hr hlk hK hP hD hS (by simp [M_leave]) d_M_leave_16
    | some j =>
      obtain ⟨rfl, hj⟩ := ha
      by_cases hjk : j = k
      · subst hjk
        refine lv_aload_n (pc := 0) hx hb d_M_leave_0 rfl (lv_at hl 0 rfl) ?_
        refine gM (pc := 1) hx hb hts hown hK hP 7 (v := .int (nI j)) rfl (by decide) tw_143 d_M_leave_1 ?_
        refine nv_if_ltN (pc := 4) (tgt := 15) (x := j) hx hb (by omega) d_M_leave_4 (by decide) ?_
        refine lv_aload_n (pc := 7) hx hb d_M_leave_7 rfl (lv_at hl 0 rfl) ?_
        refine gM (pc := 8) hx hb hts hown hK hP 7 (v := .int (nI j)) rfl (by decide) tw_143 d_M_leave_8 ?_
        refine lv_iload_n (pc := 11) hx hb d_M_leave_11 rfl (lv_at hl 1 rfl) ?_
        refine nv_icmp_eq (pc := 12) (tgt := 17) (x := j) (y := j) hx hb (by omega) (by omega) d_M_leave_12 (by decide) (fun c_12 => ?_) (fun c_12 => absurd c_12 (fun z => z rfl))
        refine lv_aload_n (pc := 17) hx hb d_M_leave_17 rfl (lv_at hl 0 rfl) ?_
        refine cllV (pc := 18) (As := []) (rest := []) (wr := []) hx hb hml hown hts hK hP hD hS hA hl.1 (c_M_pass l D cA h H.size N C st nx fr mn rc (some j) us j hk h3 hN hst hnx rfl) [0, 1, 2, 3, 4, 5] [] rfl rfl (by decide) (by decide) (by decide) rfl rfl rfl (goodV tw_189 tw_191 ts_M_pass tw_2 tw_192) (na := 0) (by decide +kernel) rfl ⟨rfl, rfl, Nat.le_of_ble_eq_true rfl, Nat.le_of_ble_eq_true rfl⟩ (Nat.le_of_ble_eq_true rfl) ⟨Nat.zero_le _, Nat.zero_le _⟩ rfl d_M_leave_18 (fun u H locs hw hP hD hS => ?_)
        obtain rfl := hw
        have hP : va_P D classes (wM cA h N C (st, (upN nx j (gw N st nx j)), fr, mn, rc, (some (gw N st nx j)), false)) H := hP
        have hD : va_D A (wM cA h N C (st, (upN nx j (gw N st nx j)), fr, mn, rc, (some (gw N st nx j)), false)) := hD
        refine lv_aload_n (pc := 21) hx hb d_M_leave_21 rfl (lv_at hl 0 rfl) ?_
        refine gM (pc := 22) hx hb hts hown hK hP 7 (v := .int (nI (gw N st nx j))) rfl (by decide) tw_143 d_M_leave_22 ?_
        refine lv_istore_n (pc := 25) (lv' := [(2, .int (nI (gw N st nx j))), (0, .ref (h 0)), (1, .int (nI j))]) hx hb d_M_leave_25 rfl hl (by decide) rfl (fun ls hl => ?_)
        refine lv_iconst (pc := 26) (v := (nI 0)) hx hb d_M_leave_26 (by decide) ?_
        refine lv_istore_n (pc := 27) (lv' := [(3, .int (nI 0)), (2, .int (nI (gw N st nx j))), (0, .ref (h 0)), (1, .int (nI j))]) hx hb d_M_leave_27 rfl hl (by decide) rfl (fun ls hl => ?_)
        refine lp_M_leave (N := N) (C := C) (st := st) (nx := (upN nx j (gw N st nx j))) (fr := fr) (mn := mn) (rc := rc) (tk := (some (gw N st nx j))) (us := false) (k := j) (r := gw N st nx j) hN hst (upN_lt hnx hg.1) hk hg.1 ⟨hx, hb, hr, hlk, hml, hown, hts, hK, hA⟩ (fun H locs ls hP hD hS hl => ?_) (N + 1) 0 H locs ls (by omega) (by omega) (by rw [lvM_0]; exact hP) (by rw [lvM_0]; exact hD) hS (lv_sub hl [0, 1, 3, 2] rfl)
        refine lv_aload_n (pc := 68) hx hb d_M_leave_68 rfl (lv_at hl 2 rfl) ?_
        refine gM (pc := 69) hx hb hts hown hK hP 2 (v := .ref (h 1)) rfl (by decide) tw_138 d_M_leave_69 ?_
        refine lv_iload_n (pc := 72) hx hb d_M_leave_72 rfl (lv_at hl 1 rfl) ?_
        refine lv_iconst (pc := 73) (v := (nI 1)) hx hb d_M_leave_73 (by decide) ?_
        refine nv_ast (pc := 74) (f := st) (j := j) (v := 1) hx hb hK hP hD hS 1 rfl (upN st j 1) (by omega) (by decide) rfl d_M_leave_74 (fun H locs hP hD hS => ?_)
        have hP : va_P D classes (wM cA h N C ((upN st j 1), (lvM N j (gw N st nx j) (upN nx j (gw N st nx j))), fr, mn, rc, (some (gw N st nx j)), false)) H := hP
        have hD : va_D A (wM cA h N C ((upN st j 1), (lvM N j (gw N st nx j) (upN nx j (gw N st nx j))), fr, mn, rc, (some (gw N st nx j)), false)) := hD
        refine lv_aload_n (pc := 75) hx hb d_M_leave_75 rfl (lv_at hl 2 rfl) ?_
        refine lv_iload_n (pc := 76) hx hb d_M_leave_76 rfl (lv_at hl 0 rfl) ?_
        refine lv_iload_n (pc := 77) hx hb d_M_leave_77 rfl (lv_at hl 1 rfl) ?_
        refine nv_icmp_ne (pc := 78) (tgt := 85) (x := gw N st nx j) (y := j) hx hb (by omega) (by omega) d_M_leave_78 (by decide) (fun c_78 => ?_) (fun c_78 => ?_)
        · refine lv_iload_n (pc := 85) hx hb d_M_leave_85 rfl (lv_at hl 0 rfl) ?_
          refine pM_tok (pc := 86) hx hb hts hown hK hP hD hS (some (gw N st nx j)) d_M_leave_86 (fun H locs hP hD hS => ?_)
          refine lv_iconst (pc := 89) (v := (nI 0)) hx hb d_M_leave_89 (by decide) ?_
          exact retI ((upN st j 1), (lvM N j (gw N st nx j) (upN nx j (gw N st nx j))), fr, mn, rc, (some (gw N st nx j)), false) hx hb hr hlk hK hP hD hS (by simp [M_leave, c_78]) d_M_leave_90
        · refine lv_iconst (pc := 81) (v := (tv none)) hx hb d_M_leave_81 (by decide) ?_
          refine lv_goto (pc := 82) (tgt := 86) hx hb d_M_leave_82 (by decide) ?_
          refine pM_tok (pc := 86) hx hb hts hown hK hP hD hS none d_M_leave_86 (fun H locs hP hD hS => ?_)
          refine lv_iconst (pc := 89) (v := (nI 0)) hx hb d_M_leave_89 (by decide) ?_
          exact retI ((upN st j 1), (lvM N j (gw N st nx j) (upN nx j (gw N st nx j))), fr, mn, rc, none, false) hx hb hr hlk hK hP hD hS (by simp [M_leave, c_78]) d_M_leave_90
      · refine lv_aload_n (pc := 0) hx hb d_M_leave_0 rfl (lv_at hl 0 rfl) ?_
        refine gM (pc := 1) hx hb hts hown hK hP 7 (v := .int (nI k)) rfl (by decide) tw_143 d_M_leave_1 ?_
        refine nv_if_ltN (pc := 4) (tgt := 15) (x := k) hx hb (by omega) d_M_leave_4 (by decide) ?_
        refine lv_aload_n (pc := 7) hx hb d_M_leave_7 rfl (lv_at hl 0 rfl) ?_
        refine gM (pc := 8) hx hb hts hown hK hP 7 (v := .int (nI k)) rfl (by decide) tw_143 d_M_leave_8 ?_
        refine lv_iload_n (pc := 11) hx hb d_M_leave_11 rfl (lv_at hl 1 rfl) ?_
        refine nv_icmp_eq (pc := 12) (tgt := 17) (x := k) (y := j) hx hb (by omega) (by omega) d_M_leave_12 (by decide) (fun c_12 => absurd c_12 (fun z => hjk z.symm)) (fun c_12 => ?_)
        refine lv_iconst (pc := 15) (v := (nI 1)) hx hb d_M_leave_15 (by decide) ?_
        exact retI (st, nx, fr, mn, rc, (some k), us) hx hb hr hlk hK hP hD hS (by simp [M_leave, hjk]) d_M_leave_16
end
section
/-- one below n, or -1 -/
def pv : Nat → Int32 | 0 => -1 | n + 1 => nI n
theorem pv_dec (n : Nat) : nI n + Int32.ofInt (-1) = pv n := by
  cases n with
  | zero => decide
  | succ n => exact pk_m1 n
theorem pv_N {N : Nat} (hN : 2 ≤ N) : nI (N - 1) = pv N := by
  obtain ⟨q, rfl⟩ : ∃ q, N = q + 1 := ⟨N - 1, by omega⟩
  rfl
set_option maxHeartbeats 4000000 in
set_option maxRecDepth 100000 in
theorem lp_X_highest {p : Program} {l : Launch} {e : Env} {R : Room} {s : State} {m : MethodId} {args : Array Value} {below : List Frame} {meth : Method} {c : Code} {A : Nat → Prop} {Q : State → Prop} {ret : Option FieldType} {D : va_G} {cA : ClassId} {h : Nat → Nat} {N C : Nat} {st nx : Nat → Nat} {fr : Nat → Int32} {fi mn : Nat → Nat} {rc : Nat → Int32} {tk : Option Nat} {us : Bool} {L : Nat} {o : Option Nat} (hN : 2 ≤ N ∧ N ≤ 16) (hst : ∀ j, st j ≤ 3) (hL : L < 2 ^ 31) (B : Ctx p s m args meth c b_X_highest 3 ret R_X D cA A)
    (kk : ∀ (H : Heap) (locs : List Loc) (ls : Array Slot), va_P D classes (wX cA h N C (st, nx, fr, fi, mn, rc, tk, us)) H → va_D A (wX cA h N C (st, nx, fr, fi, mn, rc, tk, us)) → va_S A s.heap H locs → lv_has ls 3 [(2, .int (tv o)), (1, .int (nI L)), (0, .ref (h 0))] → W p l e R s m args below meth c H locs 0 0 Q (F0 m 27 ls [])) :
    ∀ (n : Nat) (H : Heap) (locs : List Loc) (ls : Array Slot), n ≤ N → hg (geq L st) n = o → va_P D classes (wX cA h N C (st, nx, fr, fi, mn, rc, tk, us)) H → va_D A (wX cA h N C (st, nx, fr, fi, mn, rc, tk, us)) → va_S A s.heap H locs → lv_has ls 3 [(2, .int (pv n)), (1, .int (nI L)), (0, .ref (h 0))] → W p l e R s m args below meth c H locs 0 0 Q (F0 m 7 ls []) := by
  obtain ⟨hx, hb, hr, hlk, hml, hown, hts, hK, hA⟩ := B
  intro n
  induction n with
  | zero =>
    intro H locs ls hn hw0 hP hD hS hl
    have hl : lv_has ls 3 [(2, .int (-1)), (1, .int (nI L)), (0, .ref (h 0))] := hl
    have eo : none = o := hw0
    subst eo
    refine lv_iload_n (pc := 7) hx hb d_X_highest_7 rfl (lv_at hl 0 rfl) ?_
    refine nv_if_ltM (pc := 8) (tgt := 27) hx hb d_X_highest_8 (by decide) ?_
    exact kk H locs ls hP hD hS (lv_sub hl [0, 1, 2] rfl)
  | succ n ih =>
    intro H locs ls hn hw0 hP hD hS hl
    have hl : lv_has ls 3 [(2, .int (nI n)), (1, .int (nI L)), (0, .ref (h 0))] := hl
    refine lv_iload_n (pc := 7) hx hb d_X_highest_7 rfl (lv_at hl 0 rfl) ?_
    refine nv_if_ltN (pc := 8) (tgt := 27) (x := n) hx hb (by omega) d_X_highest_8 (by decide) ?_
    refine lv_aload_n (pc := 11) hx hb d_X_highest_11 rfl (lv_at hl 2 rfl) ?_
    refine gX (pc := 12) hx hb hts hown hK hP 2 (v := .ref (h 1)) rfl (by decide) tw_13 d_X_highest_12 ?_
    refine lv_iload_n (pc := 15) hx hb d_X_highest_15 rfl (lv_at hl 0 rfl) ?_
    refine nv_ald (pc := 16) (f := st) (j := n) (v := st n) hx hb hK hP 1 rfl (by omega) (by decide) rfl d_X_highest_16 ?_
    refine lv_iload_n (pc := 17) hx hb d_X_highest_17 rfl (lv_at hl 1 rfl) ?_
    refine nv_icmp_ge (pc := 18) (tgt := 27) (x := st n) (y := L) hx hb (by have := hst n; omega) (by omega) d_X_highest_18 (by decide) (fun c_18 => ?_) (fun c_18 => ?_)
    · rw [hg_y (by simpa using c_18)] at hw0
      subst hw0
      exact kk H locs ls hP hD hS (lv_sub hl [0, 1, 2] rfl)
    · refine lv_iinc (pc := 21) (v := pv n) (lv' := [(2, .int (pv n)), (1, .int (nI L)), (0, .ref (h 0))]) hx hb d_X_highest_21 hl (k := 0) rfl (pv_dec n) (by decide) rfl (fun ls hl => ?_)
      refine lv_goto (pc := 24) (tgt := 7) hx hb d_X_highest_24 (by decide) ?_
      exact ih H locs ls (by omega) ((hg_n (by simpa using c_18)).symm.trans hw0) hP hD hS hl
set_option maxHeartbeats 4000000 in
set_option maxRecDepth 100000 in
/-- highest -/
theorem c_X_highest (l : Launch) (D : va_G) (cA : ClassId) (h : Nat → Nat) (sz N C : Nat) (st nx : Nat → Nat) (fr : Nat → Int32) (fi mn : Nat → Nat) (rc : Nat → Int32) (tk : Option Nat) (us : Bool) (L : Nat) (hN : 2 ≤ N ∧ N ≤ 16) (hst : ∀ j, st j ≤ 3) (hL : L < 2 ^ 31) : MetI l y_X_highest b_X_highest 3 (some .int) rq0 D cA (h 0) [.int (nI L)] (wX cA h N C (st, nx, fr, fi, mn, rc, tk, us)) (wX cA h N C) (fun r u => r = tv (hg (geq L st) N) ∧ u = (st, nx, fr, fi, mn, rc, tk, us)) sz := by
  refine metI (own := R_X) (by decide) rfl (Nat.le_of_ble_eq_true rfl) ?_
  intro p e s m below meth c A ls H locs B hP hD hS hl
  obtain ⟨hx, hb, hr, hlk, hml, hown, hts, hK, hA⟩ := B
  have hl : lv_has ls 3 [(0, .ref (h 0)), (1, .int (nI L))] := hl
  refine lv_aload_n (pc := 0) hx hb d_X_highest_0 rfl (lv_at hl 0 rfl) ?_
  refine gX (pc := 1) hx hb hts hown hK hP 0 (v := .int (nI N)) rfl (by decide) tw_11 d_X_highest_1 ?_
  refine lv_iconst (pc := 4) (v := (nI 1)) hx hb d_X_highest_4 (by decide) ?_
  refine nv_isub (pc := 5) (x := N) (y := 1) hx hb (by omega) d_X_highest_5 ?_
  refine lv_istore_n (pc := 6) (lv' := [(2, .int (nI (N - 1))), (0, .ref (h 0)), (1, .int (nI L))]) hx hb d_X_highest_6 rfl hl (by decide) rfl (fun ls hl => ?_)
  rw [pv_N hN.1] at hl
  refine lp_X_highest (N := N) (C := C) (st := st) (nx := nx) (fr := fr) (fi := fi) (mn := mn) (rc := rc) (tk := tk) (us := us) (L := L) (o := hg (geq L st) N) hN hst hL ⟨hx, hb, hr, hlk, hml, hown, hts, hK, hA⟩ (fun H locs ls hP hD hS hl => ?_) N H locs ls (Nat.le_refl N) rfl hP hD hS (lv_sub hl [0, 2, 1] rfl)
  refine lv_iload_n (pc := 27) hx hb d_X_highest_27 rfl (lv_at hl 0 rfl) ?_
  exact retI (st, nx, fr, fi, mn, rc, tk, us) hx hb hr hlk hK hP hD hS (⟨rfl, rfl⟩) d_X_highest_28
set_option maxHeartbeats 4000000 in
set_option maxRecDepth 100000 in
/-- silence -/
theorem c_X_silence (l : Launch) (D : va_G) (cA : ClassId) (h : Nat → Nat) (sz N C : Nat) (st nx : Nat → Nat) (fr : Nat → Int32) (fi mn : Nat → Nat) (rc : Nat → Int32) (tk : Option Nat) (us : Bool) (hN : 2 ≤ N ∧ N ≤ 16) (hst : ∀ j, st j ≤ 3) (htk : ∀ k, tk = some k → k < N) : MetI l y_X_silence b_X_silence 2 (some .int) rq1 D cA (h 0) [] (wX cA h N C (st, nx, fr, fi, mn, rc, tk, us)) (wX cA h N C) (fun r u => (r, u) = X_silence N st nx fr fi mn rc tk us) sz := by
  refine metI (own := R_X) (by decide) rfl (Nat.le_of_ble_eq_true rfl) ?_
  intro p e s m below meth c A ls H locs B hP hD hS hl
  obtain ⟨hx, hb, hr, hlk, hml, hown, hts, hK, hA⟩ := B
  have hl : lv_has ls 2 [(0, .ref (h 0))] := hl
  cases tk with
  | some k =>
    have hk := htk k rfl
    refine lv_aload_n (pc := 0) hx hb d_X_silence_0 rfl (lv_at hl 0 rfl) ?_
    refine gX (pc := 1) hx hb hts hown hK hP 8 (v := .int (nI k)) rfl (by decide) tw_19 d_X_silence_1 ?_
    refine nv_if_ltN (pc := 4) (tgt := 9) (x := k) hx hb (by omega) d_X_silence_4 (by decide) ?_
    refine lv_iconst (pc := 7) (v := -1) hx hb d_X_silence_7 (by decide) ?_
    exact retI (st, nx, fr, fi, mn, rc, (some k), us) hx hb hr hlk hK hP hD hS (rfl) d_X_silence_8
  | none =>
    refine lv_aload_n (pc := 0) hx hb d_X_silence_0 rfl (lv_at hl 0 rfl) ?_
    refine gX (pc := 1) hx hb hts hown hK hP 8 (v := .int (-1)) rfl (by decide) tw_19 d_X_silence_1 ?_
    refine nv_if_ltM (pc := 4) (tgt := 9) hx hb d_X_silence_4 (by decide) ?_
    refine lv_aload_n (pc := 9) hx hb d_X_silence_9 rfl (lv_at hl 0 rfl) ?_
    refine lv_iconst (pc := 10) (v := (nI 3)) hx hb d_X_silence_10 (by decide) ?_
    refine cllI (pc := 11) (As := [.int (nI 3)]) (rest := []) (wr := []) hx hb hml hown hts hK hP hD hS hA hl.1 (c_X_highest l D cA h H.size N C st nx fr fi mn rc none us 3 hN hst (by decide)) [0, 1, 2, 3, 4, 5, 6] [] rfl rfl (by decide) (by decide) (by decide) rfl rfl rfl (goodV tw_99 tw_101 ts_X_highest tw_1 tw_102) (na := 1) (by decide +kernel) rfl ⟨rfl, rfl, Nat.le_of_ble_eq_true rfl, Nat.le_of_ble_eq_true rfl⟩ (Nat.le_of_ble_eq_true rfl) ⟨Nat.zero_le _, Nat.zero_le _⟩ rfl d_X_silence_11 (fun r u H locs hw hP hD hS => ?_)
    obtain ⟨rfl, rfl⟩ := hw
    have hP : va_P D classes (wX cA h N C (st, nx, fr, fi, mn, rc, none, us)) H := hP
    have hD : va_D A (wX cA h N C (st, nx, fr, fi, mn, rc, none, us)) := hD
    cases hm : hg (geq 3 st) N with
    | none =>
      refine lv_istore_n (pc := 14) (lv' := [(1, .int (tv none)), (0, .ref (h 0))]) hx hb d_X_silence_14 rfl hl (by decide) rfl (fun ls hl => ?_)
      refine lv_iload_n (pc := 15) hx hb d_X_silence_15 rfl (lv_at hl 0 rfl) ?_
      refine nv_if_geM (pc := 16) (tgt := 45) hx hb d_X_silence_16 (by decide) ?_
      refine lv_aload_n (pc := 19) hx hb d_X_silence_19 rfl (lv_at hl 1 rfl) ?_
      refine lv_iconst (pc := 20) (v := (nI 1)) hx hb d_X_silence_20 (by decide) ?_
      refine cllI (pc := 21) (As := [.int (nI 1)]) (rest := []) (wr := []) hx hb hml hown hts hK hP hD hS hA hl.1 (c_X_highest l D cA h H.size N C st nx fr fi mn rc none us 1 hN hst (by decide)) [0, 1, 2, 3, 4, 5, 6] [] rfl rfl (by decide) (by decide) (by decide) rfl rfl rfl (goodV tw_99 tw_101 ts_X_highest tw_1 tw_102) (na := 1) (by decide +kernel) rfl ⟨rfl, rfl, Nat.le_of_ble_eq_true rfl, Nat.le_of_ble_eq_true rfl⟩ (Nat.le_of_ble_eq_true rfl) ⟨Nat.zero_le _, Nat.zero_le _⟩ rfl d_X_silence_21 (fun r u H locs hw hP hD hS => ?_)
      obtain ⟨rfl, rfl⟩ := hw
      have hP : va_P D classes (wX cA h N C (st, nx, fr, fi, mn, rc, none, us)) H := hP
      have hD : va_D A (wX cA h N C (st, nx, fr, fi, mn, rc, none, us)) := hD
      cases ho : hg (geq 1 st) N with
      | none =>
        refine lv_istore_n (pc := 24) (lv' := [(1, .int (tv none)), (0, .ref (h 0))]) hx hb d_X_silence_24 rfl hl (by decide) rfl (fun ls hl => ?_)
        refine lv_iload_n (pc := 25) hx hb d_X_silence_25 rfl (lv_at hl 0 rfl) ?_
        refine nv_if_geM (pc := 26) (tgt := 31) hx hb d_X_silence_26 (by decide) ?_
        refine lv_iconst (pc := 29) (v := -1) hx hb d_X_silence_29 (by decide) ?_
        exact retI (st, nx, fr, fi, mn, rc, none, us) hx hb hr hlk hK hP hD hS (by simp [X_silence, hm, ho, tv]) d_X_silence_30
      | some q =>
        obtain ⟨hq, -⟩ := hg_ok _ _ ho
        refine lv_istore_n (pc := 24) (lv' := [(1, .int (nI q)), (0, .ref (h 0))]) hx hb d_X_silence_24 rfl hl (by decide) rfl (fun ls hl => ?_)
        refine lv_iload_n (pc := 25) hx hb d_X_silence_25 rfl (lv_at hl 0 rfl) ?_
        refine nv_if_geN (pc := 26) (tgt := 31) (x := q) hx hb (by omega) d_X_silence_26 (by decide) ?_
        refine lv_aload_n (pc := 31) hx hb d_X_silence_31 rfl (lv_at hl 1 rfl) ?_
        refine gX (pc := 32) hx hb hts hown hK hP 2 (v := .ref (h 1)) rfl (by decide) tw_13 d_X_silence_32 ?_
        refine lv_iload_n (pc := 35) hx hb d_X_silence_35 rfl (lv_at hl 0 rfl) ?_
        refine lv_iconst (pc := 36) (v := (nI 3)) hx hb d_X_silence_36 (by decide) ?_
        refine nv_ast (pc := 37) (f := st) (j := q) (v := 3) hx hb hK hP hD hS 1 rfl (upN st q 3) (by omega) (by decide) rfl d_X_silence_37 (fun H locs hP hD hS => ?_)
        have hP : va_P D classes (wX cA h N C ((upN st q 3), nx, fr, fi, mn, rc, none, us)) H := hP
        have hD : va_D A (wX cA h N C ((upN st q 3), nx, fr, fi, mn, rc, none, us)) := hD
        refine lv_aload_n (pc := 38) hx hb d_X_silence_38 rfl (lv_at hl 1 rfl) ?_
        refine gX (pc := 39) hx hb hts hown hK hP 3 (v := .ref (h 2)) rfl (by decide) tw_14 d_X_silence_39 ?_
        refine lv_iload_n (pc := 42) hx hb d_X_silence_42 rfl (lv_at hl 0 rfl) ?_
        refine lv_iload_n (pc := 43) hx hb d_X_silence_43 rfl (lv_at hl 0 rfl) ?_
        refine nv_ast (pc := 44) (f := nx) (j := q) (v := q) hx hb hK hP hD hS 2 rfl (upN nx q q) (by omega) (by decide) rfl d_X_silence_44 (fun H locs hP hD hS => ?_)
        have hP : va_P D classes (wX cA h N C ((upN st q 3), (upN nx q q), fr, fi, mn, rc, none, us)) H := hP
        have hD : va_D A (wX cA h N C ((upN st q 3), (upN nx q q), fr, fi, mn, rc, none, us)) := hD
        refine lv_aload_n (pc := 45) hx hb d_X_silence_45 rfl (lv_at hl 1 rfl) ?_
        refine lv_iload_n (pc := 46) hx hb d_X_silence_46 rfl (lv_at hl 0 rfl) ?_
        refine cllV (pc := 47) (As := [.int (nI q)]) (rest := []) (wr := []) hx hb hml hown hts hK hP hD hS hA hl.1 (c_X_come l D cA h H.size N C (upN st q 3) (upN nx q q) fr fi mn rc none us q) [0, 1, 2, 3, 4, 5, 6] [] rfl rfl (by decide) (by decide) (by decide) rfl rfl rfl (goodV tw_83 tw_85 ts_X_come tw_1 tw_86) (na := 1) (by decide +kernel) rfl ⟨rfl, rfl, Nat.le_of_ble_eq_true rfl, Nat.le_of_ble_eq_true rfl⟩ (Nat.le_of_ble_eq_true rfl) ⟨Nat.zero_le _, Nat.zero_le _⟩ rfl d_X_silence_47 (fun u H locs hw hP hD hS => ?_)
        obtain rfl := hw
        have hP : va_P D classes (wX cA h N C ((upN st q 3), (upN nx q q), fr, fi, mn, rc, (some q), false)) H := hP
        have hD : va_D A (wX cA h N C ((upN st q 3), (upN nx q q), fr, fi, mn, rc, (some q), false)) := hD
        refine lv_iload_n (pc := 50) hx hb d_X_silence_50 rfl (lv_at hl 0 rfl) ?_
        exact retI ((upN st q 3), (upN nx q q), fr, fi, mn, rc, (some q), false) hx hb hr hlk hK hP hD hS (by simp [X_silence, hm, ho, tv]) d_X_silence_51
    | some q =>
      obtain ⟨hq, -⟩ := hg_ok _ _ hm
      refine lv_istore_n (pc := 14) (lv' := [(1, .int (nI q)), (0, .ref (h 0))]) hx hb d_X_silence_14 rfl hl (by decide) rfl (fun ls hl => ?_)
      refine lv_iload_n (pc := 15) hx hb d_X_silence_15 rfl (lv_at hl 0 rfl) ?_
      refine nv_if_geN (pc := 16) (tgt := 45) (x := q) hx hb (by omega) d_X_silence_16 (by decide) ?_
      refine lv_aload_n (pc := 45) hx hb d_X_silence_45 rfl (lv_at hl 1 rfl) ?_
      refine lv_iload_n (pc := 46) hx hb d_X_silence_46 rfl (lv_at hl 0 rfl) ?_
      refine cllV (pc := 47) (As := [.int (nI q)]) (rest := []) (wr := []) hx hb hml hown hts hK hP hD hS hA hl.1 (c_X_come l D cA h H.size N C st nx fr fi mn rc none us q) [0, 1, 2, 3, 4, 5, 6] [] rfl rfl (by decide) (by decide) (by decide) rfl rfl rfl (goodV tw_83 tw_85 ts_X_come tw_1 tw_86) (na := 1) (by decide +kernel) rfl ⟨rfl, rfl, Nat.le_of_ble_eq_true rfl, Nat.le_of_ble_eq_true rfl⟩ (Nat.le_of_ble_eq_true rfl) ⟨Nat.zero_le _, Nat.zero_le _⟩ rfl d_X_silence_47 (fun u H locs hw hP hD hS => ?_)
      obtain rfl := hw
      have hP : va_P D classes (wX cA h N C (st, nx, fr, fi, mn, rc, (some q), false)) H := hP
      have hD : va_D A (wX cA h N C (st, nx, fr, fi, mn, rc, (some q), false)) := hD
      refine lv_iload_n (pc := 50) hx hb d_X_silence_50 rfl (lv_at hl 0 rfl) ?_
      exact retI (st, nx, fr, fi, mn, rc, (some q), false) hx hb hr hlk hK hP hD hS (by simp [X_silence, hm, tv]) d_X_silence_51
set_option maxHeartbeats 4000000 in
set_option maxRecDepth 100000 in
theorem lp_M_silence {p : Program} {l : Launch} {e : Env} {R : Room} {s : State} {m : MethodId} {args : Array Value} {below : List Frame} {meth : Method} {c : Code} {A : Nat → Prop} {Q : State → Prop} {ret : Option FieldType} {D : va_G} {cA : ClassId} {h : Nat → Nat} {N C : Nat} {st nx : Nat → Nat} {fr : Nat → Int32} {mn : Nat → Nat} {rc : Nat → Int32} {tk : Option Nat} {us : Bool} (hN : 2 ≤ N ∧ N ≤ 16) (hst : ∀ j, st j ≤ 3) (B : Ctx p s m args meth c b_M_silence 4 ret R_M D cA A)
    (kk : ∀ (H : Heap) (locs : List Loc) (ls : Array Slot), va_P D classes (wM cA h N C (st, nx, fr, mn, rc, tk, us)) H → va_D A (wM cA h N C (st, nx, fr, mn, rc, tk, us)) → va_S A s.heap H locs → lv_has ls 4 [(2, .int (tv (hg (onB st) N))), (1, .int (tv (hg (mem st) N))), (0, .ref (h 0))] → W p l e R s m args below meth c H locs 0 0 Q (F0 m 60 ls [])) :
    ∀ (n i : Nat) (H : Heap) (locs : List Loc) (ls : Array Slot), i ≤ N → N < i + n → va_P D classes (wM cA h N C (st, nx, fr, mn, rc, tk, us)) H → va_D A (wM cA h N C (st, nx, fr, mn, rc, tk, us)) → va_S A s.heap H locs → lv_has ls 4 [(3, .int (nI i)), (2, .int (tv (hg (onB st) i))), (1, .int (tv (hg (mem st) i))), (0, .ref (h 0))] → W p l e R s m args below meth c H locs 0 0 Q (F0 m 15 ls []) := by
  obtain ⟨hx, hb, hr, hlk, hml, hown, hts, hK, hA⟩ := B
  intro n
  induction n with
  | zero =>
    intro i H locs ls h1 h2 hP hD hS hl
    exact absurd h2 (by omega)
  | succ n ih =>
    intro i H locs ls h1 h2 hP hD hS hl
    refine lv_iload_n (pc := 15) hx hb d_M_silence_15 rfl (lv_at hl 0 rfl) ?_
    refine lv_aload_n (pc := 16) hx hb d_M_silence_16 rfl (lv_at hl 3 rfl) ?_
    refine gM (pc := 17) hx hb hts hown hK hP 0 (v := .int (nI N)) rfl (by decide) tw_136 d_M_silence_17 ?_
    refine nv_icmp_ge (pc := 20) (tgt := 60) (x := i) (y := N) hx hb (by omega) (by omega) d_M_silence_20 (by decide) (fun c_20 => ?_) (fun c_20 => ?_)
    · have ei : i = N := by omega
      rw [ei] at hl
      exact kk H locs ls hP hD hS (lv_sub hl [1, 2, 3] rfl)
    · refine lv_aload_n (pc := 23) hx hb d_M_silence_23 rfl (lv_at hl 3 rfl) ?_
      refine gM (pc := 24) hx hb hts hown hK hP 2 (v := .ref (h 1)) rfl (by decide) tw_138 d_M_silence_24 ?_
      refine lv_iload_n (pc := 27) hx hb d_M_silence_27 rfl (lv_at hl 0 rfl) ?_
      refine nv_ald (pc := 28) (f := st) (j := i) (v := st i) hx hb hK hP 1 rfl (by omega) (by decide) rfl d_M_silence_28 ?_
      refine lv_iconst (pc := 29) (v := (nI 3)) hx hb d_M_silence_29 (by decide) ?_
      refine nv_icmp_ne (pc := 30) (tgt := 37) (x := st i) (y := 3) hx hb (by have := hst i; omega) (by decide) d_M_silence_30 (by decide) (fun c_30 => ?_) (fun c_30 => ?_)
      · refine lv_iload_n (pc := 37) hx hb d_M_silence_37 rfl (lv_at hl 2 rfl) ?_
        refine lv_istore_n (pc := 38) (lv' := [(1, .int (tv (hg (mem st) i))), (3, .int (nI i)), (2, .int (tv (hg (onB st) i))), (0, .ref (h 0))]) hx hb d_M_silence_38 rfl hl (by decide) rfl (fun ls hl => ?_)
        refine lv_aload_n (pc := 39) hx hb d_M_silence_39 rfl (lv_at hl 3 rfl) ?_
        refine gM (pc := 40) hx hb hts hown hK hP 2 (v := .ref (h 1)) rfl (by decide) tw_138 d_M_silence_40 ?_
        refine lv_iload_n (pc := 43) hx hb d_M_silence_43 rfl (lv_at hl 1 rfl) ?_
        refine nv_ald (pc := 44) (f := st) (j := i) (v := st i) hx hb hK hP 1 rfl (by omega) (by decide) rfl d_M_silence_44 ?_
        refine nv_if_eq (pc := 45) (tgt := 52) (x := st i) hx hb (by have := hst i; omega) d_M_silence_45 (by decide) (fun c_45 => ?_) (fun c_45 => ?_)
        · refine lv_iload_n (pc := 52) hx hb d_M_silence_52 rfl (lv_at hl 2 rfl) ?_
          refine lv_istore_n (pc := 53) (lv' := [(2, .int (tv (hg (onB st) i))), (1, .int (tv (hg (mem st) i))), (3, .int (nI i)), (0, .ref (h 0))]) hx hb d_M_silence_53 rfl hl (by decide) rfl (fun ls hl => ?_)
          refine nv_iinc (pc := 54) (k := 2) hx hb [(3, .int (nI (i + 1))), (2, .int (tv (hg (onB st) i))), (1, .int (tv (hg (mem st) i))), (0, .ref (h 0))] d_M_silence_54 hl rfl (by decide) rfl (fun ls hl => ?_)
          refine lv_goto (pc := 57) (tgt := 15) hx hb d_M_silence_57 (by decide) ?_
          exact ih (i + 1) H locs ls (by omega) (by omega) hP hD hS (by rw [hg_n (P := mem st) (n := i) (by simpa using c_30), hg_n (P := onB st) (n := i) (by simpa using c_45)]; exact lv_sub hl [0, 1, 2, 3] rfl)
        · refine lv_iload_n (pc := 48) hx hb d_M_silence_48 rfl (lv_at hl 1 rfl) ?_
          refine lv_goto (pc := 49) (tgt := 53) hx hb d_M_silence_49 (by decide) ?_
          refine lv_istore_n (pc := 53) (lv' := [(2, .int (nI i)), (1, .int (tv (hg (mem st) i))), (3, .int (nI i)), (0, .ref (h 0))]) hx hb d_M_silence_53 rfl hl (by decide) rfl (fun ls hl => ?_)
          refine nv_iinc (pc := 54) (k := 2) hx hb [(3, .int (nI (i + 1))), (2, .int (nI i)), (1, .int (tv (hg (mem st) i))), (0, .ref (h 0))] d_M_silence_54 hl rfl (by decide) rfl (fun ls hl => ?_)
          refine lv_goto (pc := 57) (tgt := 15) hx hb d_M_silence_57 (by decide) ?_
          exact ih (i + 1) H locs ls (by omega) (by omega) hP hD hS (by rw [hg_n (P := mem st) (n := i) (by simpa using c_30), hg_y (P := onB st) (n := i) (by simpa using c_45)]; exact lv_sub hl [0, 1, 2, 3] rfl)
      · refine lv_iload_n (pc := 33) hx hb d_M_silence_33 rfl (lv_at hl 0 rfl) ?_
        refine lv_goto (pc := 34) (tgt := 38) hx hb d_M_silence_34 (by decide) ?_
        refine lv_istore_n (pc := 38) (lv' := [(1, .int (nI i)), (3, .int (nI i)), (2, .int (tv (hg (onB st) i))), (0, .ref (h 0))]) hx hb d_M_silence_38 rfl hl (by decide) rfl (fun ls hl => ?_)
        refine lv_aload_n (pc := 39) hx hb d_M_silence_39 rfl (lv_at hl 3 rfl) ?_
        refine gM (pc := 40) hx hb hts hown hK hP 2 (v := .ref (h 1)) rfl (by decide) tw_138 d_M_silence_40 ?_
        refine lv_iload_n (pc := 43) hx hb d_M_silence_43 rfl (lv_at hl 1 rfl) ?_
        refine nv_ald (pc := 44) (f := st) (j := i) (v := st i) hx hb hK hP 1 rfl (by omega) (by decide) rfl d_M_silence_44 ?_
        refine nv_if_eq (pc := 45) (tgt := 52) (x := st i) hx hb (by have := hst i; omega) d_M_silence_45 (by decide) (fun c_45 => ?_) (fun c_45 => ?_)
        · refine lv_iload_n (pc := 52) hx hb d_M_silence_52 rfl (lv_at hl 2 rfl) ?_
          refine lv_istore_n (pc := 53) (lv' := [(2, .int (tv (hg (onB st) i))), (1, .int (nI i)), (3, .int (nI i)), (0, .ref (h 0))]) hx hb d_M_silence_53 rfl hl (by decide) rfl (fun ls hl => ?_)
          refine nv_iinc (pc := 54) (k := 2) hx hb [(3, .int (nI (i + 1))), (2, .int (tv (hg (onB st) i))), (1, .int (nI i)), (0, .ref (h 0))] d_M_silence_54 hl rfl (by decide) rfl (fun ls hl => ?_)
          refine lv_goto (pc := 57) (tgt := 15) hx hb d_M_silence_57 (by decide) ?_
          exact ih (i + 1) H locs ls (by omega) (by omega) hP hD hS (by rw [hg_y (P := mem st) (n := i) (by simpa using c_30), hg_n (P := onB st) (n := i) (by simpa using c_45)]; exact lv_sub hl [0, 1, 2, 3] rfl)
        · refine lv_iload_n (pc := 48) hx hb d_M_silence_48 rfl (lv_at hl 1 rfl) ?_
          refine lv_goto (pc := 49) (tgt := 53) hx hb d_M_silence_49 (by decide) ?_
          refine lv_istore_n (pc := 53) (lv' := [(2, .int (nI i)), (1, .int (nI i)), (3, .int (nI i)), (0, .ref (h 0))]) hx hb d_M_silence_53 rfl hl (by decide) rfl (fun ls hl => ?_)
          refine nv_iinc (pc := 54) (k := 2) hx hb [(3, .int (nI (i + 1))), (2, .int (nI i)), (1, .int (nI i)), (0, .ref (h 0))] d_M_silence_54 hl rfl (by decide) rfl (fun ls hl => ?_)
          refine lv_goto (pc := 57) (tgt := 15) hx hb d_M_silence_57 (by decide) ?_
          exact ih (i + 1) H locs ls (by omega) (by omega) hP hD hS (by rw [hg_y (P := mem st) (n := i) (by simpa using c_30), hg_y (P := onB st) (n := i) (by simpa using c_45)]; exact lv_sub hl [0, 1, 2, 3] rfl)
set_option maxHeartbeats 4000000 in
set_option maxRecDepth 100000 in
/-- silence -/
theorem c_M_silence (l : Launch) (D : va_G) (cA : ClassId) (h : Nat → Nat) (sz N C : Nat) (st nx : Nat → Nat) (fr : Nat → Int32) (mn : Nat → Nat) (rc : Nat → Int32) (tk : Option Nat) (us : Bool) (hN : 2 ≤ N ∧ N ≤ 16) (hst : ∀ j, st j ≤ 3) (htk : ∀ k, tk = some k → k < N) : MetI l y_M_silence b_M_silence 4 (some .int) rq0 D cA (h 0) [] (wM cA h N C (st, nx, fr, mn, rc, tk, us)) (wM cA h N C) (fun r u => (r, u) = M_silence N st nx fr mn rc tk us) sz := by
  refine metI (own := R_M) (by decide) rfl (Nat.le_of_ble_eq_true rfl) ?_
  intro p e s m below meth c A ls H locs B hP hD hS hl
  obtain ⟨hx, hb, hr, hlk, hml, hown, hts, hK, hA⟩ := B
  have hl : lv_has ls 4 [(0, .ref (h 0))] := hl
  cases tk with
  | some k =>
    have hk := htk k rfl
    refine lv_aload_n (pc := 0) hx hb d_M_silence_0 rfl (lv_at hl 0 rfl) ?_
    refine gM (pc := 1) hx hb hts hown hK hP 7 (v := .int (nI k)) rfl (by decide) tw_143 d_M_silence_1 ?_
    refine nv_if_ltN (pc := 4) (tgt := 9) (x := k) hx hb (by omega) d_M_silence_4 (by decide) ?_
    refine lv_iconst (pc := 7) (v := -1) hx hb d_M_silence_7 (by decide) ?_
    exact retI (st, nx, fr, mn, rc, (some k), us) hx hb hr hlk hK hP hD hS (rfl) d_M_silence_8
  | none =>
    refine lv_aload_n (pc := 0) hx hb d_M_silence_0 rfl (lv_at hl 0 rfl) ?_
    refine gM (pc := 1) hx hb hts hown hK hP 7 (v := .int (-1)) rfl (by decide) tw_143 d_M_silence_1 ?_
    refine nv_if_ltM (pc := 4) (tgt := 9) hx hb d_M_silence_4 (by decide) ?_
    refine lv_iconst (pc := 9) (v := (tv none)) hx hb d_M_silence_9 (by decide) ?_
    refine lv_istore_n (pc := 10) (lv' := [(1, .int (tv none)), (0, .ref (h 0))]) hx hb d_M_silence_10 rfl hl (by decide) rfl (fun ls hl => ?_)
    refine lv_iconst (pc := 11) (v := (tv none)) hx hb d_M_silence_11 (by decide) ?_
    refine lv_istore_n (pc := 12) (lv' := [(2, .int (tv none)), (1, .int (tv none)), (0, .ref (h 0))]) hx hb d_M_silence_12 rfl hl (by decide) rfl (fun ls hl => ?_)
    refine lv_iconst (pc := 13) (v := (nI 0)) hx hb d_M_silence_13 (by decide) ?_
    refine lv_istore_n (pc := 14) (lv' := [(3, .int (nI 0)), (2, .int (tv none)), (1, .int (tv none)), (0, .ref (h 0))]) hx hb d_M_silence_14 rfl hl (by decide) rfl (fun ls hl => ?_)
    refine lp_M_silence (N := N) (C := C) (st := st) (nx := nx) (fr := fr) (mn := mn) (rc := rc) (tk := none) (us := us) hN hst ⟨hx, hb, hr, hlk, hml, hown, hts, hK, hA⟩ (fun H locs ls hP hD hS hl => ?_) (N + 1) 0 H locs ls (by omega) (by omega) hP hD hS (lv_sub hl [0, 1, 2, 3] rfl)
    cases hm : hg (mem st) N with
    | some q =>
      obtain ⟨hq, -⟩ := hg_ok _ _ hm
      rw [hm] at hl
      refine lv_iload_n (pc := 60) hx hb d_M_silence_60 rfl (lv_at hl 1 rfl) ?_
      refine nv_if_geN (pc := 61) (tgt := 84) (x := q) hx hb (by omega) d_M_silence_61 (by decide) ?_
      refine lv_aload_n (pc := 84) hx hb d_M_silence_84 rfl (lv_at hl 2 rfl) ?_
      refine lv_iload_n (pc := 85) hx hb d_M_silence_85 rfl (lv_at hl 1 rfl) ?_
      refine pM_tok (pc := 86) hx hb hts hown hK hP hD hS (some q) d_M_silence_86 (fun H locs hP hD hS => ?_)
      refine lv_aload_n (pc := 89) hx hb d_M_silence_89 rfl (lv_at hl 2 rfl) ?_
      refine lv_iconst (pc := 90) (v := (bv false)) hx hb d_M_silence_90 (by decide) ?_
      refine pM_use (pc := 91) hx hb hts hown hK hP hD hS false d_M_silence_91 (fun H locs hP hD hS => ?_)
      refine lv_iload_n (pc := 94) hx hb d_M_silence_94 rfl (lv_at hl 1 rfl) ?_
      exact retI (st, nx, fr, mn, rc, (some q), false) hx hb hr hlk hK hP hD hS (by simp [M_silence, hm, tv]) d_M_silence_95
    | none =>
      rw [hm] at hl
      cases ho : hg (onB st) N with
      | none =>
        rw [ho] at hl
        refine lv_iload_n (pc := 60) hx hb d_M_silence_60 rfl (lv_at hl 1 rfl) ?_
        refine nv_if_geM (pc := 61) (tgt := 84) hx hb d_M_silence_61 (by decide) ?_
        refine lv_iload_n (pc := 64) hx hb d_M_silence_64 rfl (lv_at hl 0 rfl) ?_
        refine nv_if_ltM (pc := 65) (tgt := 84) hx hb d_M_silence_65 (by decide) ?_
        refine lv_aload_n (pc := 84) hx hb d_M_silence_84 rfl (lv_at hl 2 rfl) ?_
        refine lv_iload_n (pc := 85) hx hb d_M_silence_85 rfl (lv_at hl 1 rfl) ?_
        refine pM_tok (pc := 86) hx hb hts hown hK hP hD hS none d_M_silence_86 (fun H locs hP hD hS => ?_)
        refine lv_aload_n (pc := 89) hx hb d_M_silence_89 rfl (lv_at hl 2 rfl) ?_
        refine lv_iconst (pc := 90) (v := (bv false)) hx hb d_M_silence_90 (by decide) ?_
        refine pM_use (pc := 91) hx hb hts hown hK hP hD hS false d_M_silence_91 (fun H locs hP hD hS => ?_)
        refine lv_iload_n (pc := 94) hx hb d_M_silence_94 rfl (lv_at hl 1 rfl) ?_
        exact retI (st, nx, fr, mn, rc, none, false) hx hb hr hlk hK hP hD hS (by simp [M_silence, hm, ho, tv]) d_M_silence_95
      | some q =>
        rw [ho] at hl
        obtain ⟨hq, -⟩ := hg_ok _ _ ho
        refine lv_iload_n (pc := 60) hx hb d_M_silence_60 rfl (lv_at hl 1 rfl) ?_
        refine nv_if_geM (pc := 61) (tgt := 84) hx hb d_M_silence_61 (by decide) ?_
        refine lv_iload_n (pc := 64) hx hb d_M_silence_64 rfl (lv_at hl 0 rfl) ?_
        refine nv_if_ltN (pc := 65) (tgt := 84) (x := q) hx hb (by omega) d_M_silence_65 (by decide) ?_
        refine lv_aload_n (pc := 68) hx hb d_M_silence_68 rfl (lv_at hl 2 rfl) ?_
        refine gM (pc := 69) hx hb hts hown hK hP 2 (v := .ref (h 1)) rfl (by decide) tw_138 d_M_silence_69 ?_
        refine lv_iload_n (pc := 72) hx hb d_M_silence_72 rfl (lv_at hl 0 rfl) ?_
        refine lv_iconst (pc := 73) (v := (nI 3)) hx hb d_M_silence_73 (by decide) ?_
        refine nv_ast (pc := 74) (f := st) (j := q) (v := 3) hx hb hK hP hD hS 1 rfl (upN st q 3) (by omega) (by decide) rfl d_M_silence_74 (fun H locs hP hD hS => ?_)
        have hP : va_P D classes (wM cA h N C ((upN st q 3), nx, fr, mn, rc, none, us)) H := hP
        have hD : va_D A (wM cA h N C ((upN st q 3), nx, fr, mn, rc, none, us)) := hD
        refine lv_aload_n (pc := 75) hx hb d_M_silence_75 rfl (lv_at hl 2 rfl) ?_
        refine gM (pc := 76) hx hb hts hown hK hP 3 (v := .ref (h 2)) rfl (by decide) tw_139 d_M_silence_76 ?_
        refine lv_iload_n (pc := 79) hx hb d_M_silence_79 rfl (lv_at hl 0 rfl) ?_
        refine lv_iload_n (pc := 80) hx hb d_M_silence_80 rfl (lv_at hl 0 rfl) ?_
        refine nv_ast (pc := 81) (f := nx) (j := q) (v := q) hx hb hK hP hD hS 2 rfl (upN nx q q) (by omega) (by decide) rfl d_M_silence_81 (fun H locs hP hD hS => ?_)
        have hP : va_P D classes (wM cA h N C ((upN st q 3), (upN nx q q), fr, mn, rc, none, us)) H := hP
        have hD : va_D A (wM cA h N C ((upN st q 3), (upN nx q q), fr, mn, rc, none, us)) := hD
        refine lv_iload_n (pc := 82) hx hb d_M_silence_82 rfl (lv_at hl 0 rfl) ?_
        refine lv_istore_n (pc := 83) (lv' := [(1, .int (nI q)), (2, .int (nI q)), (0, .ref (h 0))]) hx hb d_M_silence_83 rfl hl (by decide) rfl (fun ls hl => ?_)
        refine lv_aload_n (pc := 84) hx hb d_M_silence_84 rfl (lv_at hl 2 rfl) ?_
        refine lv_iload_n (pc := 85) hx hb d_M_silence_85 rfl (lv_at hl 0 rfl) ?_
        refine pM_tok (pc := 86) hx hb hts hown hK hP hD hS (some q) d_M_silence_86 (fun H locs hP hD hS => ?_)
        refine lv_aload_n (pc := 89) hx hb d_M_silence_89 rfl (lv_at hl 2 rfl) ?_
        refine lv_iconst (pc := 90) (v := (bv false)) hx hb d_M_silence_90 (by decide) ?_
        refine pM_use (pc := 91) hx hb hts hown hK hP hD hS false d_M_silence_91 (fun H locs hP hD hS => ?_)
        refine lv_iload_n (pc := 94) hx hb d_M_silence_94 rfl (lv_at hl 0 rfl) ?_
        exact retI ((upN st q 3), (upN nx q q), fr, mn, rc, (some q), false) hx hb hr hlk hK hP hD hS (by simp [M_silence, hm, ho, tv]) d_M_silence_95
end
section
theorem newz (n : Nat) (cA : ClassId) : vp_cell cA (n, .inl (fun _ => nI 0)) = arrV cA n (fun _ => defaultValue .int) := by
  rw [vp_cell_i]
  congr 1
/-- the constructor's two numbers -/
def kN (p : Int32) : Nat := if nI 2 ≤ p then (if p ≤ nI 16 then p.toNatClampNeg else 16) else 2
def kC (p : Int32) : Nat := if nI 1 ≤ p then (if p ≤ nI 8 then p.toNatClampNeg else 8) else 1
theorem kmid {p : Int32} {a b : Nat} (hb : b < 2 ^ 31) (ha : a ≤ b) (h1 : nI a ≤ p) (h2 : p ≤ nI b) : p = nI p.toNatClampNeg ∧ a ≤ p.toNatClampNeg ∧ p.toNatClampNeg ≤ b := by
  have h0 : ¬ p < 0 := by
    intro q
    have z : nI a < 0 := Int32.lt_of_le_of_lt h1 q
    exact nI_pos (by omega) z
  obtain ⟨j, hj, rfl⟩ := nI_of h0
  rw [nI_clamp hj]
  exact ⟨rfl, (nI_leI (by omega) hj).mp h1, (nI_leI hj hb).mp h2⟩
theorem kN_lo {p : Int32} (h : ¬ nI 2 ≤ p) : nI 2 = nI (kN p) := by simp [kN, h]
theorem kN_hi {p : Int32} (h : nI 2 ≤ p) (h2 : ¬ p ≤ nI 16) : nI 16 = nI (kN p) := by simp [kN, h, h2]
theorem kN_mid {p : Int32} (h : nI 2 ≤ p) (h2 : p ≤ nI 16) : p = nI (kN p) := by
  simp only [kN, if_pos h, if_pos h2]
  exact (kmid (by decide) (by decide) h h2).1
theorem kC_lo {p : Int32} (h : ¬ nI 1 ≤ p) : nI 1 = nI (kC p) := by simp [kC, h]
theorem kC_hi {p : Int32} (h : nI 1 ≤ p) (h2 : ¬ p ≤ nI 8) : nI 8 = nI (kC p) := by simp [kC, h, h2]
theorem kC_mid {p : Int32} (h : nI 1 ≤ p) (h2 : p ≤ nI 8) : p = nI (kC p) := by
  simp only [kC, if_pos h, if_pos h2]
  exact (kmid (by decide) (by decide) h h2).1
theorem kN_ok (p : Int32) : 2 ≤ kN p ∧ kN p ≤ 16 := by
  simp only [kN]
  split
  · next h =>
    split
    · next h2 => exact (kmid (by decide) (by decide) h h2).2
    · omega
  · omega
theorem kC_ok (p : Int32) : 1 ≤ kC p ∧ kC p ≤ 8 := by
  simp only [kC]
  split
  · next h =>
    split
    · next h2 => exact (kmid (by decide) (by decide) h h2).2
    · omega
  · omega
set_option maxHeartbeats 4000000 in
set_option maxRecDepth 100000 in
theorem X_new_tail {p : Program} {l : Launch} {e : Env} {R : Room} {s : State} {m : MethodId} {args : Array Value} {below : List Frame} {meth : Method} {c : Code} {A : Nat → Prop} {Q : State → Prop} {cells slots : Nat} {ret : Option FieldType} {D : va_G} {cA : ClassId} {h0 q1 q2 q3 q4 q5 q6 : Nat} {p0 p1 : Int32} (hin : meth.name = "<init>") (B : Ctx p s m args meth c b_X_new 3 ret R_X D cA A) {H : Heap} {locs : List Loc} {ls : Array Slot} (hP : va_P D classes [(h0, .inr (0, [.int (nI 0), .int (nI 0), .ref q1, .ref q2, .ref q3, .ref q4, .ref q5, .ref q6, .int (nI 0), .int (bv false)])), (q1, .inl (cA, 16, .inl (fun _ => nI 0))), (q2, .inl (cA, 16, .inl (fun _ => nI 0))), (q3, .inl (cA, 128, .inl (fun _ => nI 0))), (q4, .inl (cA, 16, .inl (fun _ => nI 0))), (q5, .inl (cA, 16, .inl (fun _ => nI 0))), (q6, .inl (cA, 16, .inl (fun _ => nI 0)))] H) (hD : va_D A [(h0, .inr (0, [.int (nI 0), .int (nI 0), .ref q1, .ref q2, .ref q3, .ref q4, .ref q5, .ref q6, .int (nI 0), .int (bv false)])), (q1, .inl (cA, 16, .inl (fun _ => nI 0))), (q2, .inl (cA, 16, .inl (fun _ => nI 0))), (q3, .inl (cA, 128, .inl (fun _ => nI 0))), (q4, .inl (cA, 16, .inl (fun _ => nI 0))), (q5, .inl (cA, 16, .inl (fun _ => nI 0))), (q6, .inl (cA, 16, .inl (fun _ => nI 0)))]) (hS : va_S A s.heap H locs) (hl : lv_has ls 3 [(0, .ref h0), (1, .int p0), (2, .int p1)])
    (kk : ∀ (H : Heap) (locs : List Loc), va_P D classes [(h0, .inr (0, [.int (nI (kN p0)), .int (nI (kC p1)), .ref q1, .ref q2, .ref q3, .ref q4, .ref q5, .ref q6, .int (-1), .int (bv false)])), (q1, .inl (cA, 16, .inl (fun _ => nI 0))), (q2, .inl (cA, 16, .inl (fun _ => nI 0))), (q3, .inl (cA, 128, .inl (fun _ => nI 0))), (q4, .inl (cA, 16, .inl (fun _ => nI 0))), (q5, .inl (cA, 16, .inl (fun _ => nI 0))), (q6, .inl (cA, 16, .inl (fun _ => nI 0)))] H → va_D A [(h0, .inr (0, [.int (nI (kN p0)), .int (nI (kC p1)), .ref q1, .ref q2, .ref q3, .ref q4, .ref q5, .ref q6, .int (-1), .int (bv false)])), (q1, .inl (cA, 16, .inl (fun _ => nI 0))), (q2, .inl (cA, 16, .inl (fun _ => nI 0))), (q3, .inl (cA, 128, .inl (fun _ => nI 0))), (q4, .inl (cA, 16, .inl (fun _ => nI 0))), (q5, .inl (cA, 16, .inl (fun _ => nI 0))), (q6, .inl (cA, 16, .inl (fun _ => nI 0)))] → va_S A s.heap H locs → W p l e R s m args below meth c H locs cells slots Q (F0 m 108 ls [])) : W p l e R s m args below meth c H locs cells slots Q (F0 m 53 ls []) := by
  obtain ⟨hx, hb, hr, hlk, hml, hown, hts, hK, hA⟩ := B
  have kB : ∀ (H : Heap) (locs : List Loc), va_P D classes [(h0, .inr (0, [.int (nI (kN p0)), .int (nI 0), .ref q1, .ref q2, .ref q3, .ref q4, .ref q5, .ref q6, .int (nI 0), .int (bv false)])), (q1, .inl (cA, 16, .inl (fun _ => nI 0))), (q2, .inl (cA, 16, .inl (fun _ => nI 0))), (q3, .inl (cA, 128, .inl (fun _ => nI 0))), (q4, .inl (cA, 16, .inl (fun _ => nI 0))), (q5, .inl (cA, 16, .inl (fun _ => nI 0))), (q6, .inl (cA, 16, .inl (fun _ => nI 0)))] H → va_D A [(h0, .inr (0, [.int (nI (kN p0)), .int (nI 0), .ref q1, .ref q2, .ref q3, .ref q4, .ref q5, .ref q6, .int (nI 0), .int (bv false)])), (q1, .inl (cA, 16, .inl (fun _ => nI 0))), (q2, .inl (cA, 16, .inl (fun _ => nI 0))), (q3, .inl (cA, 128, .inl (fun _ => nI 0))), (q4, .inl (cA, 16, .inl (fun _ => nI 0))), (q5, .inl (cA, 16, .inl (fun _ => nI 0))), (q6, .inl (cA, 16, .inl (fun _ => nI 0)))] → va_S A s.heap H locs → W p l e R s m args below meth c H locs cells slots Q (F0 m 100 ls [.int (nI (kC p1)), .ref h0]) := by
    intro H locs hP hD hS
    refine va_putF (pc := 100) (D := D) (ci := 0) (v := .int (nI (kC p1))) (ty := .int) (C := R_X) (T := F_X) (N := 10) hx hb hts i_X t_X t_X_ok n_X hown hK hP hD hS 0 rfl rfl 1 (by decide) (hts _ tw_12) (fun _ h9 => h9) rfl hin rfl (by decide +kernel) rfl rfl (Nat.le_of_ble_eq_true rfl) d_X_new_100 (fun H locs hP hD hS => ?_)
    have hP : va_P D classes [(h0, .inr (0, [.int (nI (kN p0)), .int (nI (kC p1)), .ref q1, .ref q2, .ref q3, .ref q4, .ref q5, .ref q6, .int (nI 0), .int (bv false)])), (q1, .inl (cA, 16, .inl (fun _ => nI 0))), (q2, .inl (cA, 16, .inl (fun _ => nI 0))), (q3, .inl (cA, 128, .inl (fun _ => nI 0))), (q4, .inl (cA, 16, .inl (fun _ => nI 0))), (q5, .inl (cA, 16, .inl (fun _ => nI 0))), (q6, .inl (cA, 16, .inl (fun _ => nI 0)))] H := hP
    have hD : va_D A [(h0, .inr (0, [.int (nI (kN p0)), .int (nI (kC p1)), .ref q1, .ref q2, .ref q3, .ref q4, .ref q5, .ref q6, .int (nI 0), .int (bv false)])), (q1, .inl (cA, 16, .inl (fun _ => nI 0))), (q2, .inl (cA, 16, .inl (fun _ => nI 0))), (q3, .inl (cA, 128, .inl (fun _ => nI 0))), (q4, .inl (cA, 16, .inl (fun _ => nI 0))), (q5, .inl (cA, 16, .inl (fun _ => nI 0))), (q6, .inl (cA, 16, .inl (fun _ => nI 0)))] := hD
    refine lv_aload_n (pc := 103) hx hb d_X_new_103 rfl (lv_at hl 0 rfl) ?_
    refine lv_iconst (pc := 104) (v := -1) hx hb d_X_new_104 (by decide) ?_
    refine va_put (pc := 105) (D := D) (ci := 0) (v := .int (-1)) (ty := .int) (C := R_X) (T := F_X) (N := 10) hx hb hts i_X t_X t_X_ok n_X hown hK hP hD hS 0 rfl rfl 8 (by decide) (hts _ tw_19) (fun _ h9 => h9) rfl (by decide +kernel) rfl rfl (Nat.le_of_ble_eq_true rfl) d_X_new_105 (fun H locs hP hD hS => ?_)
    have hP : va_P D classes [(h0, .inr (0, [.int (nI (kN p0)), .int (nI (kC p1)), .ref q1, .ref q2, .ref q3, .ref q4, .ref q5, .ref q6, .int (-1), .int (bv false)])), (q1, .inl (cA, 16, .inl (fun _ => nI 0))), (q2, .inl (cA, 16, .inl (fun _ => nI 0))), (q3, .inl (cA, 128, .inl (fun _ => nI 0))), (q4, .inl (cA, 16, .inl (fun _ => nI 0))), (q5, .inl (cA, 16, .inl (fun _ => nI 0))), (q6, .inl (cA, 16, .inl (fun _ => nI 0)))] H := hP
    have hD : va_D A [(h0, .inr (0, [.int (nI (kN p0)), .int (nI (kC p1)), .ref q1, .ref q2, .ref q3, .ref q4, .ref q5, .ref q6, .int (-1), .int (bv false)])), (q1, .inl (cA, 16, .inl (fun _ => nI 0))), (q2, .inl (cA, 16, .inl (fun _ => nI 0))), (q3, .inl (cA, 128, .inl (fun _ => nI 0))), (q4, .inl (cA, 16, .inl (fun _ => nI 0))), (q5, .inl (cA, 16, .inl (fun _ => nI 0))), (q6, .inl (cA, 16, .inl (fun _ => nI 0)))] := hD
    exact kk H locs hP hD hS
  have kA : ∀ (H : Heap) (locs : List Loc), va_P D classes [(h0, .inr (0, [.int (nI 0), .int (nI 0), .ref q1, .ref q2, .ref q3, .ref q4, .ref q5, .ref q6, .int (nI 0), .int (bv false)])), (q1, .inl (cA, 16, .inl (fun _ => nI 0))), (q2, .inl (cA, 16, .inl (fun _ => nI 0))), (q3, .inl (cA, 128, .inl (fun _ => nI 0))), (q4, .inl (cA, 16, .inl (fun _ => nI 0))), (q5, .inl (cA, 16, .inl (fun _ => nI 0))), (q6, .inl (cA, 16, .inl (fun _ => nI 0)))] H → va_D A [(h0, .inr (0, [.int (nI 0), .int (nI 0), .ref q1, .ref q2, .ref q3, .ref q4, .ref q5, .ref q6, .int (nI 0), .int (bv false)])), (q1, .inl (cA, 16, .inl (fun _ => nI 0))), (q2, .inl (cA, 16, .inl (fun _ => nI 0))), (q3, .inl (cA, 128, .inl (fun _ => nI 0))), (q4, .inl (cA, 16, .inl (fun _ => nI 0))), (q5, .inl (cA, 16, .inl (fun _ => nI 0))), (q6, .inl (cA, 16, .inl (fun _ => nI 0)))] → va_S A s.heap H locs → W p l e R s m args below meth c H locs cells slots Q (F0 m 75 ls [.int (nI (kN p0)), .ref h0]) := by
    intro H locs hP hD hS
    refine va_putF (pc := 75) (D := D) (ci := 0) (v := .int (nI (kN p0))) (ty := .int) (C := R_X) (T := F_X) (N := 10) hx hb hts i_X t_X t_X_ok n_X hown hK hP hD hS 0 rfl rfl 0 (by decide) (hts _ tw_11) (fun _ h9 => h9) rfl hin rfl (by decide +kernel) rfl rfl (Nat.le_of_ble_eq_true rfl) d_X_new_75 (fun H locs hP hD hS => ?_)
    have hP : va_P D classes [(h0, .inr (0, [.int (nI (kN p0)), .int (nI 0), .ref q1, .ref q2, .ref q3, .ref q4, .ref q5, .ref q6, .int (nI 0), .int (bv false)])), (q1, .inl (cA, 16, .inl (fun _ => nI 0))), (q2, .inl (cA, 16, .inl (fun _ => nI 0))), (q3, .inl (cA, 128, .inl (fun _ => nI 0))), (q4, .inl (cA, 16, .inl (fun _ => nI 0))), (q5, .inl (cA, 16, .inl (fun _ => nI 0))), (q6, .inl (cA, 16, .inl (fun _ => nI 0)))] H := hP
    have hD : va_D A [(h0, .inr (0, [.int (nI (kN p0)), .int (nI 0), .ref q1, .ref q2, .ref q3, .ref q4, .ref q5, .ref q6, .int (nI 0), .int (bv false)])), (q1, .inl (cA, 16, .inl (fun _ => nI 0))), (q2, .inl (cA, 16, .inl (fun _ => nI 0))), (q3, .inl (cA, 128, .inl (fun _ => nI 0))), (q4, .inl (cA, 16, .inl (fun _ => nI 0))), (q5, .inl (cA, 16, .inl (fun _ => nI 0))), (q6, .inl (cA, 16, .inl (fun _ => nI 0)))] := hD
    refine lv_aload_n (pc := 78) hx hb d_X_new_78 rfl (lv_at hl 0 rfl) ?_
    refine lv_iload_n (pc := 79) hx hb d_X_new_79 rfl (lv_at hl 2 rfl) ?_
    refine lv_iconst (pc := 80) (v := nI 1) hx hb d_X_new_80 (by decide) ?_
    refine lv_icmp_ge (pc := 81) (tgt := 88) hx hb d_X_new_81 (by decide) (fun c1 => ?_) (fun c1 => ?_)
    · refine lv_iload_n (pc := 88) hx hb d_X_new_88 rfl (lv_at hl 2 rfl) ?_
      refine lv_bipush (pc := 89) (v := nI 8) hx hb d_X_new_89 (by decide) ?_
      refine lv_icmp_le (pc := 91) (tgt := 99) hx hb d_X_new_91 (by decide) (fun c2 => ?_) (fun c2 => ?_)
      · refine lv_iload_n (pc := 99) hx hb d_X_new_99 rfl (lv_at hl 2 rfl) ?_
        rw [kC_mid c1 c2]
        exact kB H locs hP hD hS
      · refine lv_bipush (pc := 94) (v := nI 8) hx hb d_X_new_94 (by decide) ?_
        refine lv_goto (pc := 96) (tgt := 100) hx hb d_X_new_96 (by decide) ?_
        rw [kC_hi c1 c2]
        exact kB H locs hP hD hS
    · refine lv_iconst (pc := 84) (v := nI 1) hx hb d_X_new_84 (by decide) ?_
      refine lv_goto (pc := 85) (tgt := 100) hx hb d_X_new_85 (by decide) ?_
      rw [kC_lo c1]
      exact kB H locs hP hD hS
  refine lv_aload_n (pc := 53) hx hb d_X_new_53 rfl (lv_at hl 0 rfl) ?_
  refine lv_iload_n (pc := 54) hx hb d_X_new_54 rfl (lv_at hl 1 rfl) ?_
  refine lv_iconst (pc := 55) (v := nI 2) hx hb d_X_new_55 (by decide) ?_
  refine lv_icmp_ge (pc := 56) (tgt := 63) hx hb d_X_new_56 (by decide) (fun c1 => ?_) (fun c1 => ?_)
  · refine lv_iload_n (pc := 63) hx hb d_X_new_63 rfl (lv_at hl 1 rfl) ?_
    refine lv_bipush (pc := 64) (v := nI 16) hx hb d_X_new_64 (by decide) ?_
    refine lv_icmp_le (pc := 66) (tgt := 74) hx hb d_X_new_66 (by decide) (fun c2 => ?_) (fun c2 => ?_)
    · refine lv_iload_n (pc := 74) hx hb d_X_new_74 rfl (lv_at hl 1 rfl) ?_
      rw [kN_mid c1 c2]
      exact kA H locs hP hD hS
    · refine lv_bipush (pc := 69) (v := nI 16) hx hb d_X_new_69 (by decide) ?_
      refine lv_goto (pc := 71) (tgt := 75) hx hb d_X_new_71 (by decide) ?_
      rw [kN_hi c1 c2]
      exact kA H locs hP hD hS
  · refine lv_iconst (pc := 59) (v := nI 2) hx hb d_X_new_59 (by decide) ?_
    refine lv_goto (pc := 60) (tgt := 75) hx hb d_X_new_60 (by decide) ?_
    rw [kN_lo c1]
    exact kA H locs hP hD hS
set_option maxHeartbeats 4000000 in
set_option maxRecDepth 100000 in
/-- the constructor: its cells come at h, h 0 the object -/
theorem c_X_new (l : Launch) (D : va_G) (cA : ClassId) (h0 sz : Nat) (p0 p1 : Int32) : Met l y_X_new (Cond.code y_X_new b_X_new 3 none :: lw_gt) ({ frames := 1, cells := 6, slots := 208, locals := 30 }) (va_Pc [.ref h0, .int p0, .int p1] (inW D cA [(h0, .inr (0, [.int (nI 0), .int (nI 0), .null, .null, .null, .null, .null, .null, .int (nI 0), .int (bv false)]))] sz)) (va_Qv (fun u : SX => u = (fun _ => 0, fun _ => 0, fun _ => nI 0, fun _ => 0, fun _ => 0, fun _ => nI 0, none, false)) (fun u t => ∃ h : Nat → Nat, h 0 = h0 ∧ atW D cA (va_A [(h0, .inr (0, [.int (nI 0), .int (nI 0), .null, .null, .null, .null, .null, .null, .int (nI 0), .int (bv false)]))] sz) (wX cA h (kN p0) (kC p1) u) t) (va_A [(h0, .inr (0, [.int (nI 0), .int (nI 0), .null, .null, .null, .null, .null, .null, .int (nI 0), .int (bv false)]))] sz)) 6 208 (va_A [(h0, .inr (0, [.int (nI 0), .int (nI 0), .null, .null, .null, .null, .null, .null, .int (nI 0), .int (bv false)]))] sz) := by
  refine Met.ofW (cc := b_X_new) (maxL := 3) (ret := none) (by decide) rfl ?_
  intro p e s m args below meth c s₁ B hml hv
  obtain ⟨rfl, hsz, hP, hK, hD0⟩ := hv
  have hx := B.exec
  have hb := B.bytes
  have hr := B.returns
  have hts0 := atoms_spec (ws := Cond.code y_X_new b_X_new 3 none :: lw_gt) B.pre
  have hts : ∀ w ∈ lw_gt, w.before _ s = true := fun w hw => hts0 w (List.mem_cons_of_mem _ hw)
  have hown : s.vm.findClass R_X = some m.cls := findClass_of_methodNamed B.named
  have hlk := B.notSynchronized
  have hin : meth.name = "<init>" := (name_of_methodNamed B.named B.method).1
  subst hsz
  have hD := hD0.self (sz := s.heap.size)
  generalize hAe : va_A [(h0, .inr (0, [.int (nI 0), .int (nI 0), .null, .null, .null, .null, .null, .null, .int (nI 0), .int (bv false)]))] s.heap.size = A at hD ⊢
  have hA : ∀ q : Nat, s.heap.size ≤ q → A q := fun q h => by rw [← hAe]; exact Or.inr h
  have hS : va_S A s.heap s.heap [] := va_S.rf
  have hl := lv_entry ([.ref h0, .int p0, .int p1]) (n := 3) (Nat.le_of_ble_eq_true rfl)
  rw [lg_entry_eq]
  generalize (lg_sl ([.ref h0, .int p0, .int p1]) ++ List.replicate (3 - (lg_sl ([.ref h0, .int p0, .int p1])).length) Slot.unset).toArray = ls at hl ⊢
  have hl : lv_has ls 3 [(0, .ref h0), (1, .int p0), (2, .int p1)] := hl
  refine lv_aload_n (pc := 0) hx hb d_X_new_0 rfl (lv_at hl 0 rfl) ?_
  refine W.objInit hx hb hown (hts _ tw_8) (hts _ tw_9) (hts _ tw_10) rfl (by rw [hml]; exact hl.1) rfl d_X_new_1 (Nat.le_of_ble_eq_true rfl) (Nat.le_of_ble_eq_true rfl) ?_
  refine W.eq (g2 := F0 m 4 ls []) rfl ?_
  refine lv_aload_n (pc := 4) hx hb d_X_new_4 rfl (lv_at hl 0 rfl) ?_
  refine lv_bipush (pc := 5) (v := nI 16) hx hb d_X_new_5 (by decide) ?_
  refine va_newa (pc := 7) (atype := .int) (ty := .int) hx hb (hts _ tw_42) rfl hK hP hD hS hA (a0 := (16, .inl (fun _ => nI 0))) (newz 16) (by decide) (by decide) (by decide) (Nat.le_of_ble_eq_true rfl) (Nat.le_of_ble_eq_true rfl) d_X_new_7 (fun q1 cB H hK2 hP hD hS => ?_)
  obtain rfl : cA = cB := Option.some.inj ((hK2.2 0 _ rfl).2.symm.trans (hK2.2 1 _ rfl).2)
  have hP : va_P D classes [(h0, .inr (0, [.int (nI 0), .int (nI 0), .null, .null, .null, .null, .null, .null, .int (nI 0), .int (bv false)])), (q1, .inl (cA, 16, .inl (fun _ => nI 0)))] H := hP
  have hD : va_D A [(h0, .inr (0, [.int (nI 0), .int (nI 0), .null, .null, .null, .null, .null, .null, .int (nI 0), .int (bv false)])), (q1, .inl (cA, 16, .inl (fun _ => nI 0)))] := hD
  refine va_putF (pc := 9) (D := D) (ci := 0) (v := .ref q1) (ty := .array .int) (C := R_X) (T := F_X) (N := 10) hx hb hts i_X t_X t_X_ok n_X hown hK hP hD hS 0 rfl rfl 2 (by decide) (hts _ tw_13) (fun _ h9 => h9) rfl hin rfl (by decide +kernel) rfl rfl (Nat.le_of_ble_eq_true rfl) d_X_new_9 (fun H locs hP hD hS => ?_)
  have hP : va_P D classes [(h0, .inr (0, [.int (nI 0), .int (nI 0), .ref q1, .null, .null, .null, .null, .null, .int (nI 0), .int (bv false)])), (q1, .inl (cA, 16, .inl (fun _ => nI 0)))] H := hP
  have hD : va_D A [(h0, .inr (0, [.int (nI 0), .int (nI 0), .ref q1, .null, .null, .null, .null, .null, .int (nI 0), .int (bv false)])), (q1, .inl (cA, 16, .inl (fun _ => nI 0)))] := hD
  refine lv_aload_n (pc := 12) hx hb d_X_new_12 rfl (lv_at hl 0 rfl) ?_
  refine lv_bipush (pc := 13) (v := nI 16) hx hb d_X_new_13 (by decide) ?_
  refine va_newa (pc := 15) (atype := .int) (ty := .int) hx hb (hts _ tw_42) rfl hK hP hD hS hA (a0 := (16, .inl (fun _ => nI 0))) (newz 16) (by decide) (by decide) (by decide) (Nat.le_of_ble_eq_true rfl) (Nat.le_of_ble_eq_true rfl) d_X_new_15 (fun q2 cB H hK2 hP hD hS => ?_)
  obtain rfl : cA = cB := Option.some.inj ((hK2.2 0 _ rfl).2.symm.trans (hK2.2 1 _ rfl).2)
  have hP : va_P D classes [(h0, .inr (0, [.int (nI 0), .int (nI 0), .ref q1, .null, .null, .null, .null, .null, .int (nI 0), .int (bv false)])), (q1, .inl (cA, 16, .inl (fun _ => nI 0))), (q2, .inl (cA, 16, .inl (fun _ => nI 0)))] H := hP
  have hD : va_D A [(h0, .inr (0, [.int (nI 0), .int (nI 0), .ref q1, .null, .null, .null, .null, .null, .int (nI 0), .int (bv false)])), (q1, .inl (cA, 16, .inl (fun _ => nI 0))), (q2, .inl (cA, 16, .inl (fun _ => nI 0)))] := hD
  refine va_putF (pc := 17) (D := D) (ci := 0) (v := .ref q2) (ty := .array .int) (C := R_X) (T := F_X) (N := 10) hx hb hts i_X t_X t_X_ok n_X hown hK hP hD hS 0 rfl rfl 3 (by decide) (hts _ tw_14) (fun _ h9 => h9) rfl hin rfl (by decide +kernel) rfl rfl (Nat.le_of_ble_eq_true rfl) d_X_new_17 (fun H locs hP hD hS => ?_)
  have hP : va_P D classes [(h0, .inr (0, [.int (nI 0), .int (nI 0), .ref q1, .ref q2, .null, .null, .null, .null, .int (nI 0), .int (bv false)])), (q1, .inl (cA, 16, .inl (fun _ => nI 0))), (q2, .inl (cA, 16, .inl (fun _ => nI 0)))] H := hP
  have hD : va_D A [(h0, .inr (0, [.int (nI 0), .int (nI 0), .ref q1, .ref q2, .null, .null, .null, .null, .int (nI 0), .int (bv false)])), (q1, .inl (cA, 16, .inl (fun _ => nI 0))), (q2, .inl (cA, 16, .inl (fun _ => nI 0)))] := hD
  refine lv_aload_n (pc := 20) hx hb d_X_new_20 rfl (lv_at hl 0 rfl) ?_
  refine lv_sipush (pc := 21) (v := nI 128) hx hb d_X_new_21 (by decide) ?_
  refine va_newa (pc := 24) (atype := .int) (ty := .int) hx hb (hts _ tw_42) rfl hK hP hD hS hA (a0 := (128, .inl (fun _ => nI 0))) (newz 128) (by decide) (by decide) (by decide) (Nat.le_of_ble_eq_true rfl) (Nat.le_of_ble_eq_true rfl) d_X_new_24 (fun q3 cB H hK2 hP hD hS => ?_)
  obtain rfl : cA = cB := Option.some.inj ((hK2.2 0 _ rfl).2.symm.trans (hK2.2 1 _ rfl).2)
  have hP : va_P D classes [(h0, .inr (0, [.int (nI 0), .int (nI 0), .ref q1, .ref q2, .null, .null, .null, .null, .int (nI 0), .int (bv false)])), (q1, .inl (cA, 16, .inl (fun _ => nI 0))), (q2, .inl (cA, 16, .inl (fun _ => nI 0))), (q3, .inl (cA, 128, .inl (fun _ => nI 0)))] H := hP
  have hD : va_D A [(h0, .inr (0, [.int (nI 0), .int (nI 0), .ref q1, .ref q2, .null, .null, .null, .null, .int (nI 0), .int (bv false)])), (q1, .inl (cA, 16, .inl (fun _ => nI 0))), (q2, .inl (cA, 16, .inl (fun _ => nI 0))), (q3, .inl (cA, 128, .inl (fun _ => nI 0)))] := hD
  refine va_putF (pc := 26) (D := D) (ci := 0) (v := .ref q3) (ty := .array .int) (C := R_X) (T := F_X) (N := 10) hx hb hts i_X t_X t_X_ok n_X hown hK hP hD hS 0 rfl rfl 4 (by decide) (hts _ tw_15) (fun _ h9 => h9) rfl hin rfl (by decide +kernel) rfl rfl (Nat.le_of_ble_eq_true rfl) d_X_new_26 (fun H locs hP hD hS => ?_)
  have hP : va_P D classes [(h0, .inr (0, [.int (nI 0), .int (nI 0), .ref q1, .ref q2, .ref q3, .null, .null, .null, .int (nI 0), .int (bv false)])), (q1, .inl (cA, 16, .inl (fun _ => nI 0))), (q2, .inl (cA, 16, .inl (fun _ => nI 0))), (q3, .inl (cA, 128, .inl (fun _ => nI 0)))] H := hP
  have hD : va_D A [(h0, .inr (0, [.int (nI 0), .int (nI 0), .ref q1, .ref q2, .ref q3, .null, .null, .null, .int (nI 0), .int (bv false)])), (q1, .inl (cA, 16, .inl (fun _ => nI 0))), (q2, .inl (cA, 16, .inl (fun _ => nI 0))), (q3, .inl (cA, 128, .inl (fun _ => nI 0)))] := hD
  refine lv_aload_n (pc := 29) hx hb d_X_new_29 rfl (lv_at hl 0 rfl) ?_
  refine lv_bipush (pc := 30) (v := nI 16) hx hb d_X_new_30 (by decide) ?_
  refine va_newa (pc := 32) (atype := .int) (ty := .int) hx hb (hts _ tw_42) rfl hK hP hD hS hA (a0 := (16, .inl (fun _ => nI 0))) (newz 16) (by decide) (by decide) (by decide) (Nat.le_of_ble_eq_true rfl) (Nat.le_of_ble_eq_true rfl) d_X_new_32 (fun q4 cB H hK2 hP hD hS => ?_)
  obtain rfl : cA = cB := Option.some.inj ((hK2.2 0 _ rfl).2.symm.trans (hK2.2 1 _ rfl).2)
  have hP : va_P D classes [(h0, .inr (0, [.int (nI 0), .int (nI 0), .ref q1, .ref q2, .ref q3, .null, .null, .null, .int (nI 0), .int (bv false)])), (q1, .inl (cA, 16, .inl (fun _ => nI 0))), (q2, .inl (cA, 16, .inl (fun _ => nI 0))), (q3, .inl (cA, 128, .inl (fun _ => nI 0))), (q4, .inl (cA, 16, .inl (fun _ => nI 0)))] H := hP
  have hD : va_D A [(h0, .inr (0, [.int (nI 0), .int (nI 0), .ref q1, .ref q2, .ref q3, .null, .null, .null, .int (nI 0), .int (bv false)])), (q1, .inl (cA, 16, .inl (fun _ => nI 0))), (q2, .inl (cA, 16, .inl (fun _ => nI 0))), (q3, .inl (cA, 128, .inl (fun _ => nI 0))), (q4, .inl (cA, 16, .inl (fun _ => nI 0)))] := hD
  refine va_putF (pc := 34) (D := D) (ci := 0) (v := .ref q4) (ty := .array .int) (C := R_X) (T := F_X) (N := 10) hx hb hts i_X t_X t_X_ok n_X hown hK hP hD hS 0 rfl rfl 5 (by decide) (hts _ tw_16) (fun _ h9 => h9) rfl hin rfl (by decide +kernel) rfl rfl (Nat.le_of_ble_eq_true rfl) d_X_new_34 (fun H locs hP hD hS => ?_)
  have hP : va_P D classes [(h0, .inr (0, [.int (nI 0), .int (nI 0), .ref q1, .ref q2, .ref q3, .ref q4, .null, .null, .int (nI 0), .int (bv false)])), (q1, .inl (cA, 16, .inl (fun _ => nI 0))), (q2, .inl (cA, 16, .inl (fun _ => nI 0))), (q3, .inl (cA, 128, .inl (fun _ => nI 0))), (q4, .inl (cA, 16, .inl (fun _ => nI 0)))] H := hP
  have hD : va_D A [(h0, .inr (0, [.int (nI 0), .int (nI 0), .ref q1, .ref q2, .ref q3, .ref q4, .null, .null, .int (nI 0), .int (bv false)])), (q1, .inl (cA, 16, .inl (fun _ => nI 0))), (q2, .inl (cA, 16, .inl (fun _ => nI 0))), (q3, .inl (cA, 128, .inl (fun _ => nI 0))), (q4, .inl (cA, 16, .inl (fun _ => nI 0)))] := hD
  refine lv_aload_n (pc := 37) hx hb d_X_new_37 rfl (lv_at hl 0 rfl) ?_
  refine lv_bipush (pc := 38) (v := nI 16) hx hb d_X_new_38 (by decide) ?_
  refine va_newa (pc := 40) (atype := .int) (ty := .int) hx hb (hts _ tw_42) rfl hK hP hD hS hA (a0 := (16, .inl (fun _ => nI 0))) (newz 16) (by decide) (by decide) (by decide) (Nat.le_of_ble_eq_true rfl) (Nat.le_of_ble_eq_true rfl) d_X_new_40 (fun q5 cB H hK2 hP hD hS => ?_)
  obtain rfl : cA = cB := Option.some.inj ((hK2.2 0 _ rfl).2.symm.trans (hK2.2 1 _ rfl).2)
  have hP : va_P D classes [(h0, .inr (0, [.int (nI 0), .int (nI 0), .ref q1, .ref q2, .ref q3, .ref q4, .null, .null, .int (nI 0), .int (bv false)])), (q1, .inl (cA, 16, .inl (fun _ => nI 0))), (q2, .inl (cA, 16, .inl (fun _ => nI 0))), (q3, .inl (cA, 128, .inl (fun _ => nI 0))), (q4, .inl (cA, 16, .inl (fun _ => nI 0))), (q5, .inl (cA, 16, .inl (fun _ => nI 0)))] H := hP
  have hD : va_D A [(h0, .inr (0, [.int (nI 0), .int (nI 0), .ref q1, .ref q2, .ref q3, .ref q4, .null, .null, .int (nI 0), .int (bv false)])), (q1, .inl (cA, 16, .inl (fun _ => nI 0))), (q2, .inl (cA, 16, .inl (fun _ => nI 0))), (q3, .inl (cA, 128, .inl (fun _ => nI 0))), (q4, .inl (cA, 16, .inl (fun _ => nI 0))), (q5, .inl (cA, 16, .inl (fun _ => nI 0)))] := hD
  refine va_putF (pc := 42) (D := D) (ci := 0) (v := .ref q5) (ty := .array .int) (C := R_X) (T := F_X) (N := 10) hx hb hts i_X t_X t_X_ok n_X hown hK hP hD hS 0 rfl rfl 6 (by decide) (hts _ tw_17) (fun _ h9 => h9) rfl hin rfl (by decide +kernel) rfl rfl (Nat.le_of_ble_eq_true rfl) d_X_new_42 (fun H locs hP hD hS => ?_)
  have hP : va_P D classes [(h0, .inr (0, [.int (nI 0), .int (nI 0), .ref q1, .ref q2, .ref q3, .ref q4, .ref q5, .null, .int (nI 0), .int (bv false)])), (q1, .inl (cA, 16, .inl (fun _ => nI 0))), (q2, .inl (cA, 16, .inl (fun _ => nI 0))), (q3, .inl (cA, 128, .inl (fun _ => nI 0))), (q4, .inl (cA, 16, .inl (fun _ => nI 0))), (q5, .inl (cA, 16, .inl (fun _ => nI 0)))] H := hP
  have hD : va_D A [(h0, .inr (0, [.int (nI 0), .int (nI 0), .ref q1, .ref q2, .ref q3, .ref q4, .ref q5, .null, .int (nI 0), .int (bv false)])), (q1, .inl (cA, 16, .inl (fun _ => nI 0))), (q2, .inl (cA, 16, .inl (fun _ => nI 0))), (q3, .inl (cA, 128, .inl (fun _ => nI 0))), (q4, .inl (cA, 16, .inl (fun _ => nI 0))), (q5, .inl (cA, 16, .inl (fun _ => nI 0)))] := hD
  refine lv_aload_n (pc := 45) hx hb d_X_new_45 rfl (lv_at hl 0 rfl) ?_
  refine lv_bipush (pc := 46) (v := nI 16) hx hb d_X_new_46 (by decide) ?_
  refine va_newa (pc := 48) (atype := .int) (ty := .int) hx hb (hts _ tw_42) rfl hK hP hD hS hA (a0 := (16, .inl (fun _ => nI 0))) (newz 16) (by decide) (by decide) (by decide) (Nat.le_of_ble_eq_true rfl) (Nat.le_of_ble_eq_true rfl) d_X_new_48 (fun q6 cB H hK2 hP hD hS => ?_)
  obtain rfl : cA = cB := Option.some.inj ((hK2.2 0 _ rfl).2.symm.trans (hK2.2 1 _ rfl).2)
  have hP : va_P D classes [(h0, .inr (0, [.int (nI 0), .int (nI 0), .ref q1, .ref q2, .ref q3, .ref q4, .ref q5, .null, .int (nI 0), .int (bv false)])), (q1, .inl (cA, 16, .inl (fun _ => nI 0))), (q2, .inl (cA, 16, .inl (fun _ => nI 0))), (q3, .inl (cA, 128, .inl (fun _ => nI 0))), (q4, .inl (cA, 16, .inl (fun _ => nI 0))), (q5, .inl (cA, 16, .inl (fun _ => nI 0))), (q6, .inl (cA, 16, .inl (fun _ => nI 0)))] H := hP
  have hD : va_D A [(h0, .inr (0, [.int (nI 0), .int (nI 0), .ref q1, .ref q2, .ref q3, .ref q4, .ref q5, .null, .int (nI 0), .int (bv false)])), (q1, .inl (cA, 16, .inl (fun _ => nI 0))), (q2, .inl (cA, 16, .inl (fun _ => nI 0))), (q3, .inl (cA, 128, .inl (fun _ => nI 0))), (q4, .inl (cA, 16, .inl (fun _ => nI 0))), (q5, .inl (cA, 16, .inl (fun _ => nI 0))), (q6, .inl (cA, 16, .inl (fun _ => nI 0)))] := hD
  refine va_putF (pc := 50) (D := D) (ci := 0) (v := .ref q6) (ty := .array .int) (C := R_X) (T := F_X) (N := 10) hx hb hts i_X t_X t_X_ok n_X hown hK hP hD hS 0 rfl rfl 7 (by decide) (hts _ tw_18) (fun _ h9 => h9) rfl hin rfl (by decide +kernel) rfl rfl (Nat.le_of_ble_eq_true rfl) d_X_new_50 (fun H locs hP hD hS => ?_)
  have hP : va_P D classes [(h0, .inr (0, [.int (nI 0), .int (nI 0), .ref q1, .ref q2, .ref q3, .ref q4, .ref q5, .ref q6, .int (nI 0), .int (bv false)])), (q1, .inl (cA, 16, .inl (fun _ => nI 0))), (q2, .inl (cA, 16, .inl (fun _ => nI 0))), (q3, .inl (cA, 128, .inl (fun _ => nI 0))), (q4, .inl (cA, 16, .inl (fun _ => nI 0))), (q5, .inl (cA, 16, .inl (fun _ => nI 0))), (q6, .inl (cA, 16, .inl (fun _ => nI 0)))] H := hP
  have hD : va_D A [(h0, .inr (0, [.int (nI 0), .int (nI 0), .ref q1, .ref q2, .ref q3, .ref q4, .ref q5, .ref q6, .int (nI 0), .int (bv false)])), (q1, .inl (cA, 16, .inl (fun _ => nI 0))), (q2, .inl (cA, 16, .inl (fun _ => nI 0))), (q3, .inl (cA, 128, .inl (fun _ => nI 0))), (q4, .inl (cA, 16, .inl (fun _ => nI 0))), (q5, .inl (cA, 16, .inl (fun _ => nI 0))), (q6, .inl (cA, 16, .inl (fun _ => nI 0)))] := hD
  refine W.widen (k := 6) (n := 208) (Nat.le_of_ble_eq_true rfl) (Nat.le_of_ble_eq_true rfl) ?_
  refine X_new_tail hin ⟨hx, hb, hr, hlk, hml, hown, hts, hK, hA⟩ hP hD hS hl (fun H locs hP hD hS => ?_)
  obtain ⟨h, eh⟩ : ∃ h : Nat → Nat, h = fun i => match i with | 0 => h0 | 1 => q1 | 2 => q2 | 3 => q3 | 4 => q4 | 5 => q5 | _ => q6 := ⟨_, rfl⟩
  have hP : va_P D classes (wX cA h (kN p0) (kC p1) (fun _ => 0, fun _ => 0, fun _ => nI 0, fun _ => 0, fun _ => 0, fun _ => nI 0, none, false)) H := by rw [eh]; exact hP
  have hD : va_D A (wX cA h (kN p0) (kC p1) (fun _ => 0, fun _ => 0, fun _ => nI 0, fun _ => 0, fun _ => 0, fun _ => nI 0, none, false)) := by rw [eh]; exact hD
  have e0 : h 0 = h0 := by rw [eh]; rfl
  exact W.vret hx hb hr (fun t ht hW => ⟨⟨(fun _ => 0, fun _ => 0, fun _ => nI 0, fun _ => 0, fun _ => 0, fun _ => nI 0, none, false), rfl, rfl, h, e0, by rw [ht]; exact hP, va_K.moved hW.alike hK, hD⟩, hS.F ht⟩) hS.2.2 d_X_new_108 hlk
set_option maxHeartbeats 4000000 in
set_option maxRecDepth 100000 in
theorem M_new_tail {p : Program} {l : Launch} {e : Env} {R : Room} {s : State} {m : MethodId} {args : Array Value} {below : List Frame} {meth : Method} {c : Code} {A : Nat → Prop} {Q : State → Prop} {cells slots : Nat} {ret : Option FieldType} {D : va_G} {cA : ClassId} {h0 q1 q2 q3 q4 q5 : Nat} {p0 p1 : Int32} (hin : meth.name = "<init>") (B : Ctx p s m args meth c b_M_new 3 ret R_M D cA A) {H : Heap} {locs : List Loc} {ls : Array Slot} (hP : va_P D classes [(h0, .inr (1, [.int (nI 0), .int (nI 0), .ref q1, .ref q2, .ref q3, .ref q4, .ref q5, .int (nI 0), .int (bv false)])), (q1, .inl (cA, 16, .inl (fun _ => nI 0))), (q2, .inl (cA, 16, .inl (fun _ => nI 0))), (q3, .inl (cA, 128, .inl (fun _ => nI 0))), (q4, .inl (cA, 16, .inl (fun _ => nI 0))), (q5, .inl (cA, 16, .inl (fun _ => nI 0)))] H) (hD : va_D A [(h0, .inr (1, [.int (nI 0), .int (nI 0), .ref q1, .ref q2, .ref q3, .ref q4, .ref q5, .int (nI 0), .int (bv false)])), (q1, .inl (cA, 16, .inl (fun _ => nI 0))), (q2, .inl (cA, 16, .inl (fun _ => nI 0))), (q3, .inl (cA, 128, .inl (fun _ => nI 0))), (q4, .inl (cA, 16, .inl (fun _ => nI 0))), (q5, .inl (cA, 16, .inl (fun _ => nI 0)))]) (hS : va_S A s.heap H locs) (hl : lv_has ls 3 [(0, .ref h0), (1, .int p0), (2, .int p1)])
    (kk : ∀ (H : Heap) (locs : List Loc), va_P D classes [(h0, .inr (1, [.int (nI (kN p0)), .int (nI (kC p1)), .ref q1, .ref q2, .ref q3, .ref q4, .ref q5, .int (nI 0), .int (bv false)])), (q1, .inl (cA, 16, .inl (fun _ => nI 0))), (q2, .inl (cA, 16, .inl (fun _ => nI 0))), (q3, .inl (cA, 128, .inl (fun _ => nI 0))), (q4, .inl (cA, 16, .inl (fun _ => nI 0))), (q5, .inl (cA, 16, .inl (fun _ => nI 0)))] H → va_D A [(h0, .inr (1, [.int (nI (kN p0)), .int (nI (kC p1)), .ref q1, .ref q2, .ref q3, .ref q4, .ref q5, .int (nI 0), .int (bv false)])), (q1, .inl (cA, 16, .inl (fun _ => nI 0))), (q2, .inl (cA, 16, .inl (fun _ => nI 0))), (q3, .inl (cA, 128, .inl (fun _ => nI 0))), (q4, .inl (cA, 16, .inl (fun _ => nI 0))), (q5, .inl (cA, 16, .inl (fun _ => nI 0)))] → va_S A s.heap H locs → W p l e R s m args below meth c H locs cells slots Q (F0 m 95 ls [])) : W p l e R s m args below meth c H locs cells slots Q (F0 m 45 ls []) := by
  obtain ⟨hx, hb, hr, hlk, hml, hown, hts, hK, hA⟩ := B
  have kB : ∀ (H : Heap) (locs : List Loc), va_P D classes [(h0, .inr (1, [.int (nI (kN p0)), .int (nI 0), .ref q1, .ref q2, .ref q3, .ref q4, .ref q5, .int (nI 0), .int (bv false)])), (q1, .inl (cA, 16, .inl (fun _ => nI 0))), (q2, .inl (cA, 16, .inl (fun _ => nI 0))), (q3, .inl (cA, 128, .inl (fun _ => nI 0))), (q4, .inl (cA, 16, .inl (fun _ => nI 0))), (q5, .inl (cA, 16, .inl (fun _ => nI 0)))] H → va_D A [(h0, .inr (1, [.int (nI (kN p0)), .int (nI 0), .ref q1, .ref q2, .ref q3, .ref q4, .ref q5, .int (nI 0), .int (bv false)])), (q1, .inl (cA, 16, .inl (fun _ => nI 0))), (q2, .inl (cA, 16, .inl (fun _ => nI 0))), (q3, .inl (cA, 128, .inl (fun _ => nI 0))), (q4, .inl (cA, 16, .inl (fun _ => nI 0))), (q5, .inl (cA, 16, .inl (fun _ => nI 0)))] → va_S A s.heap H locs → W p l e R s m args below meth c H locs cells slots Q (F0 m 92 ls [.int (nI (kC p1)), .ref h0]) := by
    intro H locs hP hD hS
    refine va_putF (pc := 92) (D := D) (ci := 1) (v := .int (nI (kC p1))) (ty := .int) (C := R_M) (T := F_M) (N := 9) hx hb hts i_M t_M t_M_ok n_M hown hK hP hD hS 0 rfl rfl 1 (by decide) (hts _ tw_137) (fun _ h9 => h9) rfl hin rfl (by decide +kernel) rfl rfl (Nat.le_of_ble_eq_true rfl) d_M_new_92 (fun H locs hP hD hS => ?_)
    have hP : va_P D classes [(h0, .inr (1, [.int (nI (kN p0)), .int (nI (kC p1)), .ref q1, .ref q2, .ref q3, .ref q4, .ref q5, .int (nI 0), .int (bv false)])), (q1, .inl (cA, 16, .inl (fun _ => nI 0))), (q2, .inl (cA, 16, .inl (fun _ => nI 0))), (q3, .inl (cA, 128, .inl (fun _ => nI 0))), (q4, .inl (cA, 16, .inl (fun _ => nI 0))), (q5, .inl (cA, 16, .inl (fun _ => nI 0)))] H := hP
    have hD : va_D A [(h0, .inr (1, [.int (nI (kN p0)), .int (nI (kC p1)), .ref q1, .ref q2, .ref q3, .ref q4, .ref q5, .int (nI 0), .int (bv false)])), (q1, .inl (cA, 16, .inl (fun _ => nI 0))), (q2, .inl (cA, 16, .inl (fun _ => nI 0))), (q3, .inl (cA, 128, .inl (fun _ => nI 0))), (q4, .inl (cA, 16, .inl (fun _ => nI 0))), (q5, .inl (cA, 16, .inl (fun _ => nI 0)))] := hD
    exact kk H locs hP hD hS
  have kA : ∀ (H : Heap) (locs : List Loc), va_P D classes [(h0, .inr (1, [.int (nI 0), .int (nI 0), .ref q1, .ref q2, .ref q3, .ref q4, .ref q5, .int (nI 0), .int (bv false)])), (q1, .inl (cA, 16, .inl (fun _ => nI 0))), (q2, .inl (cA, 16, .inl (fun _ => nI 0))), (q3, .inl (cA, 128, .inl (fun _ => nI 0))), (q4, .inl (cA, 16, .inl (fun _ => nI 0))), (q5, .inl (cA, 16, .inl (fun _ => nI 0)))] H → va_D A [(h0, .inr (1, [.int (nI 0), .int (nI 0), .ref q1, .ref q2, .ref q3, .ref q4, .ref q5, .int (nI 0), .int (bv false)])), (q1, .inl (cA, 16, .inl (fun _ => nI 0))), (q2, .inl (cA, 16, .inl (fun _ => nI 0))), (q3, .inl (cA, 128, .inl (fun _ => nI 0))), (q4, .inl (cA, 16, .inl (fun _ => nI 0))), (q5, .inl (cA, 16, .inl (fun _ => nI 0)))] → va_S A s.heap H locs → W p l e R s m args below meth c H locs cells slots Q (F0 m 67 ls [.int (nI (kN p0)), .ref h0]) := by
    intro H locs hP hD hS
    refine va_putF (pc := 67) (D := D) (ci := 1) (v := .int (nI (kN p0))) (ty := .int) (C := R_M) (T := F_M) (N := 9) hx hb hts i_M t_M t_M_ok n_M hown hK hP hD hS 0 rfl rfl 0 (by decide) (hts _ tw_136) (fun _ h9 => h9) rfl hin rfl (by decide +kernel) rfl rfl (Nat.le_of_ble_eq_true rfl) d_M_new_67 (fun H locs hP hD hS => ?_)
    have hP : va_P D classes [(h0, .inr (1, [.int (nI (kN p0)), .int (nI 0), .ref q1, .ref q2, .ref q3, .ref q4, .ref q5, .int (nI 0), .int (bv false)])), (q1, .inl (cA, 16, .inl (fun _ => nI 0))), (q2, .inl (cA, 16, .inl (fun _ => nI 0))), (q3, .inl (cA, 128, .inl (fun _ => nI 0))), (q4, .inl (cA, 16, .inl (fun _ => nI 0))), (q5, .inl (cA, 16, .inl (fun _ => nI 0)))] H := hP
    have hD : va_D A [(h0, .inr (1, [.int (nI (kN p0)), .int (nI 0), .ref q1, .ref q2, .ref q3, .ref q4, .ref q5, .int (nI 0), .int (bv false)])), (q1, .inl (cA, 16, .inl (fun _ => nI 0))), (q2, .inl (cA, 16, .inl (fun _ => nI 0))), (q3, .inl (cA, 128, .inl (fun _ => nI 0))), (q4, .inl (cA, 16, .inl (fun _ => nI 0))), (q5, .inl (cA, 16, .inl (fun _ => nI 0)))] := hD
    refine lv_aload_n (pc := 70) hx hb d_M_new_70 rfl (lv_at hl 0 rfl) ?_
    refine lv_iload_n (pc := 71) hx hb d_M_new_71 rfl (lv_at hl 2 rfl) ?_
    refine lv_iconst (pc := 72) (v := nI 1) hx hb d_M_new_72 (by decide) ?_
    refine lv_icmp_ge (pc := 73) (tgt := 80) hx hb d_M_new_73 (by decide) (fun c1 => ?_) (fun c1 => ?_)
    · refine lv_iload_n (pc := 80) hx hb d_M_new_80 rfl (lv_at hl 2 rfl) ?_
      refine lv_bipush (pc := 81) (v := nI 8) hx hb d_M_new_81 (by decide) ?_
      refine lv_icmp_le (pc := 83) (tgt := 91) hx hb d_M_new_83 (by decide) (fun c2 => ?_) (fun c2 => ?_)
      · refine lv_iload_n (pc := 91) hx hb d_M_new_91 rfl (lv_at hl 2 rfl) ?_
        rw [kC_mid c1 c2]
        exact kB H locs hP hD hS
      · refine lv_bipush (pc := 86) (v := nI 8) hx hb d_M_new_86 (by decide) ?_
        refine lv_goto (pc := 88) (tgt := 92) hx hb d_M_new_88 (by decide) ?_
        rw [kC_hi c1 c2]
        exact kB H locs hP hD hS
    · refine lv_iconst (pc := 76) (v := nI 1) hx hb d_M_new_76 (by decide) ?_
      refine lv_goto (pc := 77) (tgt := 92) hx hb d_M_new_77 (by decide) ?_
      rw [kC_lo c1]
      exact kB H locs hP hD hS
  refine lv_aload_n (pc := 45) hx hb d_M_new_45 rfl (lv_at hl 0 rfl) ?_
  refine lv_iload_n (pc := 46) hx hb d_M_new_46 rfl (lv_at hl 1 rfl) ?_
  refine lv_iconst (pc := 47) (v := nI 2) hx hb d_M_new_47 (by decide) ?_
  refine lv_icmp_ge (pc := 48) (tgt := 55) hx hb d_M_new_48 (by decide) (fun c1 => ?_) (fun c1 => ?_)
  · refine lv_iload_n (pc := 55) hx hb d_M_new_55 rfl (lv_at hl 1 rfl) ?_
    refine lv_bipush (pc := 56) (v := nI 16) hx hb d_M_new_56 (by decide) ?_
    refine lv_icmp_le (pc := 58) (tgt := 66) hx hb d_M_new_58 (by decide) (fun c2 => ?_) (fun c2 => ?_)
    · refine lv_iload_n (pc := 66) hx hb d_M_new_66 rfl (lv_at hl 1 rfl) ?_
      rw [kN_mid c1 c2]
      exact kA H locs hP hD hS
    · refine lv_bipush (pc := 61) (v := nI 16) hx hb d_M_new_61 (by decide) ?_
      refine lv_goto (pc := 63) (tgt := 67) hx hb d_M_new_63 (by decide) ?_
      rw [kN_hi c1 c2]
      exact kA H locs hP hD hS
  · refine lv_iconst (pc := 51) (v := nI 2) hx hb d_M_new_51 (by decide) ?_
    refine lv_goto (pc := 52) (tgt := 67) hx hb d_M_new_52 (by decide) ?_
    rw [kN_lo c1]
    exact kA H locs hP hD hS
set_option maxHeartbeats 4000000 in
set_option maxRecDepth 100000 in
/-- the constructor: its cells come at h, h 0 the object -/
theorem c_M_new (l : Launch) (D : va_G) (cA : ClassId) (h0 sz : Nat) (p0 p1 : Int32) : Met l y_M_new (Cond.code y_M_new b_M_new 3 none :: lw_gt) ({ frames := 1, cells := 5, slots := 192, locals := 30 }) (va_Pc [.ref h0, .int p0, .int p1] (inW D cA [(h0, .inr (1, [.int (nI 0), .int (nI 0), .null, .null, .null, .null, .null, .int (nI 0), .int (bv false)]))] sz)) (va_Qv (fun u : SM => u = (fun _ => 0, fun _ => 0, fun _ => nI 0, fun _ => 0, fun _ => nI 0, none, false)) (fun u t => ∃ h : Nat → Nat, h 0 = h0 ∧ atW D cA (va_A [(h0, .inr (1, [.int (nI 0), .int (nI 0), .null, .null, .null, .null, .null, .int (nI 0), .int (bv false)]))] sz) (wM cA h (kN p0) (kC p1) u) t) (va_A [(h0, .inr (1, [.int (nI 0), .int (nI 0), .null, .null, .null, .null, .null, .int (nI 0), .int (bv false)]))] sz)) 5 192 (va_A [(h0, .inr (1, [.int (nI 0), .int (nI 0), .null, .null, .null, .null, .null, .int (nI 0), .int (bv false)]))] sz) := by
  refine Met.ofW (cc := b_M_new) (maxL := 3) (ret := none) (by decide) rfl ?_
  intro p e s m args below meth c s₁ B hml hv
  obtain ⟨rfl, hsz, hP, hK, hD0⟩ := hv
  have hx := B.exec
  have hb := B.bytes
  have hr := B.returns
  have hts0 := atoms_spec (ws := Cond.code y_M_new b_M_new 3 none :: lw_gt) B.pre
  have hts : ∀ w ∈ lw_gt, w.before _ s = true := fun w hw => hts0 w (List.mem_cons_of_mem _ hw)
  have hown : s.vm.findClass R_M = some m.cls := findClass_of_methodNamed B.named
  have hlk := B.notSynchronized
  have hin : meth.name = "<init>" := (name_of_methodNamed B.named B.method).1
  subst hsz
  have hD := hD0.self (sz := s.heap.size)
  generalize hAe : va_A [(h0, .inr (1, [.int (nI 0), .int (nI 0), .null, .null, .null, .null, .null, .int (nI 0), .int (bv false)]))] s.heap.size = A at hD ⊢
  have hA : ∀ q : Nat, s.heap.size ≤ q → A q := fun q h => by rw [← hAe]; exact Or.inr h
  have hS : va_S A s.heap s.heap [] := va_S.rf
  have hl := lv_entry ([.ref h0, .int p0, .int p1]) (n := 3) (Nat.le_of_ble_eq_true rfl)
  rw [lg_entry_eq]
  generalize (lg_sl ([.ref h0, .int p0, .int p1]) ++ List.replicate (3 - (lg_sl ([.ref h0, .int p0, .int p1])).length) Slot.unset).toArray = ls at hl ⊢
  have hl : lv_has ls 3 [(0, .ref h0), (1, .int p0), (2, .int p1)] := hl
  refine lv_aload_n (pc := 0) hx hb d_M_new_0 rfl (lv_at hl 0 rfl) ?_
  refine W.objInit hx hb hown (hts _ tw_131) (hts _ tw_9) (hts _ tw_10) rfl (by rw [hml]; exact hl.1) rfl d_M_new_1 (Nat.le_of_ble_eq_true rfl) (Nat.le_of_ble_eq_true rfl) ?_
  refine W.eq (g2 := F0 m 4 ls []) rfl ?_
  refine lv_aload_n (pc := 4) hx hb d_M_new_4 rfl (lv_at hl 0 rfl) ?_
  refine lv_bipush (pc := 5) (v := nI 16) hx hb d_M_new_5 (by decide) ?_
  refine va_newa (pc := 7) (atype := .int) (ty := .int) hx hb (hts _ tw_42) rfl hK hP hD hS hA (a0 := (16, .inl (fun _ => nI 0))) (newz 16) (by decide) (by decide) (by decide) (Nat.le_of_ble_eq_true rfl) (Nat.le_of_ble_eq_true rfl) d_M_new_7 (fun q1 cB H hK2 hP hD hS => ?_)
  obtain rfl : cA = cB := Option.some.inj ((hK2.2 0 _ rfl).2.symm.trans (hK2.2 1 _ rfl).2)
  have hP : va_P D classes [(h0, .inr (1, [.int (nI 0), .int (nI 0), .null, .null, .null, .null, .null, .int (nI 0), .int (bv false)])), (q1, .inl (cA, 16, .inl (fun _ => nI 0)))] H := hP
  have hD : va_D A [(h0, .inr (1, [.int (nI 0), .int (nI 0), .null, .null, .null, .null, .null, .int (nI 0), .int (bv false)])), (q1, .inl (cA, 16, .inl (fun _ => nI 0)))] := hD
  refine va_putF (pc := 9) (D := D) (ci := 1) (v := .ref q1) (ty := .array .int) (C := R_M) (T := F_M) (N := 9) hx hb hts i_M t_M t_M_ok n_M hown hK hP hD hS 0 rfl rfl 2 (by decide) (hts _ tw_138) (fun _ h9 => h9) rfl hin rfl (by decide +kernel) rfl rfl (Nat.le_of_ble_eq_true rfl) d_M_new_9 (fun H locs hP hD hS => ?_)
  have hP : va_P D classes [(h0, .inr (1, [.int (nI 0), .int (nI 0), .ref q1, .null, .null, .null, .null, .int (nI 0), .int (bv false)])), (q1, .inl (cA, 16, .inl (fun _ => nI 0)))] H := hP
  have hD : va_D A [(h0, .inr (1, [.int (nI 0), .int (nI 0), .ref q1, .null, .null, .null, .null, .int (nI 0), .int (bv false)])), (q1, .inl (cA, 16, .inl (fun _ => nI 0)))] := hD
  refine lv_aload_n (pc := 12) hx hb d_M_new_12 rfl (lv_at hl 0 rfl) ?_
  refine lv_bipush (pc := 13) (v := nI 16) hx hb d_M_new_13 (by decide) ?_
  refine va_newa (pc := 15) (atype := .int) (ty := .int) hx hb (hts _ tw_42) rfl hK hP hD hS hA (a0 := (16, .inl (fun _ => nI 0))) (newz 16) (by decide) (by decide) (by decide) (Nat.le_of_ble_eq_true rfl) (Nat.le_of_ble_eq_true rfl) d_M_new_15 (fun q2 cB H hK2 hP hD hS => ?_)
  obtain rfl : cA = cB := Option.some.inj ((hK2.2 0 _ rfl).2.symm.trans (hK2.2 1 _ rfl).2)
  have hP : va_P D classes [(h0, .inr (1, [.int (nI 0), .int (nI 0), .ref q1, .null, .null, .null, .null, .int (nI 0), .int (bv false)])), (q1, .inl (cA, 16, .inl (fun _ => nI 0))), (q2, .inl (cA, 16, .inl (fun _ => nI 0)))] H := hP
  have hD : va_D A [(h0, .inr (1, [.int (nI 0), .int (nI 0), .ref q1, .null, .null, .null, .null, .int (nI 0), .int (bv false)])), (q1, .inl (cA, 16, .inl (fun _ => nI 0))), (q2, .inl (cA, 16, .inl (fun _ => nI 0)))] := hD
  refine va_putF (pc := 17) (D := D) (ci := 1) (v := .ref q2) (ty := .array .int) (C := R_M) (T := F_M) (N := 9) hx hb hts i_M t_M t_M_ok n_M hown hK hP hD hS 0 rfl rfl 3 (by decide) (hts _ tw_139) (fun _ h9 => h9) rfl hin rfl (by decide +kernel) rfl rfl (Nat.le_of_ble_eq_true rfl) d_M_new_17 (fun H locs hP hD hS => ?_)
  have hP : va_P D classes [(h0, .inr (1, [.int (nI 0), .int (nI 0), .ref q1, .ref q2, .null, .null, .null, .int (nI 0), .int (bv false)])), (q1, .inl (cA, 16, .inl (fun _ => nI 0))), (q2, .inl (cA, 16, .inl (fun _ => nI 0)))] H := hP
  have hD : va_D A [(h0, .inr (1, [.int (nI 0), .int (nI 0), .ref q1, .ref q2, .null, .null, .null, .int (nI 0), .int (bv false)])), (q1, .inl (cA, 16, .inl (fun _ => nI 0))), (q2, .inl (cA, 16, .inl (fun _ => nI 0)))] := hD
  refine lv_aload_n (pc := 20) hx hb d_M_new_20 rfl (lv_at hl 0 rfl) ?_
  refine lv_sipush (pc := 21) (v := nI 128) hx hb d_M_new_21 (by decide) ?_
  refine va_newa (pc := 24) (atype := .int) (ty := .int) hx hb (hts _ tw_42) rfl hK hP hD hS hA (a0 := (128, .inl (fun _ => nI 0))) (newz 128) (by decide) (by decide) (by decide) (Nat.le_of_ble_eq_true rfl) (Nat.le_of_ble_eq_true rfl) d_M_new_24 (fun q3 cB H hK2 hP hD hS => ?_)
  obtain rfl : cA = cB := Option.some.inj ((hK2.2 0 _ rfl).2.symm.trans (hK2.2 1 _ rfl).2)
  have hP : va_P D classes [(h0, .inr (1, [.int (nI 0), .int (nI 0), .ref q1, .ref q2, .null, .null, .null, .int (nI 0), .int (bv false)])), (q1, .inl (cA, 16, .inl (fun _ => nI 0))), (q2, .inl (cA, 16, .inl (fun _ => nI 0))), (q3, .inl (cA, 128, .inl (fun _ => nI 0)))] H := hP
  have hD : va_D A [(h0, .inr (1, [.int (nI 0), .int (nI 0), .ref q1, .ref q2, .null, .null, .null, .int (nI 0), .int (bv false)])), (q1, .inl (cA, 16, .inl (fun _ => nI 0))), (q2, .inl (cA, 16, .inl (fun _ => nI 0))), (q3, .inl (cA, 128, .inl (fun _ => nI 0)))] := hD
  refine va_putF (pc := 26) (D := D) (ci := 1) (v := .ref q3) (ty := .array .int) (C := R_M) (T := F_M) (N := 9) hx hb hts i_M t_M t_M_ok n_M hown hK hP hD hS 0 rfl rfl 4 (by decide) (hts _ tw_140) (fun _ h9 => h9) rfl hin rfl (by decide +kernel) rfl rfl (Nat.le_of_ble_eq_true rfl) d_M_new_26 (fun H locs hP hD hS => ?_)
  have hP : va_P D classes [(h0, .inr (1, [.int (nI 0), .int (nI 0), .ref q1, .ref q2, .ref q3, .null, .null, .int (nI 0), .int (bv false)])), (q1, .inl (cA, 16, .inl (fun _ => nI 0))), (q2, .inl (cA, 16, .inl (fun _ => nI 0))), (q3, .inl (cA, 128, .inl (fun _ => nI 0)))] H := hP
  have hD : va_D A [(h0, .inr (1, [.int (nI 0), .int (nI 0), .ref q1, .ref q2, .ref q3, .null, .null, .int (nI 0), .int (bv false)])), (q1, .inl (cA, 16, .inl (fun _ => nI 0))), (q2, .inl (cA, 16, .inl (fun _ => nI 0))), (q3, .inl (cA, 128, .inl (fun _ => nI 0)))] := hD
  refine lv_aload_n (pc := 29) hx hb d_M_new_29 rfl (lv_at hl 0 rfl) ?_
  refine lv_bipush (pc := 30) (v := nI 16) hx hb d_M_new_30 (by decide) ?_
  refine va_newa (pc := 32) (atype := .int) (ty := .int) hx hb (hts _ tw_42) rfl hK hP hD hS hA (a0 := (16, .inl (fun _ => nI 0))) (newz 16) (by decide) (by decide) (by decide) (Nat.le_of_ble_eq_true rfl) (Nat.le_of_ble_eq_true rfl) d_M_new_32 (fun q4 cB H hK2 hP hD hS => ?_)
  obtain rfl : cA = cB := Option.some.inj ((hK2.2 0 _ rfl).2.symm.trans (hK2.2 1 _ rfl).2)
  have hP : va_P D classes [(h0, .inr (1, [.int (nI 0), .int (nI 0), .ref q1, .ref q2, .ref q3, .null, .null, .int (nI 0), .int (bv false)])), (q1, .inl (cA, 16, .inl (fun _ => nI 0))), (q2, .inl (cA, 16, .inl (fun _ => nI 0))), (q3, .inl (cA, 128, .inl (fun _ => nI 0))), (q4, .inl (cA, 16, .inl (fun _ => nI 0)))] H := hP
  have hD : va_D A [(h0, .inr (1, [.int (nI 0), .int (nI 0), .ref q1, .ref q2, .ref q3, .null, .null, .int (nI 0), .int (bv false)])), (q1, .inl (cA, 16, .inl (fun _ => nI 0))), (q2, .inl (cA, 16, .inl (fun _ => nI 0))), (q3, .inl (cA, 128, .inl (fun _ => nI 0))), (q4, .inl (cA, 16, .inl (fun _ => nI 0)))] := hD
  refine va_putF (pc := 34) (D := D) (ci := 1) (v := .ref q4) (ty := .array .int) (C := R_M) (T := F_M) (N := 9) hx hb hts i_M t_M t_M_ok n_M hown hK hP hD hS 0 rfl rfl 5 (by decide) (hts _ tw_141) (fun _ h9 => h9) rfl hin rfl (by decide +kernel) rfl rfl (Nat.le_of_ble_eq_true rfl) d_M_new_34 (fun H locs hP hD hS => ?_)
  have hP : va_P D classes [(h0, .inr (1, [.int (nI 0), .int (nI 0), .ref q1, .ref q2, .ref q3, .ref q4, .null, .int (nI 0), .int (bv false)])), (q1, .inl (cA, 16, .inl (fun _ => nI 0))), (q2, .inl (cA, 16, .inl (fun _ => nI 0))), (q3, .inl (cA, 128, .inl (fun _ => nI 0))), (q4, .inl (cA, 16, .inl (fun _ => nI 0)))] H := hP
  have hD : va_D A [(h0, .inr (1, [.int (nI 0), .int (nI 0), .ref q1, .ref q2, .ref q3, .ref q4, .null, .int (nI 0), .int (bv false)])), (q1, .inl (cA, 16, .inl (fun _ => nI 0))), (q2, .inl (cA, 16, .inl (fun _ => nI 0))), (q3, .inl (cA, 128, .inl (fun _ => nI 0))), (q4, .inl (cA, 16, .inl (fun _ => nI 0)))] := hD
  refine lv_aload_n (pc := 37) hx hb d_M_new_37 rfl (lv_at hl 0 rfl) ?_
  refine lv_bipush (pc := 38) (v := nI 16) hx hb d_M_new_38 (by decide) ?_
  refine va_newa (pc := 40) (atype := .int) (ty := .int) hx hb (hts _ tw_42) rfl hK hP hD hS hA (a0 := (16, .inl (fun _ => nI 0))) (newz 16) (by decide) (by decide) (by decide) (Nat.le_of_ble_eq_true rfl) (Nat.le_of_ble_eq_true rfl) d_M_new_40 (fun q5 cB H hK2 hP hD hS => ?_)
  obtain rfl : cA = cB := Option.some.inj ((hK2.2 0 _ rfl).2.symm.trans (hK2.2 1 _ rfl).2)
  have hP : va_P D classes [(h0, .inr (1, [.int (nI 0), .int (nI 0), .ref q1, .ref q2, .ref q3, .ref q4, .null, .int (nI 0), .int (bv false)])), (q1, .inl (cA, 16, .inl (fun _ => nI 0))), (q2, .inl (cA, 16, .inl (fun _ => nI 0))), (q3, .inl (cA, 128, .inl (fun _ => nI 0))), (q4, .inl (cA, 16, .inl (fun _ => nI 0))), (q5, .inl (cA, 16, .inl (fun _ => nI 0)))] H := hP
  have hD : va_D A [(h0, .inr (1, [.int (nI 0), .int (nI 0), .ref q1, .ref q2, .ref q3, .ref q4, .null, .int (nI 0), .int (bv false)])), (q1, .inl (cA, 16, .inl (fun _ => nI 0))), (q2, .inl (cA, 16, .inl (fun _ => nI 0))), (q3, .inl (cA, 128, .inl (fun _ => nI 0))), (q4, .inl (cA, 16, .inl (fun _ => nI 0))), (q5, .inl (cA, 16, .inl (fun _ => nI 0)))] := hD
  refine va_putF (pc := 42) (D := D) (ci := 1) (v := .ref q5) (ty := .array .int) (C := R_M) (T := F_M) (N := 9) hx hb hts i_M t_M t_M_ok n_M hown hK hP hD hS 0 rfl rfl 6 (by decide) (hts _ tw_142) (fun _ h9 => h9) rfl hin rfl (by decide +kernel) rfl rfl (Nat.le_of_ble_eq_true rfl) d_M_new_42 (fun H locs hP hD hS => ?_)
  have hP : va_P D classes [(h0, .inr (1, [.int (nI 0), .int (nI 0), .ref q1, .ref q2, .ref q3, .ref q4, .ref q5, .int (nI 0), .int (bv false)])), (q1, .inl (cA, 16, .inl (fun _ => nI 0))), (q2, .inl (cA, 16, .inl (fun _ => nI 0))), (q3, .inl (cA, 128, .inl (fun _ => nI 0))), (q4, .inl (cA, 16, .inl (fun _ => nI 0))), (q5, .inl (cA, 16, .inl (fun _ => nI 0)))] H := hP
  have hD : va_D A [(h0, .inr (1, [.int (nI 0), .int (nI 0), .ref q1, .ref q2, .ref q3, .ref q4, .ref q5, .int (nI 0), .int (bv false)])), (q1, .inl (cA, 16, .inl (fun _ => nI 0))), (q2, .inl (cA, 16, .inl (fun _ => nI 0))), (q3, .inl (cA, 128, .inl (fun _ => nI 0))), (q4, .inl (cA, 16, .inl (fun _ => nI 0))), (q5, .inl (cA, 16, .inl (fun _ => nI 0)))] := hD
  refine W.widen (k := 5) (n := 192) (Nat.le_of_ble_eq_true rfl) (Nat.le_of_ble_eq_true rfl) ?_
  refine M_new_tail hin ⟨hx, hb, hr, hlk, hml, hown, hts, hK, hA⟩ hP hD hS hl (fun H locs hP hD hS => ?_)
  obtain ⟨h, eh⟩ : ∃ h : Nat → Nat, h = fun i => match i with | 0 => h0 | 1 => q1 | 2 => q2 | 3 => q3 | 4 => q4 | _ => q5 := ⟨_, rfl⟩
  have hP : va_P D classes (wM cA h (kN p0) (kC p1) (fun _ => 0, fun _ => 0, fun _ => nI 0, fun _ => 0, fun _ => nI 0, some 0, false)) H := by rw [eh]; exact hP
  have hD : va_D A (wM cA h (kN p0) (kC p1) (fun _ => 0, fun _ => 0, fun _ => nI 0, fun _ => 0, fun _ => nI 0, some 0, false)) := by rw [eh]; exact hD
  have e0 : h 0 = h0 := by rw [eh]; rfl
  rw [← e0] at hl
  refine lv_aload_n (pc := 95) hx hb d_M_new_95 rfl (lv_at hl 0 rfl) ?_
  refine cllV (pc := 96) (As := []) (rest := []) (wr := []) hx hb hml hown hts hK hP hD hS hA hl.1 (c_M_init l D cA h H.size (kN p0) (kC p1) (fun _ => 0) (fun _ => 0) (fun _ => nI 0) (fun _ => 0) (fun _ => nI 0) (some 0) false) [0, 1, 2, 3, 4, 5] [] rfl rfl (by decide) (by decide) (by decide) rfl rfl rfl (goodV tw_132 tw_133 tw_134 tw_2 tw_135) (na := 0) (by decide +kernel) rfl ⟨rfl, rfl, Nat.le_of_ble_eq_true rfl, Nat.le_of_ble_eq_true rfl⟩ (Nat.le_of_ble_eq_true rfl) ⟨Nat.le_of_ble_eq_true rfl, Nat.le_of_ble_eq_true rfl⟩ rfl d_M_new_96 (fun u H locs hw hP hD hS => ?_)
  obtain rfl := hw
  rw [zr_c, zrI_c] at hP hD
  have hP : va_P D classes (wM cA h (kN p0) (kC p1) (fun _ => 0, fun _ => 0, fun _ => nI 0, fun _ => 0, fun _ => nI 0, none, false)) H := hP
  have hD : va_D A (wM cA h (kN p0) (kC p1) (fun _ => 0, fun _ => 0, fun _ => nI 0, fun _ => 0, fun _ => nI 0, none, false)) := hD
  exact W.vret hx hb hr (fun t ht hW => ⟨⟨(fun _ => 0, fun _ => 0, fun _ => nI 0, fun _ => 0, fun _ => nI 0, none, false), rfl, rfl, h, e0, by rw [ht]; exact hP, va_K.moved hW.alike hK, hD⟩, hS.F ht⟩) hS.2.2 d_M_new_99 hlk
set_option maxHeartbeats 4000000 in
set_option maxRecDepth 100000 in
/-- cell(s, k): s[k], or 0 -/
theorem c_L_cell (l : Launch) (b L : Nat) (xs : Nat → Int32) (sz k : Nat) (hL : L < 2 ^ 31) (hk : k < 2 ^ 31) : Met l y_L_cell (Cond.code y_L_cell b_L_cell 2 (some .int) :: lw_gt) rq0 (va_Pc [.ref b, .int (nI k)] (fun U => U.heap.size = sz ∧ va_X b L xs U U.heap ∧ b < sz)) (va_Qi (fun (r : Int32) (_ : Unit) => r = if k < L then xs k else nI 0) (fun _ _ => True) (va_A [] sz)) 0 0 (va_A [] sz) := by
  refine Met.ofW (cc := b_L_cell) (maxL := 2) (ret := (some .int)) (by decide) rfl ?_
  intro p e s m args below meth c s₁ B hml hv
  obtain ⟨rfl, hsz, hX, hbl⟩ := hv
  have hx := B.exec
  have hb := B.bytes
  have hr := B.returns
  have hlk := B.notSynchronized
  subst hsz
  have hS : va_S (va_A [] s.heap.size) s.heap s.heap [] := va_S.rf
  have hbA : ¬ va_A [] s.heap.size b := by
    intro q
    rcases q with ⟨k, e, z⟩ | z
    · simp at z
    · omega
  have hl := lv_entry ([.ref b, .int (nI k)]) (n := 2) (Nat.le_of_ble_eq_true rfl)
  rw [lg_entry_eq]
  generalize (lg_sl ([.ref b, .int (nI k)]) ++ List.replicate (2 - (lg_sl ([.ref b, .int (nI k)])).length) Slot.unset).toArray = ls at hl ⊢
  have hl : lv_has ls 2 [(0, .ref b), (1, .int (nI k))] := hl
  refine lv_iload_n (pc := 0) hx hb d_L_cell_0 rfl (lv_at hl 1 rfl) ?_
  refine lv_aload_n (pc := 1) hx hb d_L_cell_1 rfl (lv_at hl 0 rfl) ?_
  refine va_slen (pc := 2) hx hb hX hbl hbA hS d_L_cell_2 ?_
  refine nv_icmp_ge (pc := 3) (tgt := 12) (x := k) (y := L) hx hb hk hL d_L_cell_3 (by decide) (fun c_3 => ?_) (fun c_3 => ?_)
  · refine lv_iconst (pc := 12) (v := nI 0) hx hb d_L_cell_12 (by decide) ?_
    exact W.iret (v := nI 0) hx hb hr (fun t ht hW => ⟨⟨nI 0, (), rfl, by rw [if_neg (by omega)], trivial⟩, hS.F ht⟩) hS.2.2 d_L_cell_13 hlk
  · refine lv_aload_n (pc := 6) hx hb d_L_cell_6 rfl (lv_at hl 0 rfl) ?_
    refine lv_iload_n (pc := 7) hx hb d_L_cell_7 rfl (lv_at hl 1 rfl) ?_
    refine va_sld (pc := 8) hx hb hX hbl hbA hS (vp_in_nI c_3 hL) d_L_cell_8 ?_
    refine lv_goto (pc := 9) (tgt := 13) hx hb d_L_cell_9 (by decide) ?_
    rw [nI_clamp hk]
    exact W.iret (v := xs k) hx hb hr (fun t ht hW => ⟨⟨xs k, (), rfl, by rw [if_pos c_3], trivial⟩, hS.F ht⟩) hS.2.2 d_L_cell_13 hlk
end
section
/-! THE CLAIM OUT OF ONE WALK OF THE LAW'S BODY. Your part is whole_start (and what it stands on); all else here is the same for every law, but numbers. -/
def lw_P (b : Addr) (xs : List Int32) (args : Array Value) (s : State) : Prop := args = #[.ref b] ∧ s.IntsAt b xs ∧ xs.length ≤ 1538 ∧ (Jvm.Cond.and given_1 narrow_1).before args s = true
def lw_Q (_ : Array Value) (s : State) (o : Outcome) (t : State) : Prop := o = .returned (some (.int 1)) ∧ Framed s o t [] 13 419
def lw_Z (below : List Frame) (a : Array Value) (s : State) : State → Prop := fun t => ∃ o, t.status = .running ∧ Ended t below o ∧ lw_Q a s o t
/-- the law's own end, with 1 on the stack, nothing written that was there before, its room as the claim has it -/
theorem lw_ret {p : Program} {l : Launch} {e : Env} {s : State} {m : MethodId} {below : List Frame} {meth : Method} {c : Code} {b : Nat} (hx : p.tables.exec = Jvm.exec) (hb : c.code = code) (hr : meth.sig.returnType = ret) (hlocks : meth.locks = false) {pc : Nat} {H : Heap} {ls : Array Slot} (hdg : decode code pc = .ok (.ireturn, 1)) : W p l e room_1 s m #[Value.ref b] below meth c H [] 13 419 (lw_Z below #[Value.ref b] s) (F0 m pc ls [.int 1]) := by
  intro T hT X
  obtain ⟨fs, hret, hrun, hended, hW, hframe⟩ := X.leave (v := some (.int 1)) (hlocks := hlocks) (fun h => by rw [hr] at h; cases h)
  have hmeth' : T.vm.method? m = some meth := X.method'
  refine ⟨T.setFrames fs, ?_, .returned (some (.int 1)), hrun, hended, rfl, ⟨_, rfl⟩, hW, hframe⟩
  jvm_step X.here [X.here.top, hx, hb, hdg, hmeth', hr, ret, narrow_b1]
  (try refine ⟨rfl, ?_⟩); (try refine ⟨rfl, ?_⟩)
  first | (intro acts; rw [hret _ acts rfl rfl rfl]) | rw [hret _ _ rfl rfl rfl]
  exact Steps.refl _
/-- what holds at the law's entry: the machine, the code, the tables' words (any of lw_tbl by 'hts w (by decide +kernel)'), the script of L ints xs at the cell b, what the Statement gives of the start (any of its parts by flat_of_before) -/
def lw_At (p : Program) (s : State) (m : MethodId) (meth : Method) (c : Code) (b L : Nat) (xs : Nat → Int32) : Prop :=
  p.tables.exec = Jvm.exec ∧ c.code = code ∧ meth.sig.returnType = ret ∧ c.maxLocals = 4 ∧ s.vm.findClass R_law = some m.cls ∧ (∀ w ∈ lw_tbl, w.before #[Value.ref b] s = true) ∧ va_X b L xs s s.heap ∧ b < s.heap.size ∧ meth.locks = false ∧ (Jvm.Cond.and given_1 narrow_1).before #[Value.ref b] s = true
abbrev A0 (s : State) : Nat → Prop := fun q => s.heap.size ≤ q
abbrev wXM (cA : ClassId) (h g : Nat → Nat) (N C : Nat) (x : SX) (y : SM) : va_W := wX cA h N C x ++ wM cA g N C y
theorem goodS {own : String} {idx n : Nat} {y : MethodName} {b : ByteArray} {ret : Option FieldType} (h1 : Cond.methodLink own idx y ∈ lw_gt) (h2 : Cond.static y ∈ lw_gt) (h4 : Cond.initialized own ∈ lw_gt) (h5 : Cond.code y b n ret ∈ lw_gt) : GoodIn lw_gt (wsS own idx y (Cond.code y b n ret :: lw_gt)) := by
  have key : ∀ w ∈ wsS own idx y (Cond.code y b n ret :: lw_gt), w ∈ lw_gt := by
    intro w hw
    simp only [wsS, List.mem_append, List.mem_cons, List.not_mem_nil, or_false] at hw
    rcases hw with (rfl | rfl | rfl) | rfl | hw
    · exact h1
    · exact h2
    · exact h4
    · exact h5
    · exact hw
  exact fun w hw => ⟨key w hw, good_of_word (lw_good w (key w hw))⟩
theorem goodC {n : Nat} {y : MethodName} {b : ByteArray} {ret : Option FieldType} (h5 : Cond.code y b n ret ∈ lw_gt) : GoodIn lw_gt (Cond.code y b n ret :: lw_gt) := by
  have key : ∀ w ∈ (Cond.code y b n ret :: lw_gt), w ∈ lw_gt := by
    intro w hw
    rcases List.mem_cons.mp hw with rfl | hw
    · exact h5
    · exact hw
  exact fun w hw => ⟨key w hw, good_of_word (lw_good w (key w hw))⟩
section LR
variable {p : Program} {l : Launch} {e : Env} {R : Room} {s : State} {m : MethodId} {args : Array Value} {below : List Frame} {meth : Method} {c : Code} {H : Heap} {locs : List Loc} {cells slots : Nat} {Q : State → Prop}
variable {cc : ByteArray} {pc : Nat} {ls : Array Slot} {rest st0 : List Value} {D : va_G} {ws : va_W}
theorem nv_sld {A : Nat → Prop} {H0 : Heap} (hx : p.tables.exec = Jvm.exec) (hb : c.code = cc) {b L : Nat} {xs : Nat → Int32} (hX : va_X b L xs s H0) (hbl : b < H0.size) (hbA : ¬ A b) (hS : va_S A H0 H locs) {j : Nat} (hj : j < L) (hL : L < 2 ^ 31) (hdg : decode cc pc = .ok (.iaload, 1))
    (kk : W p l e R s m args below meth c H locs cells slots Q (F0 m (pc + 1) ls (.int (xs j) :: rest))) : W p l e R s m args below meth c H locs cells slots Q (F0 m pc ls (.int (nI j) :: .ref b :: rest)) :=
  va_sld hx hb hX hbl hbA hS (vp_in_nI hj hL) hdg (by rw [nI_clamp (Nat.lt_trans hj hL)]; exact kk)
theorem clCell {nL : Nat} (hx : p.tables.exec = Jvm.exec) (hb : c.code = cc) (hml : c.maxLocals = nL) (hown : s.vm.findClass R_law = some m.cls) (hts : ∀ w ∈ lw_gt, w.before args s = true) {b L : Nat} {xs : Nat → Int32} (hX : va_X b L xs s s.heap) (hbl : b < s.heap.size) (hL : L < 2 ^ 31)
    (hP : va_P D classes ws H) (hS : va_S (A0 s) s.heap H locs) (hl : ls.size = nL) (k : Nat) (hk : k < 2 ^ 31) (hR : 1 ≤ R.frames ∧ 21 ≤ R.locals) (hroom : (rest.map fun v => v.category).sum ≤ 8) (hf : cells ≤ R.cells ∧ slots ≤ R.slots) (hst : st0 = [.int (nI k), .ref b] ++ rest)
    (hdg : decode cc pc = .ok (.invokestatic 9, 3))
    (kk : ∀ (H1 : Heap) (locs1 : List Loc), va_P D classes ws H1 → va_S (A0 s) s.heap H1 locs1 → W p l e R s m args below meth c H1 locs1 cells slots Q (F0 m (pc + 3) ls (.int (if k < L then xs k else nI 0) :: rest))) :
    W p l e R s m args below meth c H locs cells slots Q (F0 m pc ls st0) := by
  have hbA : ¬ (A0 s) b := Nat.not_le.mpr hbl
  have hFc : ∀ q, va_A [] H.size q → A0 s q := by
    intro q h
    rcases h with ⟨k, e, z⟩ | z
    · simp at z
    · exact Nat.le_trans hS.1 z
  refine va_calli (va_runS (own := R_law) (index := 9) (As := [.ref b, .int (nI k)]) (rest := rest) ⟨hx, hb, hml, hown, hts⟩ (c_L_cell l b L xs H.size k hL hk) (cwS 2 hts (goodS tw_123 tw_124 tw_0 tw_125) rfl rfl rfl (by decide +kernel) hR) ⟨fun a U g mk q => by obtain ⟨q0, q1, qX, qb⟩ := q; exact ⟨q0, q1, va_X.moved (u := U) (U := U.calling g mk a) (Vm.Alike.refl U.vm) qX, qb⟩, fun U hU hW => ⟨rfl, by rw [hU], by rw [hU]; exact (hX.kept (hS.2.1 b hbl hbA)).moved hW.alike, Nat.lt_of_lt_of_le hbl hS.1⟩⟩ rfl rfl hl hst (lv_room hroom) hdg hf) hS (fun q _ h => hFc q h) hFc (fun r u t H1 locs1 ht hvm hw hB hz1 hk1 hS1 => ?_)
  obtain rfl : r = _ := hw
  refine kk H1 locs1 (hP.kept (fun k q hq => hk1 q.1 ((hP k q hq).lt) ?_)) hS1
  intro z
  rcases z with ⟨k2, e2, z⟩ | z
  · simp at z
  · exact absurd ((hP k q hq).lt) (Nat.not_lt.mpr z)
end LR
theorem law_ge {L i : Nat} (hL : L ≤ 1538) (hi : i ≤ L + 2) (h : ¬ (Int32.ofNat L - nI 3 < nI i)) : i + 3 ≤ L := by
  rw [Int32.lt_iff_toInt_lt, show Int32.ofNat L = nI L from rfl, pk_sub_toInt (by omega) (by decide), nI_toInt (by omega)] at h
  omega
end
section
set_option maxHeartbeats 4000000 in
set_option maxRecDepth 100000 in
theorem law_init {p : Program} {l : Launch} {e : Env} {s : State} {m : MethodId} {below : List Frame} {meth : Method} {c : Code} {D : va_G} {cA : ClassId} {h g : Nat → Nat} {N C b L : Nat} {xs : Nat → Int32} {st nx nx' : Nat → Nat} {fr fr' : Nat → Int32} {fi mn : Nat → Nat} {rc : Nat → Int32} {tk : Option Nat} {us us' : Bool} {i : Nat} {H : Heap} {locs : List Loc} {ls : Array Slot} (C0 : lw_At p s m meth c b L xs) (hL : L ≤ 1538) (hi : i + 3 ≤ L) (hK : va_K D classes [(cA, .int)] s) (hR : Rel N C (st, nx, fr, fi, mn, rc, tk, us) (st, nx', fr', mn, rc, tk, us')) (hP : va_P D classes (wXM cA h g N C (st, nx, fr, fi, mn, rc, tk, us) (st, nx', fr', mn, rc, tk, us')) H) (hD : va_D (A0 s) (wXM cA h g N C (st, nx, fr, fi, mn, rc, tk, us) (st, nx', fr', mn, rc, tk, us'))) (hS : va_S (A0 s) s.heap H locs) (hl : lv_has ls 4 [(0, .ref b), (1, .ref (h 0)), (2, .ref (g 0)), (3, .int (nI i))])
    (kk : ∀ (x : SX) (y : SM) (H : Heap) (locs : List Loc), Rel N C x y → va_P D classes (wXM cA h g N C x y) H → va_D (A0 s) (wXM cA h g N C x y) → va_S (A0 s) s.heap H locs → W p l e room_1 s m #[Value.ref b] below meth c H locs 13 419 (lw_Z below #[Value.ref b] s) (F0 m 394 ls [])) :
    W p l e room_1 s m #[Value.ref b] below meth c H locs 13 419 (lw_Z below #[Value.ref b] s) (F0 m 124 ls []) := by
  obtain ⟨hx, hb, hr, hml, hown, hts0, hX, hbl, hlocks, hgv⟩ := C0
  have hts : ∀ w ∈ lw_gt, w.before #[Value.ref b] s = true := fun w hw => hts0 w (lw_gtin w hw)
  have hA : ∀ q : Nat, s.heap.size ≤ q → A0 s q := fun _ h => h
  have hbA : ¬ (A0 s) b := Nat.not_le.mpr hbl
  obtain ⟨hN, hC, -, hst, hnx, hnx', hfi, hmn, htk, hag, hfr⟩ := id hR
  refine lv_aload_n (pc := 124) hx hb d_L_law_124 rfl (lv_at hl 1 rfl) ?_
  refine cllV (pc := 125) (As := []) (rest := []) (wr := wM cA g N C (st, nx', fr', mn, rc, tk, us')) hx hb hml hown hts hK hP hD hS hA hl.1 (c_X_init l D cA h H.size N C st nx fr fi mn rc tk us ) [0, 1, 2, 3, 4, 5, 6] [7, 8, 9, 10, 11, 12] rfl rfl (by decide) (by decide) (by decide) rfl rfl rfl (goodV tw_43 tw_44 tw_45 tw_1 tw_46) (na := 0) (by decide +kernel) rfl ⟨rfl, rfl, Nat.le_of_ble_eq_true rfl, Nat.le_of_ble_eq_true rfl⟩ (Nat.le_of_ble_eq_true rfl) ⟨Nat.le_of_ble_eq_true rfl, Nat.le_of_ble_eq_true rfl⟩ rfl d_L_law_125 (fun u H locs hw hP hD hS => ?_)
  obtain rfl := hw
  refine lv_aload_n (pc := 128) hx hb d_L_law_128 rfl (lv_at hl 2 rfl) ?_
  refine cllV (pc := 129) (As := []) (rest := []) (wr := wX cA h N C (zr 16 st, nx, fr, fi, zr 16 mn, zrI 16 rc, none, false)) hx hb hml hown hts hK hP hD hS hA hl.1 (c_M_init l D cA g H.size N C st nx' fr' mn rc tk us' ) [0, 1, 2, 3, 4, 5] [6, 7, 8, 9, 10, 11, 12] rfl rfl (by decide) (by decide) (by decide) rfl rfl rfl (goodV tw_164 tw_133 tw_134 tw_2 tw_135) (na := 0) (by decide +kernel) rfl ⟨rfl, rfl, Nat.le_of_ble_eq_true rfl, Nat.le_of_ble_eq_true rfl⟩ (Nat.le_of_ble_eq_true rfl) ⟨Nat.le_of_ble_eq_true rfl, Nat.le_of_ble_eq_true rfl⟩ rfl d_L_law_129 (fun u H locs hw hP hD hS => ?_)
  obtain rfl := hw
  refine lv_goto (pc := 132) (tgt := 394) hx hb d_L_law_132 (by decide) ?_
  exact kk _ _ H locs (r_init hR) hP hD hS
set_option maxHeartbeats 4000000 in
set_option maxRecDepth 100000 in
theorem law_powerOn {p : Program} {l : Launch} {e : Env} {s : State} {m : MethodId} {below : List Frame} {meth : Method} {c : Code} {D : va_G} {cA : ClassId} {h g : Nat → Nat} {N C b L : Nat} {xs : Nat → Int32} {st nx nx' : Nat → Nat} {fr fr' : Nat → Int32} {fi mn : Nat → Nat} {rc : Nat → Int32} {tk : Option Nat} {us us' : Bool} {i : Nat} {H : Heap} {locs : List Loc} {ls : Array Slot} (C0 : lw_At p s m meth c b L xs) (hL : L ≤ 1538) (hi : i + 3 ≤ L) (hK : va_K D classes [(cA, .int)] s) (hR : Rel N C (st, nx, fr, fi, mn, rc, tk, us) (st, nx', fr', mn, rc, tk, us')) (hP : va_P D classes (wXM cA h g N C (st, nx, fr, fi, mn, rc, tk, us) (st, nx', fr', mn, rc, tk, us')) H) (hD : va_D (A0 s) (wXM cA h g N C (st, nx, fr, fi, mn, rc, tk, us) (st, nx', fr', mn, rc, tk, us'))) (hS : va_S (A0 s) s.heap H locs) (hl : lv_has ls 4 [(0, .ref b), (1, .ref (h 0)), (2, .ref (g 0)), (3, .int (nI i))])
    (kk : ∀ (x : SX) (y : SM) (H : Heap) (locs : List Loc), Rel N C x y → va_P D classes (wXM cA h g N C x y) H → va_D (A0 s) (wXM cA h g N C x y) → va_S (A0 s) s.heap H locs → W p l e room_1 s m #[Value.ref b] below meth c H locs 13 419 (lw_Z below #[Value.ref b] s) (F0 m 394 ls [])) :
    W p l e room_1 s m #[Value.ref b] below meth c H locs 13 419 (lw_Z below #[Value.ref b] s) (F0 m 135 ls []) := by
  obtain ⟨hx, hb, hr, hml, hown, hts0, hX, hbl, hlocks, hgv⟩ := C0
  have hts : ∀ w ∈ lw_gt, w.before #[Value.ref b] s = true := fun w hw => hts0 w (lw_gtin w hw)
  have hA : ∀ q : Nat, s.heap.size ≤ q → A0 s q := fun _ h => h
  have hbA : ¬ (A0 s) b := Nat.not_le.mpr hbl
  obtain ⟨hN, hC, -, hst, hnx, hnx', hfi, hmn, htk, hag, hfr⟩ := id hR
  obtain ⟨a, ha⟩ := ixR_ex (N := N) (by omega) (xs (i + 1))
  refine lv_aload_n (pc := 135) hx hb d_L_law_135 rfl (lv_at hl 1 rfl) ?_
  refine lv_aload_n (pc := 136) hx hb d_L_law_136 rfl (lv_at hl 0 rfl) ?_
  refine lv_iload_n (pc := 137) hx hb d_L_law_137 rfl (lv_at hl 3 rfl) ?_
  refine lv_iconst (pc := 138) (v := nI 1) hx hb d_L_law_138 (by decide) ?_
  refine nv_iadd (pc := 139) (x := i) (y := 1) hx hb d_L_law_139 ?_
  refine nv_sld (pc := 140) (j := i + 1) hx hb hX hbl hbA hS (by omega) (by omega) d_L_law_140 ?_
  refine cllI (pc := 141) (As := [.int (xs (i + 1))]) (rest := []) (wr := wM cA g N C (st, nx', fr', mn, rc, tk, us')) hx hb hml hown hts hK hP hD hS hA hl.1 (c_X_powerOn l D cA h H.size N C st nx fr fi mn rc tk us (xs (i + 1)) a hN hst ha) [0, 1, 2, 3, 4, 5, 6] [7, 8, 9, 10, 11, 12] rfl rfl (by decide) (by decide) (by decide) rfl rfl rfl (goodV tw_47 tw_48 tw_49 tw_1 tw_50) (na := 1) (by decide +kernel) rfl ⟨rfl, rfl, Nat.le_of_ble_eq_true rfl, Nat.le_of_ble_eq_true rfl⟩ (Nat.le_of_ble_eq_true rfl) ⟨Nat.le_of_ble_eq_true rfl, Nat.le_of_ble_eq_true rfl⟩ rfl d_L_law_141 (fun r u H locs hw hP hD hS => ?_)
  obtain rfl : r = (X_powerOn st nx fr fi mn rc tk us a).1 := congrArg Prod.fst hw
  obtain rfl : u = (X_powerOn st nx fr fi mn rc tk us a).2 := congrArg Prod.snd hw
  refine lv_aload_n (pc := 144) hx hb d_L_law_144 rfl (lv_at hl 2 rfl) ?_
  refine lv_aload_n (pc := 145) hx hb d_L_law_145 rfl (lv_at hl 0 rfl) ?_
  refine lv_iload_n (pc := 146) hx hb d_L_law_146 rfl (lv_at hl 3 rfl) ?_
  refine lv_iconst (pc := 147) (v := nI 1) hx hb d_L_law_147 (by decide) ?_
  refine nv_iadd (pc := 148) (x := i) (y := 1) hx hb d_L_law_148 ?_
  refine nv_sld (pc := 149) (j := i + 1) hx hb hX hbl hbA hS (by omega) (by omega) d_L_law_149 ?_
  refine cllI (pc := 150) (As := [.int (xs (i + 1))]) (rest := [.int (X_powerOn st nx fr fi mn rc tk us a).1]) (wr := wX cA h N C ((X_powerOn st nx fr fi mn rc tk us a).2)) hx hb hml hown hts hK hP hD hS hA hl.1 (c_M_powerOn l D cA g H.size N C st nx' fr' mn rc tk us' (xs (i + 1)) a hN hst ha) [0, 1, 2, 3, 4, 5] [6, 7, 8, 9, 10, 11, 12] rfl rfl (by decide) (by decide) (by decide) rfl rfl rfl (goodV tw_165 tw_166 tw_167 tw_2 tw_168) (na := 1) (by decide +kernel) rfl ⟨rfl, rfl, Nat.le_of_ble_eq_true rfl, Nat.le_of_ble_eq_true rfl⟩ (Nat.le_of_ble_eq_true rfl) ⟨Nat.le_of_ble_eq_true rfl, Nat.le_of_ble_eq_true rfl⟩ rfl d_L_law_150 (fun r u H locs hw hP hD hS => ?_)
  obtain rfl : r = (M_powerOn st nx' fr' mn rc tk us' a).1 := congrArg Prod.fst hw
  obtain rfl : u = (M_powerOn st nx' fr' mn rc tk us' a).2 := congrArg Prod.snd hw
  refine lv_icmp_eq (pc := 153) (tgt := 394) hx hb d_L_law_153 (by decide) (fun _ => ?_) (fun q => absurd (r_powerOn hR a).1 q)
  exact kk _ _ H locs (r_powerOn hR a).2 hP hD hS
set_option maxHeartbeats 4000000 in
set_option maxRecDepth 100000 in
theorem law_powerOff {p : Program} {l : Launch} {e : Env} {s : State} {m : MethodId} {below : List Frame} {meth : Method} {c : Code} {D : va_G} {cA : ClassId} {h g : Nat → Nat} {N C b L : Nat} {xs : Nat → Int32} {st nx nx' : Nat → Nat} {fr fr' : Nat → Int32} {fi mn : Nat → Nat} {rc : Nat → Int32} {tk : Option Nat} {us us' : Bool} {i : Nat} {H : Heap} {locs : List Loc} {ls : Array Slot} (C0 : lw_At p s m meth c b L xs) (hL : L ≤ 1538) (hi : i + 3 ≤ L) (hK : va_K D classes [(cA, .int)] s) (hR : Rel N C (st, nx, fr, fi, mn, rc, tk, us) (st, nx', fr', mn, rc, tk, us')) (hP : va_P D classes (wXM cA h g N C (st, nx, fr, fi, mn, rc, tk, us) (st, nx', fr', mn, rc, tk, us')) H) (hD : va_D (A0 s) (wXM cA h g N C (st, nx, fr, fi, mn, rc, tk, us) (st, nx', fr', mn, rc, tk, us'))) (hS : va_S (A0 s) s.heap H locs) (hl : lv_has ls 4 [(0, .ref b), (1, .ref (h 0)), (2, .ref (g 0)), (3, .int (nI i))])
    (kk : ∀ (x : SX) (y : SM) (H : Heap) (locs : List Loc), Rel N C x y → va_P D classes (wXM cA h g N C x y) H → va_D (A0 s) (wXM cA h g N C x y) → va_S (A0 s) s.heap H locs → W p l e room_1 s m #[Value.ref b] below meth c H locs 13 419 (lw_Z below #[Value.ref b] s) (F0 m 394 ls [])) :
    W p l e room_1 s m #[Value.ref b] below meth c H locs 13 419 (lw_Z below #[Value.ref b] s) (F0 m 158 ls []) := by
  obtain ⟨hx, hb, hr, hml, hown, hts0, hX, hbl, hlocks, hgv⟩ := C0
  have hts : ∀ w ∈ lw_gt, w.before #[Value.ref b] s = true := fun w hw => hts0 w (lw_gtin w hw)
  have hA : ∀ q : Nat, s.heap.size ≤ q → A0 s q := fun _ h => h
  have hbA : ¬ (A0 s) b := Nat.not_le.mpr hbl
  obtain ⟨hN, hC, -, hst, hnx, hnx', hfi, hmn, htk, hag, hfr⟩ := id hR
  obtain ⟨a, ha⟩ := ixR_ex (N := N) (by omega) (xs (i + 1))
  refine lv_aload_n (pc := 158) hx hb d_L_law_158 rfl (lv_at hl 1 rfl) ?_
  refine lv_aload_n (pc := 159) hx hb d_L_law_159 rfl (lv_at hl 0 rfl) ?_
  refine lv_iload_n (pc := 160) hx hb d_L_law_160 rfl (lv_at hl 3 rfl) ?_
  refine lv_iconst (pc := 161) (v := nI 1) hx hb d_L_law_161 (by decide) ?_
  refine nv_iadd (pc := 162) (x := i) (y := 1) hx hb d_L_law_162 ?_
  refine nv_sld (pc := 163) (j := i + 1) hx hb hX hbl hbA hS (by omega) (by omega) d_L_law_163 ?_
  refine cllI (pc := 164) (As := [.int (xs (i + 1))]) (rest := []) (wr := wM cA g N C (st, nx', fr', mn, rc, tk, us')) hx hb hml hown hts hK hP hD hS hA hl.1 (c_X_powerOff l D cA h H.size N C st nx fr fi mn rc tk us (xs (i + 1)) a hN hst (fun k q => (htk k q).1) ha) [0, 1, 2, 3, 4, 5, 6] [7, 8, 9, 10, 11, 12] rfl rfl (by decide) (by decide) (by decide) rfl rfl rfl (goodV tw_55 tw_56 tw_57 tw_1 tw_58) (na := 1) (by decide +kernel) rfl ⟨rfl, rfl, Nat.le_of_ble_eq_true rfl, Nat.le_of_ble_eq_true rfl⟩ (Nat.le_of_ble_eq_true rfl) ⟨Nat.le_of_ble_eq_true rfl, Nat.le_of_ble_eq_true rfl⟩ rfl d_L_law_164 (fun r u H locs hw hP hD hS => ?_)
  obtain rfl : r = (X_powerOff st nx fr fi mn rc tk us a).1 := congrArg Prod.fst hw
  obtain rfl : u = (X_powerOff st nx fr fi mn rc tk us a).2 := congrArg Prod.snd hw
  refine lv_aload_n (pc := 167) hx hb d_L_law_167 rfl (lv_at hl 2 rfl) ?_
  refine lv_aload_n (pc := 168) hx hb d_L_law_168 rfl (lv_at hl 0 rfl) ?_
  refine lv_iload_n (pc := 169) hx hb d_L_law_169 rfl (lv_at hl 3 rfl) ?_
  refine lv_iconst (pc := 170) (v := nI 1) hx hb d_L_law_170 (by decide) ?_
  refine nv_iadd (pc := 171) (x := i) (y := 1) hx hb d_L_law_171 ?_
  refine nv_sld (pc := 172) (j := i + 1) hx hb hX hbl hbA hS (by omega) (by omega) d_L_law_172 ?_
  refine cllI (pc := 173) (As := [.int (xs (i + 1))]) (rest := [.int (X_powerOff st nx fr fi mn rc tk us a).1]) (wr := wX cA h N C ((X_powerOff st nx fr fi mn rc tk us a).2)) hx hb hml hown hts hK hP hD hS hA hl.1 (c_M_powerOff l D cA g H.size N C st nx' fr' mn rc tk us' (xs (i + 1)) a hN hst (fun k q => (htk k q).1) ha) [0, 1, 2, 3, 4, 5] [6, 7, 8, 9, 10, 11, 12] rfl rfl (by decide) (by decide) (by decide) rfl rfl rfl (goodV tw_173 tw_174 tw_175 tw_2 tw_176) (na := 1) (by decide +kernel) rfl ⟨rfl, rfl, Nat.le_of_ble_eq_true rfl, Nat.le_of_ble_eq_true rfl⟩ (Nat.le_of_ble_eq_true rfl) ⟨Nat.le_of_ble_eq_true rfl, Nat.le_of_ble_eq_true rfl⟩ rfl d_L_law_173 (fun r u H locs hw hP hD hS => ?_)
  obtain rfl : r = (M_powerOff st nx' fr' mn rc tk us' a).1 := congrArg Prod.fst hw
  obtain rfl : u = (M_powerOff st nx' fr' mn rc tk us' a).2 := congrArg Prod.snd hw
  refine lv_icmp_eq (pc := 176) (tgt := 394) hx hb d_L_law_176 (by decide) (fun _ => ?_) (fun q => absurd (r_powerOff hR a).1 q)
  exact kk _ _ H locs (r_powerOff hR a).2 hP hD hS
set_option maxHeartbeats 4000000 in
set_option maxRecDepth 100000 in
theorem law_queue {p : Program} {l : Launch} {e : Env} {s : State} {m : MethodId} {below : List Frame} {meth : Method} {c : Code} {D : va_G} {cA : ClassId} {h g : Nat → Nat} {N C b L : Nat} {xs : Nat → Int32} {st nx nx' : Nat → Nat} {fr fr' : Nat → Int32} {fi mn : Nat → Nat} {rc : Nat → Int32} {tk : Option Nat} {us us' : Bool} {i : Nat} {H : Heap} {locs : List Loc} {ls : Array Slot} (C0 : lw_At p s m meth c b L xs) (hL : L ≤ 1538) (hi : i + 3 ≤ L) (hK : va_K D classes [(cA, .int)] s) (hR : Rel N C (st, nx, fr, fi, mn, rc, tk, us) (st, nx', fr', mn, rc, tk, us')) (hP : va_P D classes (wXM cA h g N C (st, nx, fr, fi, mn, rc, tk, us) (st, nx', fr', mn, rc, tk, us')) H) (hD : va_D (A0 s) (wXM cA h g N C (st, nx, fr, fi, mn, rc, tk, us) (st, nx', fr', mn, rc, tk, us'))) (hS : va_S (A0 s) s.heap H locs) (hl : lv_has ls 4 [(0, .ref b), (1, .ref (h 0)), (2, .ref (g 0)), (3, .int (nI i))])
    (kk : ∀ (x : SX) (y : SM) (H : Heap) (locs : List Loc), Rel N C x y → va_P D classes (wXM cA h g N C x y) H → va_D (A0 s) (wXM cA h g N C x y) → va_S (A0 s) s.heap H locs → W p l e room_1 s m #[Value.ref b] below meth c H locs 13 419 (lw_Z below #[Value.ref b] s) (F0 m 394 ls [])) :
    W p l e room_1 s m #[Value.ref b] below meth c H locs 13 419 (lw_Z below #[Value.ref b] s) (F0 m 181 ls []) := by
  obtain ⟨hx, hb, hr, hml, hown, hts0, hX, hbl, hlocks, hgv⟩ := C0
  have hts : ∀ w ∈ lw_gt, w.before #[Value.ref b] s = true := fun w hw => hts0 w (lw_gtin w hw)
  have hA : ∀ q : Nat, s.heap.size ≤ q → A0 s q := fun _ h => h
  have hbA : ¬ (A0 s) b := Nat.not_le.mpr hbl
  obtain ⟨hN, hC, -, hst, hnx, hnx', hfi, hmn, htk, hag, hfr⟩ := id hR
  obtain ⟨a, ha⟩ := ixR_ex (N := N) (by omega) (xs (i + 1))
  refine lv_aload_n (pc := 181) hx hb d_L_law_181 rfl (lv_at hl 1 rfl) ?_
  refine lv_aload_n (pc := 182) hx hb d_L_law_182 rfl (lv_at hl 0 rfl) ?_
  refine lv_iload_n (pc := 183) hx hb d_L_law_183 rfl (lv_at hl 3 rfl) ?_
  refine lv_iconst (pc := 184) (v := nI 1) hx hb d_L_law_184 (by decide) ?_
  refine nv_iadd (pc := 185) (x := i) (y := 1) hx hb d_L_law_185 ?_
  refine nv_sld (pc := 186) (j := i + 1) hx hb hX hbl hbA hS (by omega) (by omega) d_L_law_186 ?_
  refine lv_aload_n (pc := 187) hx hb d_L_law_187 rfl (lv_at hl 0 rfl) ?_
  refine lv_iload_n (pc := 188) hx hb d_L_law_188 rfl (lv_at hl 3 rfl) ?_
  refine lv_iconst (pc := 189) (v := nI 2) hx hb d_L_law_189 (by decide) ?_
  refine nv_iadd (pc := 190) (x := i) (y := 2) hx hb d_L_law_190 ?_
  refine nv_sld (pc := 191) (j := i + 2) hx hb hX hbl hbA hS (by omega) (by omega) d_L_law_191 ?_
  refine cllI (pc := 192) (As := [.int (xs (i + 1)), .int (xs (i + 2))]) (rest := []) (wr := wM cA g N C (st, nx', fr', mn, rc, tk, us')) hx hb hml hown hts hK hP hD hS hA hl.1 (c_X_queue l D cA h H.size N C st nx fr fi mn rc tk us (xs (i + 1)) (xs (i + 2)) a hN hst hC hmn hfi ha) [0, 1, 2, 3, 4, 5, 6] [7, 8, 9, 10, 11, 12] rfl rfl (by decide) (by decide) (by decide) rfl rfl rfl (goodV tw_63 tw_64 tw_65 tw_1 tw_66) (na := 2) (by decide +kernel) rfl ⟨rfl, rfl, Nat.le_of_ble_eq_true rfl, Nat.le_of_ble_eq_true rfl⟩ (Nat.le_of_ble_eq_true rfl) ⟨Nat.le_of_ble_eq_true rfl, Nat.le_of_ble_eq_true rfl⟩ rfl d_L_law_192 (fun r u H locs hw hP hD hS => ?_)
  obtain rfl : r = (X_queue C st nx fr fi mn rc tk us a (xs (i + 2))).1 := congrArg Prod.fst hw
  obtain rfl : u = (X_queue C st nx fr fi mn rc tk us a (xs (i + 2))).2 := congrArg Prod.snd hw
  refine lv_aload_n (pc := 195) hx hb d_L_law_195 rfl (lv_at hl 2 rfl) ?_
  refine lv_aload_n (pc := 196) hx hb d_L_law_196 rfl (lv_at hl 0 rfl) ?_
  refine lv_iload_n (pc := 197) hx hb d_L_law_197 rfl (lv_at hl 3 rfl) ?_
  refine lv_iconst (pc := 198) (v := nI 1) hx hb d_L_law_198 (by decide) ?_
  refine nv_iadd (pc := 199) (x := i) (y := 1) hx hb d_L_law_199 ?_
  refine nv_sld (pc := 200) (j := i + 1) hx hb hX hbl hbA hS (by omega) (by omega) d_L_law_200 ?_
  refine lv_aload_n (pc := 201) hx hb d_L_law_201 rfl (lv_at hl 0 rfl) ?_
  refine lv_iload_n (pc := 202) hx hb d_L_law_202 rfl (lv_at hl 3 rfl) ?_
  refine lv_iconst (pc := 203) (v := nI 2) hx hb d_L_law_203 (by decide) ?_
  refine nv_iadd (pc := 204) (x := i) (y := 2) hx hb d_L_law_204 ?_
  refine nv_sld (pc := 205) (j := i + 2) hx hb hX hbl hbA hS (by omega) (by omega) d_L_law_205 ?_
  refine cllI (pc := 206) (As := [.int (xs (i + 1)), .int (xs (i + 2))]) (rest := [.int (X_queue C st nx fr fi mn rc tk us a (xs (i + 2))).1]) (wr := wX cA h N C ((X_queue C st nx fr fi mn rc tk us a (xs (i + 2))).2)) hx hb hml hown hts hK hP hD hS hA hl.1 (c_M_queue l D cA g H.size N C st nx' fr' mn rc tk us' (xs (i + 1)) (xs (i + 2)) a hN hst hC hmn ha) [0, 1, 2, 3, 4, 5] [6, 7, 8, 9, 10, 11, 12] rfl rfl (by decide) (by decide) (by decide) rfl rfl rfl (goodV tw_177 tw_178 tw_179 tw_2 tw_180) (na := 2) (by decide +kernel) rfl ⟨rfl, rfl, Nat.le_of_ble_eq_true rfl, Nat.le_of_ble_eq_true rfl⟩ (Nat.le_of_ble_eq_true rfl) ⟨Nat.le_of_ble_eq_true rfl, Nat.le_of_ble_eq_true rfl⟩ rfl d_L_law_206 (fun r u H locs hw hP hD hS => ?_)
  obtain rfl : r = (M_queue C st nx' fr' mn rc tk us' a (xs (i + 2))).1 := congrArg Prod.fst hw
  obtain rfl : u = (M_queue C st nx' fr' mn rc tk us' a (xs (i + 2))).2 := congrArg Prod.snd hw
  refine lv_icmp_eq (pc := 209) (tgt := 394) hx hb d_L_law_209 (by decide) (fun _ => ?_) (fun q => absurd (r_queue hR a (xs (i + 2))).1 q)
  exact kk _ _ H locs (r_queue hR a (xs (i + 2))).2 hP hD hS
set_option maxHeartbeats 4000000 in
set_option maxRecDepth 100000 in
theorem law_useToken {p : Program} {l : Launch} {e : Env} {s : State} {m : MethodId} {below : List Frame} {meth : Method} {c : Code} {D : va_G} {cA : ClassId} {h g : Nat → Nat} {N C b L : Nat} {xs : Nat → Int32} {st nx nx' : Nat → Nat} {fr fr' : Nat → Int32} {fi mn : Nat → Nat} {rc : Nat → Int32} {tk : Option Nat} {us us' : Bool} {i : Nat} {H : Heap} {locs : List Loc} {ls : Array Slot} (C0 : lw_At p s m meth c b L xs) (hL : L ≤ 1538) (hi : i + 3 ≤ L) (hK : va_K D classes [(cA, .int)] s) (hR : Rel N C (st, nx, fr, fi, mn, rc, tk, us) (st, nx', fr', mn, rc, tk, us')) (hP : va_P D classes (wXM cA h g N C (st, nx, fr, fi, mn, rc, tk, us) (st, nx', fr', mn, rc, tk, us')) H) (hD : va_D (A0 s) (wXM cA h g N C (st, nx, fr, fi, mn, rc, tk, us) (st, nx', fr', mn, rc, tk, us'))) (hS : va_S (A0 s) s.heap H locs) (hl : lv_has ls 4 [(0, .ref b), (1, .ref (h 0)), (2, .ref (g 0)), (3, .int (nI i))])
    (kk : ∀ (x : SX) (y : SM) (H : Heap) (locs : List Loc), Rel N C x y → va_P D classes (wXM cA h g N C x y) H → va_D (A0 s) (wXM cA h g N C x y) → va_S (A0 s) s.heap H locs → W p l e room_1 s m #[Value.ref b] below meth c H locs 13 419 (lw_Z below #[Value.ref b] s) (F0 m 394 ls [])) :
    W p l e room_1 s m #[Value.ref b] below meth c H locs 13 419 (lw_Z below #[Value.ref b] s) (F0 m 214 ls []) := by
  obtain ⟨hx, hb, hr, hml, hown, hts0, hX, hbl, hlocks, hgv⟩ := C0
  have hts : ∀ w ∈ lw_gt, w.before #[Value.ref b] s = true := fun w hw => hts0 w (lw_gtin w hw)
  have hA : ∀ q : Nat, s.heap.size ≤ q → A0 s q := fun _ h => h
  have hbA : ¬ (A0 s) b := Nat.not_le.mpr hbl
  obtain ⟨hN, hC, -, hst, hnx, hnx', hfi, hmn, htk, hag, hfr⟩ := id hR
  refine lv_aload_n (pc := 214) hx hb d_L_law_214 rfl (lv_at hl 1 rfl) ?_
  refine cllI (pc := 215) (As := []) (rest := []) (wr := wM cA g N C (st, nx', fr', mn, rc, tk, us')) hx hb hml hown hts hK hP hD hS hA hl.1 (c_X_useToken l D cA h H.size N C st nx fr fi mn rc tk us hN hst hC hfi hmn (fun k q => (htk k q).1)) [0, 1, 2, 3, 4, 5, 6] [7, 8, 9, 10, 11, 12] rfl rfl (by decide) (by decide) (by decide) rfl rfl rfl (goodV tw_67 tw_68 tw_69 tw_1 tw_70) (na := 0) (by decide +kernel) rfl ⟨rfl, rfl, Nat.le_of_ble_eq_true rfl, Nat.le_of_ble_eq_true rfl⟩ (Nat.le_of_ble_eq_true rfl) ⟨Nat.le_of_ble_eq_true rfl, Nat.le_of_ble_eq_true rfl⟩ rfl d_L_law_215 (fun r u H locs hw hP hD hS => ?_)
  obtain rfl : r = (X_useToken N st nx fr fi mn rc tk us).1 := congrArg Prod.fst hw
  obtain rfl : u = (X_useToken N st nx fr fi mn rc tk us).2 := congrArg Prod.snd hw
  refine lv_aload_n (pc := 218) hx hb d_L_law_218 rfl (lv_at hl 2 rfl) ?_
  refine cllI (pc := 219) (As := []) (rest := [.int (X_useToken N st nx fr fi mn rc tk us).1]) (wr := wX cA h N C ((X_useToken N st nx fr fi mn rc tk us).2)) hx hb hml hown hts hK hP hD hS hA hl.1 (c_M_useToken l D cA g H.size N C st nx' fr' mn rc tk us' hN hst hC hmn (fun k q => (htk k q).1)) [0, 1, 2, 3, 4, 5] [6, 7, 8, 9, 10, 11, 12] rfl rfl (by decide) (by decide) (by decide) rfl rfl rfl (goodV tw_181 tw_182 tw_183 tw_2 tw_184) (na := 0) (by decide +kernel) rfl ⟨rfl, rfl, Nat.le_of_ble_eq_true rfl, Nat.le_of_ble_eq_true rfl⟩ (Nat.le_of_ble_eq_true rfl) ⟨Nat.le_of_ble_eq_true rfl, Nat.le_of_ble_eq_true rfl⟩ rfl d_L_law_219 (fun r u H locs hw hP hD hS => ?_)
  obtain rfl : r = (M_useToken N st nx' fr' mn rc tk us').1 := congrArg Prod.fst hw
  obtain rfl : u = (M_useToken N st nx' fr' mn rc tk us').2 := congrArg Prod.snd hw
  refine lv_icmp_eq (pc := 222) (tgt := 394) hx hb d_L_law_222 (by decide) (fun _ => ?_) (fun q => absurd (r_useToken hR).1 q)
  exact kk _ _ H locs (r_useToken hR).2 hP hD hS
set_option maxHeartbeats 4000000 in
set_option maxRecDepth 100000 in
theorem law_passToken {p : Program} {l : Launch} {e : Env} {s : State} {m : MethodId} {below : List Frame} {meth : Method} {c : Code} {D : va_G} {cA : ClassId} {h g : Nat → Nat} {N C b L : Nat} {xs : Nat → Int32} {st nx nx' : Nat → Nat} {fr fr' : Nat → Int32} {fi mn : Nat → Nat} {rc : Nat → Int32} {tk : Option Nat} {us us' : Bool} {i : Nat} {H : Heap} {locs : List Loc} {ls : Array Slot} (C0 : lw_At p s m meth c b L xs) (hL : L ≤ 1538) (hi : i + 3 ≤ L) (hK : va_K D classes [(cA, .int)] s) (hR : Rel N C (st, nx, fr, fi, mn, rc, tk, us) (st, nx', fr', mn, rc, tk, us')) (hP : va_P D classes (wXM cA h g N C (st, nx, fr, fi, mn, rc, tk, us) (st, nx', fr', mn, rc, tk, us')) H) (hD : va_D (A0 s) (wXM cA h g N C (st, nx, fr, fi, mn, rc, tk, us) (st, nx', fr', mn, rc, tk, us'))) (hS : va_S (A0 s) s.heap H locs) (hl : lv_has ls 4 [(0, .ref b), (1, .ref (h 0)), (2, .ref (g 0)), (3, .int (nI i))])
    (kk : ∀ (x : SX) (y : SM) (H : Heap) (locs : List Loc), Rel N C x y → va_P D classes (wXM cA h g N C x y) H → va_D (A0 s) (wXM cA h g N C x y) → va_S (A0 s) s.heap H locs → W p l e room_1 s m #[Value.ref b] below meth c H locs 13 419 (lw_Z below #[Value.ref b] s) (F0 m 394 ls [])) :
    W p l e room_1 s m #[Value.ref b] below meth c H locs 13 419 (lw_Z below #[Value.ref b] s) (F0 m 227 ls []) := by
  obtain ⟨hx, hb, hr, hml, hown, hts0, hX, hbl, hlocks, hgv⟩ := C0
  have hts : ∀ w ∈ lw_gt, w.before #[Value.ref b] s = true := fun w hw => hts0 w (lw_gtin w hw)
  have hA : ∀ q : Nat, s.heap.size ≤ q → A0 s q := fun _ h => h
  have hbA : ¬ (A0 s) b := Nat.not_le.mpr hbl
  obtain ⟨hN, hC, -, hst, hnx, hnx', hfi, hmn, htk, hag, hfr⟩ := id hR
  refine lv_aload_n (pc := 227) hx hb d_L_law_227 rfl (lv_at hl 1 rfl) ?_
  refine cllI (pc := 228) (As := []) (rest := []) (wr := wM cA g N C (st, nx', fr', mn, rc, tk, us')) hx hb hml hown hts hK hP hD hS hA hl.1 (c_X_passToken l D cA h H.size N C st nx fr fi mn rc tk us hN hst hnx (fun k q => ⟨(htk k q).1, (htk k q).2.1⟩)) [0, 1, 2, 3, 4, 5, 6] [7, 8, 9, 10, 11, 12] rfl rfl (by decide) (by decide) (by decide) rfl rfl rfl (goodV tw_71 tw_72 tw_73 tw_1 tw_74) (na := 0) (by decide +kernel) rfl ⟨rfl, rfl, Nat.le_of_ble_eq_true rfl, Nat.le_of_ble_eq_true rfl⟩ (Nat.le_of_ble_eq_true rfl) ⟨Nat.le_of_ble_eq_true rfl, Nat.le_of_ble_eq_true rfl⟩ rfl d_L_law_228 (fun r u H locs hw hP hD hS => ?_)
  obtain rfl : r = (X_passToken N st nx fr fi mn rc tk us).1 := congrArg Prod.fst hw
  obtain rfl : u = (X_passToken N st nx fr fi mn rc tk us).2 := congrArg Prod.snd hw
  refine lv_aload_n (pc := 231) hx hb d_L_law_231 rfl (lv_at hl 2 rfl) ?_
  refine cllI (pc := 232) (As := []) (rest := [.int (X_passToken N st nx fr fi mn rc tk us).1]) (wr := wX cA h N C ((X_passToken N st nx fr fi mn rc tk us).2)) hx hb hml hown hts hK hP hD hS hA hl.1 (c_M_passToken l D cA g H.size N C st nx' fr' mn rc tk us' hN hst hnx' (fun k q => ⟨(htk k q).1, (htk k q).2.1⟩)) [0, 1, 2, 3, 4, 5] [6, 7, 8, 9, 10, 11, 12] rfl rfl (by decide) (by decide) (by decide) rfl rfl rfl (goodV tw_185 tw_186 tw_187 tw_2 tw_188) (na := 0) (by decide +kernel) rfl ⟨rfl, rfl, Nat.le_of_ble_eq_true rfl, Nat.le_of_ble_eq_true rfl⟩ (Nat.le_of_ble_eq_true rfl) ⟨Nat.le_of_ble_eq_true rfl, Nat.le_of_ble_eq_true rfl⟩ rfl d_L_law_232 (fun r u H locs hw hP hD hS => ?_)
  obtain rfl : r = (M_passToken N st nx' fr' mn rc tk us').1 := congrArg Prod.fst hw
  obtain rfl : u = (M_passToken N st nx' fr' mn rc tk us').2 := congrArg Prod.snd hw
  refine lv_icmp_eq (pc := 235) (tgt := 394) hx hb d_L_law_235 (by decide) (fun _ => ?_) (fun q => absurd (r_passToken hR).1 q)
  exact kk _ _ H locs (r_passToken hR).2 hP hD hS
set_option maxHeartbeats 4000000 in
set_option maxRecDepth 100000 in
theorem law_solicit {p : Program} {l : Launch} {e : Env} {s : State} {m : MethodId} {below : List Frame} {meth : Method} {c : Code} {D : va_G} {cA : ClassId} {h g : Nat → Nat} {N C b L : Nat} {xs : Nat → Int32} {st nx nx' : Nat → Nat} {fr fr' : Nat → Int32} {fi mn : Nat → Nat} {rc : Nat → Int32} {tk : Option Nat} {us us' : Bool} {i : Nat} {H : Heap} {locs : List Loc} {ls : Array Slot} (C0 : lw_At p s m meth c b L xs) (hL : L ≤ 1538) (hi : i + 3 ≤ L) (hK : va_K D classes [(cA, .int)] s) (hR : Rel N C (st, nx, fr, fi, mn, rc, tk, us) (st, nx', fr', mn, rc, tk, us')) (hP : va_P D classes (wXM cA h g N C (st, nx, fr, fi, mn, rc, tk, us) (st, nx', fr', mn, rc, tk, us')) H) (hD : va_D (A0 s) (wXM cA h g N C (st, nx, fr, fi, mn, rc, tk, us) (st, nx', fr', mn, rc, tk, us'))) (hS : va_S (A0 s) s.heap H locs) (hl : lv_has ls 4 [(0, .ref b), (1, .ref (h 0)), (2, .ref (g 0)), (3, .int (nI i))])
    (kk : ∀ (x : SX) (y : SM) (H : Heap) (locs : List Loc), Rel N C x y → va_P D classes (wXM cA h g N C x y) H → va_D (A0 s) (wXM cA h g N C x y) → va_S (A0 s) s.heap H locs → W p l e room_1 s m #[Value.ref b] below meth c H locs 13 419 (lw_Z below #[Value.ref b] s) (F0 m 394 ls [])) :
    W p l e room_1 s m #[Value.ref b] below meth c H locs 13 419 (lw_Z below #[Value.ref b] s) (F0 m 240 ls []) := by
  obtain ⟨hx, hb, hr, hml, hown, hts0, hX, hbl, hlocks, hgv⟩ := C0
  have hts : ∀ w ∈ lw_gt, w.before #[Value.ref b] s = true := fun w hw => hts0 w (lw_gtin w hw)
  have hA : ∀ q : Nat, s.heap.size ≤ q → A0 s q := fun _ h => h
  have hbA : ¬ (A0 s) b := Nat.not_le.mpr hbl
  obtain ⟨hN, hC, -, hst, hnx, hnx', hfi, hmn, htk, hag, hfr⟩ := id hR
  refine lv_aload_n (pc := 240) hx hb d_L_law_240 rfl (lv_at hl 1 rfl) ?_
  refine cllI (pc := 241) (As := []) (rest := []) (wr := wM cA g N C (st, nx', fr', mn, rc, tk, us')) hx hb hml hown hts hK hP hD hS hA hl.1 (c_X_solicit l D cA h H.size N C st nx fr fi mn rc tk us hN hst hnx (fun k q => ⟨(htk k q).1, (htk k q).2.1⟩)) [0, 1, 2, 3, 4, 5, 6] [7, 8, 9, 10, 11, 12] rfl rfl (by decide) (by decide) (by decide) rfl rfl rfl (goodV tw_87 tw_88 tw_89 tw_1 tw_90) (na := 0) (by decide +kernel) rfl ⟨rfl, rfl, Nat.le_of_ble_eq_true rfl, Nat.le_of_ble_eq_true rfl⟩ (Nat.le_of_ble_eq_true rfl) ⟨Nat.le_of_ble_eq_true rfl, Nat.le_of_ble_eq_true rfl⟩ rfl d_L_law_241 (fun r u H locs hw hP hD hS => ?_)
  obtain rfl : r = (X_solicit N st nx fr fi mn rc tk us).1 := congrArg Prod.fst hw
  obtain rfl : u = (X_solicit N st nx fr fi mn rc tk us).2 := congrArg Prod.snd hw
  refine lv_aload_n (pc := 244) hx hb d_L_law_244 rfl (lv_at hl 2 rfl) ?_
  refine cllI (pc := 245) (As := []) (rest := [.int (X_solicit N st nx fr fi mn rc tk us).1]) (wr := wX cA h N C ((X_solicit N st nx fr fi mn rc tk us).2)) hx hb hml hown hts hK hP hD hS hA hl.1 (c_M_solicit l D cA g H.size N C st nx' fr' mn rc tk us' hN hst hnx' (fun k q => ⟨(htk k q).1, (htk k q).2.1⟩)) [0, 1, 2, 3, 4, 5] [6, 7, 8, 9, 10, 11, 12] rfl rfl (by decide) (by decide) (by decide) rfl rfl rfl (goodV tw_197 tw_198 tw_199 tw_2 tw_200) (na := 0) (by decide +kernel) rfl ⟨rfl, rfl, Nat.le_of_ble_eq_true rfl, Nat.le_of_ble_eq_true rfl⟩ (Nat.le_of_ble_eq_true rfl) ⟨Nat.le_of_ble_eq_true rfl, Nat.le_of_ble_eq_true rfl⟩ rfl d_L_law_245 (fun r u H locs hw hP hD hS => ?_)
  obtain rfl : r = (M_solicit N st nx' fr' mn rc tk us').1 := congrArg Prod.fst hw
  obtain rfl : u = (M_solicit N st nx' fr' mn rc tk us').2 := congrArg Prod.snd hw
  refine lv_icmp_eq (pc := 248) (tgt := 394) hx hb d_L_law_248 (by decide) (fun _ => ?_) (fun q => absurd (r_solicit hR).1 q)
  exact kk _ _ H locs (r_solicit hR).2 hP hD hS
end
section
set_option maxHeartbeats 4000000 in
set_option maxRecDepth 100000 in
theorem law_leave {p : Program} {l : Launch} {e : Env} {s : State} {m : MethodId} {below : List Frame} {meth : Method} {c : Code} {D : va_G} {cA : ClassId} {h g : Nat → Nat} {N C b L : Nat} {xs : Nat → Int32} {st nx nx' : Nat → Nat} {fr fr' : Nat → Int32} {fi mn : Nat → Nat} {rc : Nat → Int32} {tk : Option Nat} {us us' : Bool} {i : Nat} {H : Heap} {locs : List Loc} {ls : Array Slot} (C0 : lw_At p s m meth c b L xs) (hL : L ≤ 1538) (hi : i + 3 ≤ L) (hK : va_K D classes [(cA, .int)] s) (hR : Rel N C (st, nx, fr, fi, mn, rc, tk, us) (st, nx', fr', mn, rc, tk, us')) (hP : va_P D classes (wXM cA h g N C (st, nx, fr, fi, mn, rc, tk, us) (st, nx', fr', mn, rc, tk, us')) H) (hD : va_D (A0 s) (wXM cA h g N C (st, nx, fr, fi, mn, rc, tk, us) (st, nx', fr', mn, rc, tk, us'))) (hS : va_S (A0 s) s.heap H locs) (hl : lv_has ls 4 [(0, .ref b), (1, .ref (h 0)), (2, .ref (g 0)), (3, .int (nI i))])
    (kk : ∀ (x : SX) (y : SM) (H : Heap) (locs : List Loc), Rel N C x y → va_P D classes (wXM cA h g N C x y) H → va_D (A0 s) (wXM cA h g N C x y) → va_S (A0 s) s.heap H locs → W p l e room_1 s m #[Value.ref b] below meth c H locs 13 419 (lw_Z below #[Value.ref b] s) (F0 m 394 ls [])) :
    W p l e room_1 s m #[Value.ref b] below meth c H locs 13 419 (lw_Z below #[Value.ref b] s) (F0 m 253 ls []) := by
  obtain ⟨hx, hb, hr, hml, hown, hts0, hX, hbl, hlocks, hgv⟩ := C0
  have hts : ∀ w ∈ lw_gt, w.before #[Value.ref b] s = true := fun w hw => hts0 w (lw_gtin w hw)
  have hA : ∀ q : Nat, s.heap.size ≤ q → A0 s q := fun _ h => h
  have hbA : ¬ (A0 s) b := Nat.not_le.mpr hbl
  obtain ⟨hN, hC, -, hst, hnx, hnx', hfi, hmn, htk, hag, hfr⟩ := id hR
  obtain ⟨a, ha⟩ := ixR_ex (N := N) (by omega) (xs (i + 1))
  refine lv_aload_n (pc := 253) hx hb d_L_law_253 rfl (lv_at hl 1 rfl) ?_
  refine lv_aload_n (pc := 254) hx hb d_L_law_254 rfl (lv_at hl 0 rfl) ?_
  refine lv_iload_n (pc := 255) hx hb d_L_law_255 rfl (lv_at hl 3 rfl) ?_
  refine lv_iconst (pc := 256) (v := nI 1) hx hb d_L_law_256 (by decide) ?_
  refine nv_iadd (pc := 257) (x := i) (y := 1) hx hb d_L_law_257 ?_
  refine nv_sld (pc := 258) (j := i + 1) hx hb hX hbl hbA hS (by omega) (by omega) d_L_law_258 ?_
  refine cllI (pc := 259) (As := [.int (xs (i + 1))]) (rest := []) (wr := wM cA g N C (st, nx', fr', mn, rc, tk, us')) hx hb hml hown hts hK hP hD hS hA hl.1 (c_X_leave l D cA h H.size N C st nx fr fi mn rc tk us (xs (i + 1)) a hN hst hnx (fun k q => ⟨(htk k q).1, (htk k q).2.1⟩) ha) [0, 1, 2, 3, 4, 5, 6] [7, 8, 9, 10, 11, 12] rfl rfl (by decide) (by decide) (by decide) rfl rfl rfl (goodV tw_91 tw_92 tw_93 tw_1 tw_94) (na := 1) (by decide +kernel) rfl ⟨rfl, rfl, Nat.le_of_ble_eq_true rfl, Nat.le_of_ble_eq_true rfl⟩ (Nat.le_of_ble_eq_true rfl) ⟨Nat.le_of_ble_eq_true rfl, Nat.le_of_ble_eq_true rfl⟩ rfl d_L_law_259 (fun r u H locs hw hP hD hS => ?_)
  obtain rfl : r = (X_leave N st nx fr fi mn rc tk us a).1 := congrArg Prod.fst hw
  obtain rfl : u = (X_leave N st nx fr fi mn rc tk us a).2 := congrArg Prod.snd hw
  refine lv_aload_n (pc := 262) hx hb d_L_law_262 rfl (lv_at hl 2 rfl) ?_
  refine lv_aload_n (pc := 263) hx hb d_L_law_263 rfl (lv_at hl 0 rfl) ?_
  refine lv_iload_n (pc := 264) hx hb d_L_law_264 rfl (lv_at hl 3 rfl) ?_
  refine lv_iconst (pc := 265) (v := nI 1) hx hb d_L_law_265 (by decide) ?_
  refine nv_iadd (pc := 266) (x := i) (y := 1) hx hb d_L_law_266 ?_
  refine nv_sld (pc := 267) (j := i + 1) hx hb hX hbl hbA hS (by omega) (by omega) d_L_law_267 ?_
  refine cllI (pc := 268) (As := [.int (xs (i + 1))]) (rest := [.int (X_leave N st nx fr fi mn rc tk us a).1]) (wr := wX cA h N C ((X_leave N st nx fr fi mn rc tk us a).2)) hx hb hml hown hts hK hP hD hS hA hl.1 (c_M_leave l D cA g H.size N C st nx' fr' mn rc tk us' (xs (i + 1)) a hN hst hnx' (fun k q => ⟨(htk k q).1, (htk k q).2.1⟩) ha) [0, 1, 2, 3, 4, 5] [6, 7, 8, 9, 10, 11, 12] rfl rfl (by decide) (by decide) (by decide) rfl rfl rfl (goodV tw_201 tw_202 tw_203 tw_2 tw_204) (na := 1) (by decide +kernel) rfl ⟨rfl, rfl, Nat.le_of_ble_eq_true rfl, Nat.le_of_ble_eq_true rfl⟩ (Nat.le_of_ble_eq_true rfl) ⟨Nat.le_of_ble_eq_true rfl, Nat.le_of_ble_eq_true rfl⟩ rfl d_L_law_268 (fun r u H locs hw hP hD hS => ?_)
  obtain rfl : r = (M_leave N st nx' fr' mn rc tk us' a).1 := congrArg Prod.fst hw
  obtain rfl : u = (M_leave N st nx' fr' mn rc tk us' a).2 := congrArg Prod.snd hw
  refine lv_icmp_eq (pc := 271) (tgt := 394) hx hb d_L_law_271 (by decide) (fun _ => ?_) (fun q => absurd (r_leave hR a).1 q)
  exact kk _ _ H locs (r_leave hR a).2 hP hD hS
set_option maxHeartbeats 4000000 in
set_option maxRecDepth 100000 in
theorem law_silence {p : Program} {l : Launch} {e : Env} {s : State} {m : MethodId} {below : List Frame} {meth : Method} {c : Code} {D : va_G} {cA : ClassId} {h g : Nat → Nat} {N C b L : Nat} {xs : Nat → Int32} {st nx nx' : Nat → Nat} {fr fr' : Nat → Int32} {fi mn : Nat → Nat} {rc : Nat → Int32} {tk : Option Nat} {us us' : Bool} {i : Nat} {H : Heap} {locs : List Loc} {ls : Array Slot} (C0 : lw_At p s m meth c b L xs) (hL : L ≤ 1538) (hi : i + 3 ≤ L) (hK : va_K D classes [(cA, .int)] s) (hR : Rel N C (st, nx, fr, fi, mn, rc, tk, us) (st, nx', fr', mn, rc, tk, us')) (hP : va_P D classes (wXM cA h g N C (st, nx, fr, fi, mn, rc, tk, us) (st, nx', fr', mn, rc, tk, us')) H) (hD : va_D (A0 s) (wXM cA h g N C (st, nx, fr, fi, mn, rc, tk, us) (st, nx', fr', mn, rc, tk, us'))) (hS : va_S (A0 s) s.heap H locs) (hl : lv_has ls 4 [(0, .ref b), (1, .ref (h 0)), (2, .ref (g 0)), (3, .int (nI i))])
    (kk : ∀ (x : SX) (y : SM) (H : Heap) (locs : List Loc), Rel N C x y → va_P D classes (wXM cA h g N C x y) H → va_D (A0 s) (wXM cA h g N C x y) → va_S (A0 s) s.heap H locs → W p l e room_1 s m #[Value.ref b] below meth c H locs 13 419 (lw_Z below #[Value.ref b] s) (F0 m 394 ls [])) :
    W p l e room_1 s m #[Value.ref b] below meth c H locs 13 419 (lw_Z below #[Value.ref b] s) (F0 m 276 ls []) := by
  obtain ⟨hx, hb, hr, hml, hown, hts0, hX, hbl, hlocks, hgv⟩ := C0
  have hts : ∀ w ∈ lw_gt, w.before #[Value.ref b] s = true := fun w hw => hts0 w (lw_gtin w hw)
  have hA : ∀ q : Nat, s.heap.size ≤ q → A0 s q := fun _ h => h
  have hbA : ¬ (A0 s) b := Nat.not_le.mpr hbl
  obtain ⟨hN, hC, -, hst, hnx, hnx', hfi, hmn, htk, hag, hfr⟩ := id hR
  refine lv_aload_n (pc := 276) hx hb d_L_law_276 rfl (lv_at hl 1 rfl) ?_
  refine cllI (pc := 277) (As := []) (rest := []) (wr := wM cA g N C (st, nx', fr', mn, rc, tk, us')) hx hb hml hown hts hK hP hD hS hA hl.1 (c_X_silence l D cA h H.size N C st nx fr fi mn rc tk us hN hst (fun k q => (htk k q).1)) [0, 1, 2, 3, 4, 5, 6] [7, 8, 9, 10, 11, 12] rfl rfl (by decide) (by decide) (by decide) rfl rfl rfl (goodV tw_95 tw_96 tw_97 tw_1 tw_98) (na := 0) (by decide +kernel) rfl ⟨rfl, rfl, Nat.le_of_ble_eq_true rfl, Nat.le_of_ble_eq_true rfl⟩ (Nat.le_of_ble_eq_true rfl) ⟨Nat.le_of_ble_eq_true rfl, Nat.le_of_ble_eq_true rfl⟩ rfl d_L_law_277 (fun r u H locs hw hP hD hS => ?_)
  obtain rfl : r = (X_silence N st nx fr fi mn rc tk us).1 := congrArg Prod.fst hw
  obtain rfl : u = (X_silence N st nx fr fi mn rc tk us).2 := congrArg Prod.snd hw
  refine lv_aload_n (pc := 280) hx hb d_L_law_280 rfl (lv_at hl 2 rfl) ?_
  refine cllI (pc := 281) (As := []) (rest := [.int (X_silence N st nx fr fi mn rc tk us).1]) (wr := wX cA h N C ((X_silence N st nx fr fi mn rc tk us).2)) hx hb hml hown hts hK hP hD hS hA hl.1 (c_M_silence l D cA g H.size N C st nx' fr' mn rc tk us' hN hst (fun k q => (htk k q).1)) [0, 1, 2, 3, 4, 5] [6, 7, 8, 9, 10, 11, 12] rfl rfl (by decide) (by decide) (by decide) rfl rfl rfl (goodV tw_205 tw_206 tw_207 tw_2 tw_208) (na := 0) (by decide +kernel) rfl ⟨rfl, rfl, Nat.le_of_ble_eq_true rfl, Nat.le_of_ble_eq_true rfl⟩ (Nat.le_of_ble_eq_true rfl) ⟨Nat.le_of_ble_eq_true rfl, Nat.le_of_ble_eq_true rfl⟩ rfl d_L_law_281 (fun r u H locs hw hP hD hS => ?_)
  obtain rfl : r = (M_silence N st nx' fr' mn rc tk us').1 := congrArg Prod.fst hw
  obtain rfl : u = (M_silence N st nx' fr' mn rc tk us').2 := congrArg Prod.snd hw
  refine lv_icmp_eq (pc := 284) (tgt := 394) hx hb d_L_law_284 (by decide) (fun _ => ?_) (fun q => absurd (r_silence hR).1 q)
  exact kk _ _ H locs (r_silence hR).2 hP hD hS
set_option maxHeartbeats 4000000 in
set_option maxRecDepth 100000 in
theorem law_tokenHolder {p : Program} {l : Launch} {e : Env} {s : State} {m : MethodId} {below : List Frame} {meth : Method} {c : Code} {D : va_G} {cA : ClassId} {h g : Nat → Nat} {N C b L : Nat} {xs : Nat → Int32} {st nx nx' : Nat → Nat} {fr fr' : Nat → Int32} {fi mn : Nat → Nat} {rc : Nat → Int32} {tk : Option Nat} {us us' : Bool} {i : Nat} {H : Heap} {locs : List Loc} {ls : Array Slot} (C0 : lw_At p s m meth c b L xs) (hL : L ≤ 1538) (hi : i + 3 ≤ L) (hK : va_K D classes [(cA, .int)] s) (hR : Rel N C (st, nx, fr, fi, mn, rc, tk, us) (st, nx', fr', mn, rc, tk, us')) (hP : va_P D classes (wXM cA h g N C (st, nx, fr, fi, mn, rc, tk, us) (st, nx', fr', mn, rc, tk, us')) H) (hD : va_D (A0 s) (wXM cA h g N C (st, nx, fr, fi, mn, rc, tk, us) (st, nx', fr', mn, rc, tk, us'))) (hS : va_S (A0 s) s.heap H locs) (hl : lv_has ls 4 [(0, .ref b), (1, .ref (h 0)), (2, .ref (g 0)), (3, .int (nI i))])
    (kk : ∀ (x : SX) (y : SM) (H : Heap) (locs : List Loc), Rel N C x y → va_P D classes (wXM cA h g N C x y) H → va_D (A0 s) (wXM cA h g N C x y) → va_S (A0 s) s.heap H locs → W p l e room_1 s m #[Value.ref b] below meth c H locs 13 419 (lw_Z below #[Value.ref b] s) (F0 m 394 ls [])) :
    W p l e room_1 s m #[Value.ref b] below meth c H locs 13 419 (lw_Z below #[Value.ref b] s) (F0 m 289 ls []) := by
  obtain ⟨hx, hb, hr, hml, hown, hts0, hX, hbl, hlocks, hgv⟩ := C0
  have hts : ∀ w ∈ lw_gt, w.before #[Value.ref b] s = true := fun w hw => hts0 w (lw_gtin w hw)
  have hA : ∀ q : Nat, s.heap.size ≤ q → A0 s q := fun _ h => h
  have hbA : ¬ (A0 s) b := Nat.not_le.mpr hbl
  obtain ⟨hN, hC, -, hst, hnx, hnx', hfi, hmn, htk, hag, hfr⟩ := id hR
  refine lv_aload_n (pc := 289) hx hb d_L_law_289 rfl (lv_at hl 1 rfl) ?_
  refine cllI (pc := 290) (As := []) (rest := []) (wr := wM cA g N C (st, nx', fr', mn, rc, tk, us')) hx hb hml hown hts hK hP hD hS hA hl.1 (c_X_tokenHolder l D cA h H.size N C st nx fr fi mn rc tk us ) [0, 1, 2, 3, 4, 5, 6] [7, 8, 9, 10, 11, 12] rfl rfl (by decide) (by decide) (by decide) rfl rfl rfl (goodV tw_103 tw_104 tw_105 tw_1 tw_106) (na := 0) (by decide +kernel) rfl ⟨rfl, rfl, Nat.le_of_ble_eq_true rfl, Nat.le_of_ble_eq_true rfl⟩ (Nat.le_of_ble_eq_true rfl) ⟨Nat.le_of_ble_eq_true rfl, Nat.le_of_ble_eq_true rfl⟩ rfl d_L_law_290 (fun r u H locs hw hP hD hS => ?_)
  obtain ⟨rfl, rfl⟩ := hw
  refine lv_aload_n (pc := 293) hx hb d_L_law_293 rfl (lv_at hl 2 rfl) ?_
  refine cllI (pc := 294) (As := []) (rest := [.int (tv tk)]) (wr := wX cA h N C (st, nx, fr, fi, mn, rc, tk, us)) hx hb hml hown hts hK hP hD hS hA hl.1 (c_M_tokenHolder l D cA g H.size N C st nx' fr' mn rc tk us' ) [0, 1, 2, 3, 4, 5] [6, 7, 8, 9, 10, 11, 12] rfl rfl (by decide) (by decide) (by decide) rfl rfl rfl (goodV tw_209 tw_210 tw_211 tw_2 tw_212) (na := 0) (by decide +kernel) rfl ⟨rfl, rfl, Nat.le_of_ble_eq_true rfl, Nat.le_of_ble_eq_true rfl⟩ (Nat.le_of_ble_eq_true rfl) ⟨Nat.le_of_ble_eq_true rfl, Nat.le_of_ble_eq_true rfl⟩ rfl d_L_law_294 (fun r u H locs hw hP hD hS => ?_)
  obtain ⟨rfl, rfl⟩ := hw
  refine lv_icmp_eq (pc := 297) (tgt := 394) hx hb d_L_law_297 (by decide) (fun _ => ?_) (fun q => absurd rfl q)
  exact kk _ _ H locs hR hP hD hS
set_option maxHeartbeats 4000000 in
set_option maxRecDepth 100000 in
theorem law_successor {p : Program} {l : Launch} {e : Env} {s : State} {m : MethodId} {below : List Frame} {meth : Method} {c : Code} {D : va_G} {cA : ClassId} {h g : Nat → Nat} {N C b L : Nat} {xs : Nat → Int32} {st nx nx' : Nat → Nat} {fr fr' : Nat → Int32} {fi mn : Nat → Nat} {rc : Nat → Int32} {tk : Option Nat} {us us' : Bool} {i : Nat} {H : Heap} {locs : List Loc} {ls : Array Slot} (C0 : lw_At p s m meth c b L xs) (hL : L ≤ 1538) (hi : i + 3 ≤ L) (hK : va_K D classes [(cA, .int)] s) (hR : Rel N C (st, nx, fr, fi, mn, rc, tk, us) (st, nx', fr', mn, rc, tk, us')) (hP : va_P D classes (wXM cA h g N C (st, nx, fr, fi, mn, rc, tk, us) (st, nx', fr', mn, rc, tk, us')) H) (hD : va_D (A0 s) (wXM cA h g N C (st, nx, fr, fi, mn, rc, tk, us) (st, nx', fr', mn, rc, tk, us'))) (hS : va_S (A0 s) s.heap H locs) (hl : lv_has ls 4 [(0, .ref b), (1, .ref (h 0)), (2, .ref (g 0)), (3, .int (nI i))])
    (kk : ∀ (x : SX) (y : SM) (H : Heap) (locs : List Loc), Rel N C x y → va_P D classes (wXM cA h g N C x y) H → va_D (A0 s) (wXM cA h g N C x y) → va_S (A0 s) s.heap H locs → W p l e room_1 s m #[Value.ref b] below meth c H locs 13 419 (lw_Z below #[Value.ref b] s) (F0 m 394 ls [])) :
    W p l e room_1 s m #[Value.ref b] below meth c H locs 13 419 (lw_Z below #[Value.ref b] s) (F0 m 302 ls []) := by
  obtain ⟨hx, hb, hr, hml, hown, hts0, hX, hbl, hlocks, hgv⟩ := C0
  have hts : ∀ w ∈ lw_gt, w.before #[Value.ref b] s = true := fun w hw => hts0 w (lw_gtin w hw)
  have hA : ∀ q : Nat, s.heap.size ≤ q → A0 s q := fun _ h => h
  have hbA : ¬ (A0 s) b := Nat.not_le.mpr hbl
  obtain ⟨hN, hC, -, hst, hnx, hnx', hfi, hmn, htk, hag, hfr⟩ := id hR
  obtain ⟨a, ha⟩ := ixR_ex (N := N) (by omega) (xs (i + 1))
  refine lv_aload_n (pc := 302) hx hb d_L_law_302 rfl (lv_at hl 1 rfl) ?_
  refine lv_aload_n (pc := 303) hx hb d_L_law_303 rfl (lv_at hl 0 rfl) ?_
  refine lv_iload_n (pc := 304) hx hb d_L_law_304 rfl (lv_at hl 3 rfl) ?_
  refine lv_iconst (pc := 305) (v := nI 1) hx hb d_L_law_305 (by decide) ?_
  refine nv_iadd (pc := 306) (x := i) (y := 1) hx hb d_L_law_306 ?_
  refine nv_sld (pc := 307) (j := i + 1) hx hb hX hbl hbA hS (by omega) (by omega) d_L_law_307 ?_
  refine cllI (pc := 308) (As := [.int (xs (i + 1))]) (rest := []) (wr := wM cA g N C (st, nx', fr', mn, rc, tk, us')) hx hb hml hown hts hK hP hD hS hA hl.1 (c_X_successor l D cA h H.size N C st nx fr fi mn rc tk us (xs (i + 1)) a hN hst ha) [0, 1, 2, 3, 4, 5, 6] [7, 8, 9, 10, 11, 12] rfl rfl (by decide) (by decide) (by decide) rfl rfl rfl (goodV tw_107 tw_108 tw_109 tw_1 tw_110) (na := 1) (by decide +kernel) rfl ⟨rfl, rfl, Nat.le_of_ble_eq_true rfl, Nat.le_of_ble_eq_true rfl⟩ (Nat.le_of_ble_eq_true rfl) ⟨Nat.le_of_ble_eq_true rfl, Nat.le_of_ble_eq_true rfl⟩ rfl d_L_law_308 (fun r u H locs hw hP hD hS => ?_)
  obtain ⟨rfl, rfl⟩ := hw
  refine lv_aload_n (pc := 311) hx hb d_L_law_311 rfl (lv_at hl 2 rfl) ?_
  refine lv_aload_n (pc := 312) hx hb d_L_law_312 rfl (lv_at hl 0 rfl) ?_
  refine lv_iload_n (pc := 313) hx hb d_L_law_313 rfl (lv_at hl 3 rfl) ?_
  refine lv_iconst (pc := 314) (v := nI 1) hx hb d_L_law_314 (by decide) ?_
  refine nv_iadd (pc := 315) (x := i) (y := 1) hx hb d_L_law_315 ?_
  refine nv_sld (pc := 316) (j := i + 1) hx hb hX hbl hbA hS (by omega) (by omega) d_L_law_316 ?_
  refine cllI (pc := 317) (As := [.int (xs (i + 1))]) (rest := [.int (q_successor st nx a)]) (wr := wX cA h N C (st, nx, fr, fi, mn, rc, tk, us)) hx hb hml hown hts hK hP hD hS hA hl.1 (c_M_successor l D cA g H.size N C st nx' fr' mn rc tk us' (xs (i + 1)) a hN hst ha) [0, 1, 2, 3, 4, 5] [6, 7, 8, 9, 10, 11, 12] rfl rfl (by decide) (by decide) (by decide) rfl rfl rfl (goodV tw_213 tw_214 tw_215 tw_2 tw_216) (na := 1) (by decide +kernel) rfl ⟨rfl, rfl, Nat.le_of_ble_eq_true rfl, Nat.le_of_ble_eq_true rfl⟩ (Nat.le_of_ble_eq_true rfl) ⟨Nat.le_of_ble_eq_true rfl, Nat.le_of_ble_eq_true rfl⟩ rfl d_L_law_317 (fun r u H locs hw hP hD hS => ?_)
  obtain ⟨rfl, rfl⟩ := hw
  refine lv_icmp_eq (pc := 320) (tgt := 394) hx hb d_L_law_320 (by decide) (fun _ => ?_) (fun q => absurd (r_successor hR a) q)
  exact kk _ _ H locs hR hP hD hS
set_option maxHeartbeats 4000000 in
set_option maxRecDepth 100000 in
theorem law_receivedBy {p : Program} {l : Launch} {e : Env} {s : State} {m : MethodId} {below : List Frame} {meth : Method} {c : Code} {D : va_G} {cA : ClassId} {h g : Nat → Nat} {N C b L : Nat} {xs : Nat → Int32} {st nx nx' : Nat → Nat} {fr fr' : Nat → Int32} {fi mn : Nat → Nat} {rc : Nat → Int32} {tk : Option Nat} {us us' : Bool} {i : Nat} {H : Heap} {locs : List Loc} {ls : Array Slot} (C0 : lw_At p s m meth c b L xs) (hL : L ≤ 1538) (hi : i + 3 ≤ L) (hK : va_K D classes [(cA, .int)] s) (hR : Rel N C (st, nx, fr, fi, mn, rc, tk, us) (st, nx', fr', mn, rc, tk, us')) (hP : va_P D classes (wXM cA h g N C (st, nx, fr, fi, mn, rc, tk, us) (st, nx', fr', mn, rc, tk, us')) H) (hD : va_D (A0 s) (wXM cA h g N C (st, nx, fr, fi, mn, rc, tk, us) (st, nx', fr', mn, rc, tk, us'))) (hS : va_S (A0 s) s.heap H locs) (hl : lv_has ls 4 [(0, .ref b), (1, .ref (h 0)), (2, .ref (g 0)), (3, .int (nI i))])
    (kk : ∀ (x : SX) (y : SM) (H : Heap) (locs : List Loc), Rel N C x y → va_P D classes (wXM cA h g N C x y) H → va_D (A0 s) (wXM cA h g N C x y) → va_S (A0 s) s.heap H locs → W p l e room_1 s m #[Value.ref b] below meth c H locs 13 419 (lw_Z below #[Value.ref b] s) (F0 m 394 ls [])) :
    W p l e room_1 s m #[Value.ref b] below meth c H locs 13 419 (lw_Z below #[Value.ref b] s) (F0 m 325 ls []) := by
  obtain ⟨hx, hb, hr, hml, hown, hts0, hX, hbl, hlocks, hgv⟩ := C0
  have hts : ∀ w ∈ lw_gt, w.before #[Value.ref b] s = true := fun w hw => hts0 w (lw_gtin w hw)
  have hA : ∀ q : Nat, s.heap.size ≤ q → A0 s q := fun _ h => h
  have hbA : ¬ (A0 s) b := Nat.not_le.mpr hbl
  obtain ⟨hN, hC, -, hst, hnx, hnx', hfi, hmn, htk, hag, hfr⟩ := id hR
  obtain ⟨a, ha⟩ := ixR_ex (N := N) (by omega) (xs (i + 1))
  refine lv_aload_n (pc := 325) hx hb d_L_law_325 rfl (lv_at hl 1 rfl) ?_
  refine lv_aload_n (pc := 326) hx hb d_L_law_326 rfl (lv_at hl 0 rfl) ?_
  refine lv_iload_n (pc := 327) hx hb d_L_law_327 rfl (lv_at hl 3 rfl) ?_
  refine lv_iconst (pc := 328) (v := nI 1) hx hb d_L_law_328 (by decide) ?_
  refine nv_iadd (pc := 329) (x := i) (y := 1) hx hb d_L_law_329 ?_
  refine nv_sld (pc := 330) (j := i + 1) hx hb hX hbl hbA hS (by omega) (by omega) d_L_law_330 ?_
  refine cllI (pc := 331) (As := [.int (xs (i + 1))]) (rest := []) (wr := wM cA g N C (st, nx', fr', mn, rc, tk, us')) hx hb hml hown hts hK hP hD hS hA hl.1 (c_X_receivedBy l D cA h H.size N C st nx fr fi mn rc tk us (xs (i + 1)) a hN hst ha) [0, 1, 2, 3, 4, 5, 6] [7, 8, 9, 10, 11, 12] rfl rfl (by decide) (by decide) (by decide) rfl rfl rfl (goodV tw_111 tw_112 tw_113 tw_1 tw_114) (na := 1) (by decide +kernel) rfl ⟨rfl, rfl, Nat.le_of_ble_eq_true rfl, Nat.le_of_ble_eq_true rfl⟩ (Nat.le_of_ble_eq_true rfl) ⟨Nat.le_of_ble_eq_true rfl, Nat.le_of_ble_eq_true rfl⟩ rfl d_L_law_331 (fun r u H locs hw hP hD hS => ?_)
  obtain ⟨rfl, rfl⟩ := hw
  refine lv_aload_n (pc := 334) hx hb d_L_law_334 rfl (lv_at hl 2 rfl) ?_
  refine lv_aload_n (pc := 335) hx hb d_L_law_335 rfl (lv_at hl 0 rfl) ?_
  refine lv_iload_n (pc := 336) hx hb d_L_law_336 rfl (lv_at hl 3 rfl) ?_
  refine lv_iconst (pc := 337) (v := nI 1) hx hb d_L_law_337 (by decide) ?_
  refine nv_iadd (pc := 338) (x := i) (y := 1) hx hb d_L_law_338 ?_
  refine nv_sld (pc := 339) (j := i + 1) hx hb hX hbl hbA hS (by omega) (by omega) d_L_law_339 ?_
  refine cllI (pc := 340) (As := [.int (xs (i + 1))]) (rest := [.int (q_received rc a)]) (wr := wX cA h N C (st, nx, fr, fi, mn, rc, tk, us)) hx hb hml hown hts hK hP hD hS hA hl.1 (c_M_receivedBy l D cA g H.size N C st nx' fr' mn rc tk us' (xs (i + 1)) a hN hst ha) [0, 1, 2, 3, 4, 5] [6, 7, 8, 9, 10, 11, 12] rfl rfl (by decide) (by decide) (by decide) rfl rfl rfl (goodV tw_217 tw_218 tw_219 tw_2 tw_220) (na := 1) (by decide +kernel) rfl ⟨rfl, rfl, Nat.le_of_ble_eq_true rfl, Nat.le_of_ble_eq_true rfl⟩ (Nat.le_of_ble_eq_true rfl) ⟨Nat.le_of_ble_eq_true rfl, Nat.le_of_ble_eq_true rfl⟩ rfl d_L_law_340 (fun r u H locs hw hP hD hS => ?_)
  obtain ⟨rfl, rfl⟩ := hw
  refine lv_icmp_eq (pc := 343) (tgt := 394) hx hb d_L_law_343 (by decide) (fun _ => ?_) (fun q => absurd rfl q)
  exact kk _ _ H locs hR hP hD hS
set_option maxHeartbeats 4000000 in
set_option maxRecDepth 100000 in
theorem law_state {p : Program} {l : Launch} {e : Env} {s : State} {m : MethodId} {below : List Frame} {meth : Method} {c : Code} {D : va_G} {cA : ClassId} {h g : Nat → Nat} {N C b L : Nat} {xs : Nat → Int32} {st nx nx' : Nat → Nat} {fr fr' : Nat → Int32} {fi mn : Nat → Nat} {rc : Nat → Int32} {tk : Option Nat} {us us' : Bool} {i : Nat} {H : Heap} {locs : List Loc} {ls : Array Slot} (C0 : lw_At p s m meth c b L xs) (hL : L ≤ 1538) (hi : i + 3 ≤ L) (hK : va_K D classes [(cA, .int)] s) (hR : Rel N C (st, nx, fr, fi, mn, rc, tk, us) (st, nx', fr', mn, rc, tk, us')) (hP : va_P D classes (wXM cA h g N C (st, nx, fr, fi, mn, rc, tk, us) (st, nx', fr', mn, rc, tk, us')) H) (hD : va_D (A0 s) (wXM cA h g N C (st, nx, fr, fi, mn, rc, tk, us) (st, nx', fr', mn, rc, tk, us'))) (hS : va_S (A0 s) s.heap H locs) (hl : lv_has ls 4 [(0, .ref b), (1, .ref (h 0)), (2, .ref (g 0)), (3, .int (nI i))])
    (kk : ∀ (x : SX) (y : SM) (H : Heap) (locs : List Loc), Rel N C x y → va_P D classes (wXM cA h g N C x y) H → va_D (A0 s) (wXM cA h g N C x y) → va_S (A0 s) s.heap H locs → W p l e room_1 s m #[Value.ref b] below meth c H locs 13 419 (lw_Z below #[Value.ref b] s) (F0 m 394 ls [])) :
    W p l e room_1 s m #[Value.ref b] below meth c H locs 13 419 (lw_Z below #[Value.ref b] s) (F0 m 348 ls []) := by
  obtain ⟨hx, hb, hr, hml, hown, hts0, hX, hbl, hlocks, hgv⟩ := C0
  have hts : ∀ w ∈ lw_gt, w.before #[Value.ref b] s = true := fun w hw => hts0 w (lw_gtin w hw)
  have hA : ∀ q : Nat, s.heap.size ≤ q → A0 s q := fun _ h => h
  have hbA : ¬ (A0 s) b := Nat.not_le.mpr hbl
  obtain ⟨hN, hC, -, hst, hnx, hnx', hfi, hmn, htk, hag, hfr⟩ := id hR
  obtain ⟨a, ha⟩ := ixR_ex (N := N) (by omega) (xs (i + 1))
  refine lv_aload_n (pc := 348) hx hb d_L_law_348 rfl (lv_at hl 1 rfl) ?_
  refine lv_aload_n (pc := 349) hx hb d_L_law_349 rfl (lv_at hl 0 rfl) ?_
  refine lv_iload_n (pc := 350) hx hb d_L_law_350 rfl (lv_at hl 3 rfl) ?_
  refine lv_iconst (pc := 351) (v := nI 1) hx hb d_L_law_351 (by decide) ?_
  refine nv_iadd (pc := 352) (x := i) (y := 1) hx hb d_L_law_352 ?_
  refine nv_sld (pc := 353) (j := i + 1) hx hb hX hbl hbA hS (by omega) (by omega) d_L_law_353 ?_
  refine cllI (pc := 354) (As := [.int (xs (i + 1))]) (rest := []) (wr := wM cA g N C (st, nx', fr', mn, rc, tk, us')) hx hb hml hown hts hK hP hD hS hA hl.1 (c_X_state l D cA h H.size N C st nx fr fi mn rc tk us (xs (i + 1)) a hN hst ha) [0, 1, 2, 3, 4, 5, 6] [7, 8, 9, 10, 11, 12] rfl rfl (by decide) (by decide) (by decide) rfl rfl rfl (goodV tw_115 tw_116 tw_117 tw_1 tw_118) (na := 1) (by decide +kernel) rfl ⟨rfl, rfl, Nat.le_of_ble_eq_true rfl, Nat.le_of_ble_eq_true rfl⟩ (Nat.le_of_ble_eq_true rfl) ⟨Nat.le_of_ble_eq_true rfl, Nat.le_of_ble_eq_true rfl⟩ rfl d_L_law_354 (fun r u H locs hw hP hD hS => ?_)
  obtain ⟨rfl, rfl⟩ := hw
  refine lv_aload_n (pc := 357) hx hb d_L_law_357 rfl (lv_at hl 2 rfl) ?_
  refine lv_aload_n (pc := 358) hx hb d_L_law_358 rfl (lv_at hl 0 rfl) ?_
  refine lv_iload_n (pc := 359) hx hb d_L_law_359 rfl (lv_at hl 3 rfl) ?_
  refine lv_iconst (pc := 360) (v := nI 1) hx hb d_L_law_360 (by decide) ?_
  refine nv_iadd (pc := 361) (x := i) (y := 1) hx hb d_L_law_361 ?_
  refine nv_sld (pc := 362) (j := i + 1) hx hb hX hbl hbA hS (by omega) (by omega) d_L_law_362 ?_
  refine cllI (pc := 363) (As := [.int (xs (i + 1))]) (rest := [.int (q_state st a)]) (wr := wX cA h N C (st, nx, fr, fi, mn, rc, tk, us)) hx hb hml hown hts hK hP hD hS hA hl.1 (c_M_state l D cA g H.size N C st nx' fr' mn rc tk us' (xs (i + 1)) a hN hst ha) [0, 1, 2, 3, 4, 5] [6, 7, 8, 9, 10, 11, 12] rfl rfl (by decide) (by decide) (by decide) rfl rfl rfl (goodV tw_221 tw_222 tw_223 tw_2 tw_224) (na := 1) (by decide +kernel) rfl ⟨rfl, rfl, Nat.le_of_ble_eq_true rfl, Nat.le_of_ble_eq_true rfl⟩ (Nat.le_of_ble_eq_true rfl) ⟨Nat.le_of_ble_eq_true rfl, Nat.le_of_ble_eq_true rfl⟩ rfl d_L_law_363 (fun r u H locs hw hP hD hS => ?_)
  obtain ⟨rfl, rfl⟩ := hw
  refine lv_icmp_eq (pc := 366) (tgt := 394) hx hb d_L_law_366 (by decide) (fun _ => ?_) (fun q => absurd rfl q)
  exact kk _ _ H locs hR hP hD hS
set_option maxHeartbeats 4000000 in
set_option maxRecDepth 100000 in
theorem law_waiting {p : Program} {l : Launch} {e : Env} {s : State} {m : MethodId} {below : List Frame} {meth : Method} {c : Code} {D : va_G} {cA : ClassId} {h g : Nat → Nat} {N C b L : Nat} {xs : Nat → Int32} {st nx nx' : Nat → Nat} {fr fr' : Nat → Int32} {fi mn : Nat → Nat} {rc : Nat → Int32} {tk : Option Nat} {us us' : Bool} {i : Nat} {H : Heap} {locs : List Loc} {ls : Array Slot} (C0 : lw_At p s m meth c b L xs) (hL : L ≤ 1538) (hi : i + 3 ≤ L) (hK : va_K D classes [(cA, .int)] s) (hR : Rel N C (st, nx, fr, fi, mn, rc, tk, us) (st, nx', fr', mn, rc, tk, us')) (hP : va_P D classes (wXM cA h g N C (st, nx, fr, fi, mn, rc, tk, us) (st, nx', fr', mn, rc, tk, us')) H) (hD : va_D (A0 s) (wXM cA h g N C (st, nx, fr, fi, mn, rc, tk, us) (st, nx', fr', mn, rc, tk, us'))) (hS : va_S (A0 s) s.heap H locs) (hl : lv_has ls 4 [(0, .ref b), (1, .ref (h 0)), (2, .ref (g 0)), (3, .int (nI i))])
    (kk : ∀ (x : SX) (y : SM) (H : Heap) (locs : List Loc), Rel N C x y → va_P D classes (wXM cA h g N C x y) H → va_D (A0 s) (wXM cA h g N C x y) → va_S (A0 s) s.heap H locs → W p l e room_1 s m #[Value.ref b] below meth c H locs 13 419 (lw_Z below #[Value.ref b] s) (F0 m 394 ls [])) :
    W p l e room_1 s m #[Value.ref b] below meth c H locs 13 419 (lw_Z below #[Value.ref b] s) (F0 m 371 ls []) := by
  obtain ⟨hx, hb, hr, hml, hown, hts0, hX, hbl, hlocks, hgv⟩ := C0
  have hts : ∀ w ∈ lw_gt, w.before #[Value.ref b] s = true := fun w hw => hts0 w (lw_gtin w hw)
  have hA : ∀ q : Nat, s.heap.size ≤ q → A0 s q := fun _ h => h
  have hbA : ¬ (A0 s) b := Nat.not_le.mpr hbl
  obtain ⟨hN, hC, -, hst, hnx, hnx', hfi, hmn, htk, hag, hfr⟩ := id hR
  obtain ⟨a, ha⟩ := ixR_ex (N := N) (by omega) (xs (i + 1))
  refine lv_aload_n (pc := 371) hx hb d_L_law_371 rfl (lv_at hl 1 rfl) ?_
  refine lv_aload_n (pc := 372) hx hb d_L_law_372 rfl (lv_at hl 0 rfl) ?_
  refine lv_iload_n (pc := 373) hx hb d_L_law_373 rfl (lv_at hl 3 rfl) ?_
  refine lv_iconst (pc := 374) (v := nI 1) hx hb d_L_law_374 (by decide) ?_
  refine nv_iadd (pc := 375) (x := i) (y := 1) hx hb d_L_law_375 ?_
  refine nv_sld (pc := 376) (j := i + 1) hx hb hX hbl hbA hS (by omega) (by omega) d_L_law_376 ?_
  refine cllI (pc := 377) (As := [.int (xs (i + 1))]) (rest := []) (wr := wM cA g N C (st, nx', fr', mn, rc, tk, us')) hx hb hml hown hts hK hP hD hS hA hl.1 (c_X_waiting l D cA h H.size N C st nx fr fi mn rc tk us (xs (i + 1)) a hN hst ha) [0, 1, 2, 3, 4, 5, 6] [7, 8, 9, 10, 11, 12] rfl rfl (by decide) (by decide) (by decide) rfl rfl rfl (goodV tw_119 tw_120 tw_121 tw_1 tw_122) (na := 1) (by decide +kernel) rfl ⟨rfl, rfl, Nat.le_of_ble_eq_true rfl, Nat.le_of_ble_eq_true rfl⟩ (Nat.le_of_ble_eq_true rfl) ⟨Nat.le_of_ble_eq_true rfl, Nat.le_of_ble_eq_true rfl⟩ rfl d_L_law_377 (fun r u H locs hw hP hD hS => ?_)
  obtain ⟨rfl, rfl⟩ := hw
  refine lv_aload_n (pc := 380) hx hb d_L_law_380 rfl (lv_at hl 2 rfl) ?_
  refine lv_aload_n (pc := 381) hx hb d_L_law_381 rfl (lv_at hl 0 rfl) ?_
  refine lv_iload_n (pc := 382) hx hb d_L_law_382 rfl (lv_at hl 3 rfl) ?_
  refine lv_iconst (pc := 383) (v := nI 1) hx hb d_L_law_383 (by decide) ?_
  refine nv_iadd (pc := 384) (x := i) (y := 1) hx hb d_L_law_384 ?_
  refine nv_sld (pc := 385) (j := i + 1) hx hb hX hbl hbA hS (by omega) (by omega) d_L_law_385 ?_
  refine cllI (pc := 386) (As := [.int (xs (i + 1))]) (rest := [.int (q_waiting mn a)]) (wr := wX cA h N C (st, nx, fr, fi, mn, rc, tk, us)) hx hb hml hown hts hK hP hD hS hA hl.1 (c_M_waiting l D cA g H.size N C st nx' fr' mn rc tk us' (xs (i + 1)) a hN hst ha) [0, 1, 2, 3, 4, 5] [6, 7, 8, 9, 10, 11, 12] rfl rfl (by decide) (by decide) (by decide) rfl rfl rfl (goodV tw_225 tw_226 tw_227 tw_2 tw_228) (na := 1) (by decide +kernel) rfl ⟨rfl, rfl, Nat.le_of_ble_eq_true rfl, Nat.le_of_ble_eq_true rfl⟩ (Nat.le_of_ble_eq_true rfl) ⟨Nat.le_of_ble_eq_true rfl, Nat.le_of_ble_eq_true rfl⟩ rfl d_L_law_386 (fun r u H locs hw hP hD hS => ?_)
  obtain ⟨rfl, rfl⟩ := hw
  refine lv_icmp_eq (pc := 389) (tgt := 394) hx hb d_L_law_389 (by decide) (fun _ => ?_) (fun q => absurd rfl q)
  exact kk _ _ H locs hR hP hD hS
end
section
set_option maxHeartbeats 4000000 in
set_option maxRecDepth 100000 in
/-- THE LAW'S LOOP: at its head, i ints read, the two worlds related -/
theorem law_loop {p : Program} {l : Launch} {e : Env} {s : State} {m : MethodId} {below : List Frame} {meth : Method} {c : Code} {D : va_G} {cA : ClassId} {h g : Nat → Nat} {N C b L : Nat} {xs : Nat → Int32} (C0 : lw_At p s m meth c b L xs) (hL : L ≤ 1538) (hK : va_K D classes [(cA, .int)] s) :
    ∀ (n i : Nat) (x : SX) (y : SM) (H : Heap) (locs : List Loc) (ls : Array Slot), i ≤ L + 2 → L + 2 < i + n → Rel N C x y → va_P D classes (wXM cA h g N C x y) H → va_D (A0 s) (wXM cA h g N C x y) → va_S (A0 s) s.heap H locs → lv_has ls 4 [(0, .ref b), (1, .ref (h 0)), (2, .ref (g 0)), (3, .int (nI i))] →
      W p l e room_1 s m #[Value.ref b] below meth c H locs 13 419 (lw_Z below #[Value.ref b] s) (F0 m 38 ls []) := by
  obtain ⟨hx, hb, hr, hml, hown, hts0, hX, hbl, hlocks, hgv⟩ := id C0
  have hbA : ¬ (A0 s) b := Nat.not_le.mpr hbl
  intro n
  induction n with
  | zero =>
    intro i x y H locs ls h1 h2
    exact absurd h2 (by omega)
  | succ n ih =>
    intro i x y H locs ls h1 h2 hR hP hD hS hl
    refine lv_iload_n (pc := 38) hx hb d_L_law_38 rfl (lv_at hl 3 rfl) ?_
    refine lv_aload_n (pc := 39) hx hb d_L_law_39 rfl (lv_at hl 0 rfl) ?_
    refine va_slen (pc := 40) hx hb hX hbl hbA hS d_L_law_40 ?_
    refine lv_iconst (pc := 41) (v := nI 3) hx hb d_L_law_41 (by decide) ?_
    refine lv_isub (pc := 42) hx hb d_L_law_42 ?_
    refine lv_icmp_gt (pc := 43) (tgt := 400) hx hb d_L_law_43 (by decide) (fun c_43 => ?_) (fun c_43 => ?_)
    · refine lv_iconst (pc := 400) (v := 1) hx hb d_L_law_400 (by decide) ?_
      refine va_forget (fun q hq => hS.2.2 q hq) ?_
      exact lw_ret hx hb hr hlocks d_L_law_401
    · have hi : i + 3 ≤ L := law_ge hL h1 c_43
      have kk : ∀ (x : SX) (y : SM) (H : Heap) (locs : List Loc), Rel N C x y → va_P D classes (wXM cA h g N C x y) H → va_D (A0 s) (wXM cA h g N C x y) → va_S (A0 s) s.heap H locs → W p l e room_1 s m #[Value.ref b] below meth c H locs 13 419 (lw_Z below #[Value.ref b] s) (F0 m 394 ls []) := by
        intro x y H locs hR hP hD hS
        refine lv_iinc (pc := 394) (v := nI (i + 3)) (lv' := [(3, .int (nI (i + 3))), (0, .ref b), (1, .ref (h 0)), (2, .ref (g 0))]) hx hb d_L_law_394 hl (k := 3) rfl (by rw [show Int32.ofInt 3 = nI 3 by decide]; exact nI_add i 3) (by decide) rfl (fun ls hl => ?_)
        refine lv_goto (pc := 397) (tgt := 38) hx hb d_L_law_397 (by decide) ?_
        exact ih (i + 3) x y H locs ls (by omega) (by omega) hR hP hD hS (lv_sub hl [1, 2, 3, 0] rfl)
      refine lv_aload_n (pc := 46) hx hb d_L_law_46 rfl (lv_at hl 0 rfl) ?_
      refine lv_iload_n (pc := 47) hx hb d_L_law_47 rfl (lv_at hl 3 rfl) ?_
      refine nv_sld (pc := 48) (j := i) hx hb hX hbl hbA hS (by omega) (by omega) d_L_law_48 ?_
      refine lv_bipush (pc := 49) (v := nI 15) hx hb d_L_law_49 (by decide) ?_
      refine lv_iand (pc := 51) hx hb d_L_law_51 ?_
      obtain ⟨j, hj, ej⟩ := pk_andE (xs i) (m := nI 15) 4 (by decide)
      rw [ej]
      obtain ⟨st, nx, fr, fi, mn, rc, tk, us⟩ := x
      obtain ⟨st', nx', fr', mn', rc', tk', us'⟩ := y
      obtain ⟨-, -, ⟨e1, e2, e3, e4⟩, -⟩ := id hR
      subst e1 e2 e3 e4
      rcases (show j = 0 ∨ j = 1 ∨ j = 2 ∨ j = 3 ∨ j = 4 ∨ j = 5 ∨ j = 6 ∨ j = 7 ∨ j = 8 ∨ j = 9 ∨ j = 10 ∨ j = 11 ∨ j = 12 ∨ j = 13 ∨ j = 14 ∨ j = 15 by omega) with rfl | rfl | rfl | rfl | rfl | rfl | rfl | rfl | rfl | rfl | rfl | rfl | rfl | rfl | rfl | rfl
      · refine lv_tableIn (pc := 52) (off := 72) (tgt := 124) hx hb d_L_law_52 (by decide) (by decide) (by decide) (by decide) ?_
        exact law_init C0 hL hi hK hR hP hD hS hl kk
      · refine lv_tableIn (pc := 52) (off := 83) (tgt := 135) hx hb d_L_law_52 (by decide) (by decide) (by decide) (by decide) ?_
        exact law_powerOn C0 hL hi hK hR hP hD hS hl kk
      · refine lv_tableIn (pc := 52) (off := 106) (tgt := 158) hx hb d_L_law_52 (by decide) (by decide) (by decide) (by decide) ?_
        exact law_powerOff C0 hL hi hK hR hP hD hS hl kk
      · refine lv_tableIn (pc := 52) (off := 129) (tgt := 181) hx hb d_L_law_52 (by decide) (by decide) (by decide) (by decide) ?_
        exact law_queue C0 hL hi hK hR hP hD hS hl kk
      · refine lv_tableIn (pc := 52) (off := 162) (tgt := 214) hx hb d_L_law_52 (by decide) (by decide) (by decide) (by decide) ?_
        exact law_useToken C0 hL hi hK hR hP hD hS hl kk
      · refine lv_tableIn (pc := 52) (off := 175) (tgt := 227) hx hb d_L_law_52 (by decide) (by decide) (by decide) (by decide) ?_
        exact law_passToken C0 hL hi hK hR hP hD hS hl kk
      · refine lv_tableIn (pc := 52) (off := 188) (tgt := 240) hx hb d_L_law_52 (by decide) (by decide) (by decide) (by decide) ?_
        exact law_solicit C0 hL hi hK hR hP hD hS hl kk
      · refine lv_tableIn (pc := 52) (off := 201) (tgt := 253) hx hb d_L_law_52 (by decide) (by decide) (by decide) (by decide) ?_
        exact law_leave C0 hL hi hK hR hP hD hS hl kk
      · refine lv_tableIn (pc := 52) (off := 224) (tgt := 276) hx hb d_L_law_52 (by decide) (by decide) (by decide) (by decide) ?_
        exact law_silence C0 hL hi hK hR hP hD hS hl kk
      · refine lv_tableIn (pc := 52) (off := 237) (tgt := 289) hx hb d_L_law_52 (by decide) (by decide) (by decide) (by decide) ?_
        exact law_tokenHolder C0 hL hi hK hR hP hD hS hl kk
      · refine lv_tableIn (pc := 52) (off := 250) (tgt := 302) hx hb d_L_law_52 (by decide) (by decide) (by decide) (by decide) ?_
        exact law_successor C0 hL hi hK hR hP hD hS hl kk
      · refine lv_tableIn (pc := 52) (off := 273) (tgt := 325) hx hb d_L_law_52 (by decide) (by decide) (by decide) (by decide) ?_
        exact law_receivedBy C0 hL hi hK hR hP hD hS hl kk
      · refine lv_tableIn (pc := 52) (off := 296) (tgt := 348) hx hb d_L_law_52 (by decide) (by decide) (by decide) (by decide) ?_
        exact law_state C0 hL hi hK hR hP hD hS hl kk
      · refine lv_tableIn (pc := 52) (off := 319) (tgt := 371) hx hb d_L_law_52 (by decide) (by decide) (by decide) (by decide) ?_
        exact law_waiting C0 hL hi hK hR hP hD hS hl kk
      · refine lv_tableOut (pc := 52) (tgt := 394) hx hb d_L_law_52 (by decide) (by decide) ?_
        exact kk _ _ H locs hR hP hD hS
      · refine lv_tableOut (pc := 52) (tgt := 394) hx hb d_L_law_52 (by decide) (by decide) ?_
        exact kk _ _ H locs hR hP hD hS
end
section
set_option maxHeartbeats 4000000 in
set_option maxRecDepth 100000 in
/-- THE LAW, from its entry -/
theorem whole_start {p : Program} {e : Env} {s : State} {m : MethodId} {below : List Frame} {meth : Method} {c : Code} (l : Launch) {b L : Nat} {xs : Nat → Int32} (hL : L ≤ 1538) (C0 : lw_At p s m meth c b L xs) : W p l e room_1 s m #[Value.ref b] below meth c s.heap [] 0 0 (lw_Z below #[Value.ref b] s) (entryFrame m ([Value.ref b] : List Value).toArray 4) := by
  obtain ⟨hx, hb, hr, hml, hown, hts0, hX, hbl, hlocks, hgv⟩ := id C0
  have hts : ∀ w ∈ lw_gt, w.before #[Value.ref b] s = true := fun w hw => hts0 w (lw_gtin w hw)
  have hA : ∀ q : Nat, s.heap.size ≤ q → A0 s q := fun _ h => h
  obtain ⟨cX, iSX, hKX⟩ := u_known (C := R_X) (T := F_X) (N := 10) (n := 10) hts i_X (hts _ tw_4)
  obtain ⟨cM, iSM, hKM⟩ := u_known (C := R_M) (T := F_M) (N := 9) (n := 9) hts i_M (hts _ tw_127)
  obtain ⟨D, hKc⟩ : ∃ D : va_G, ∀ (k : Nat) (q : vw_C), classes[k]? = some q → u_Kn s q.1 q.2.1 q.2.2 (D.1 k) (D.2 k) := by
    refine ⟨(fun k => if k = 0 then cX else cM, fun k => if k = 0 then iSX else iSM), ?_⟩
    intro k q hq
    match k, hq with
    | 0, hq => cases hq; exact hKX
    | 1, hq => cases hq; exact hKM
    | k + 2, hq => simp [classes] at hq
  obtain ⟨cA, kA, comp, f1, f2, f3⟩ := Cond.arrayClass_spec (hts _ tw_42)
  have hK : va_K D classes [(cA, .int)] s := by
    refine ⟨hKc, fun k q hq => ?_⟩
    match k, hq with
    | 0, hq => cases hq; exact ⟨fun n z => ⟨fun k h => (by cases h), kA, f2, comp, f3⟩, f1⟩
    | k + 1, hq => simp at hq
  have hS : va_S (A0 s) s.heap s.heap [] := va_S.rf
  have hP : va_P D classes [] s.heap := fun k q h => by simp at h
  have hD : va_D (A0 s) [] := ⟨fun i j p q h => by simp at h, fun k q h => by simp at h⟩
  have hl := lv_entry ([.ref b]) (n := 4) (Nat.le_of_ble_eq_true rfl)
  rw [lg_entry_eq]
  generalize (lg_sl ([.ref b]) ++ List.replicate (4 - (lg_sl ([.ref b])).length) Slot.unset).toArray = ls at hl ⊢
  have hl : lv_has ls 4 [(0, .ref b)] := hl
  refine va_new (pc := 0) (ci := 0) (fs := [.int (nI 0), .int (nI 0), .null, .null, .null, .null, .null, .null, .int (nI 0), .int (bv false)]) (C := R_X) (T := F_X) (N := 10) hx hb hts i_X t_X t_X_ok hown (hts _ tw_3) (hts _ tw_4) (hts _ tw_1) hK hP hD hS hA rfl (fun j hj => by rcases (show j = 0 ∨ j = 1 ∨ j = 2 ∨ j = 3 ∨ j = 4 ∨ j = 5 ∨ j = 6 ∨ j = 7 ∨ j = 8 ∨ j = 9 by omega) with rfl | rfl | rfl | rfl | rfl | rfl | rfl | rfl | rfl | rfl <;> first | rfl | (show Value.int 0 = Value.int (nI 0); rw [nI_0])) (Nat.le_of_ble_eq_true rfl) (Nat.le_of_ble_eq_true rfl) d_L_law_0 (fun q H hP hD hS => ?_)
  have hP : va_P D classes [(q, .inr (0, [.int (nI 0), .int (nI 0), .null, .null, .null, .null, .null, .null, .int (nI 0), .int (bv false)]))] H := hP
  have hD : va_D (A0 s) [(q, .inr (0, [.int (nI 0), .int (nI 0), .null, .null, .null, .null, .null, .null, .int (nI 0), .int (bv false)]))] := hD
  refine W.widen (k := 1) (n := 10) (by omega) (by omega) ?_
  refine lv_dup (pc := 3) hx hb d_L_law_3 rfl ?_
  refine lv_aload_n (pc := 4) hx hb d_L_law_4 rfl (lv_at hl 0 rfl) ?_
  refine lv_iconst (pc := 5) (v := nI 0) hx hb d_L_law_5 (by decide) ?_
  refine clCell (pc := 6) (rest := [.ref q, .ref q]) hx hb hml hown hts hX hbl (by omega) hP hS hl.1 0 (by decide) ⟨by decide, by decide⟩ (Nat.le_of_ble_eq_true rfl) ⟨Nat.le_of_ble_eq_true rfl, Nat.le_of_ble_eq_true rfl⟩ rfl d_L_law_6 (fun H locs hP hS => ?_)
  refine lv_aload_n (pc := 9) hx hb d_L_law_9 rfl (lv_at hl 0 rfl) ?_
  refine lv_iconst (pc := 10) (v := nI 1) hx hb d_L_law_10 (by decide) ?_
  refine clCell (pc := 11) (rest := [.int (if 0 < L then xs 0 else nI 0), .ref q, .ref q]) hx hb hml hown hts hX hbl (by omega) hP hS hl.1 1 (by decide) ⟨by decide, by decide⟩ (Nat.le_of_ble_eq_true rfl) ⟨Nat.le_of_ble_eq_true rfl, Nat.le_of_ble_eq_true rfl⟩ rfl d_L_law_11 (fun H locs hP hS => ?_)
  have hFc := va_free (wc := [(q, .inr (0, [.int (nI 0), .int (nI 0), .null, .null, .null, .null, .null, .null, .int (nI 0), .int (bv false)]))]) hD hS hA [0] rfl
  refine va_callv (pc := 14) (va_runI (own := R_law) (As := [.int (if 0 < L then xs 0 else nI 0), .int (if 1 < L then xs 1 else nI 0)]) (rest := [.ref q]) ⟨hx, hb, hml, hown, hts⟩ (c_X_new l D cA q H.size (if 0 < L then xs 0 else nI 0) (if 1 < L then xs 1 else nI 0)) (cwI 2 hts (goodC tw_7) rfl rfl rfl (hts _ tw_1) (hts _ tw_5) (hts _ tw_6) rfl (by decide +kernel) ⟨Nat.le_of_ble_eq_true rfl, Nat.le_of_ble_eq_true rfl⟩) ⟨blindW D cA _ _ _, fun U hU hW => ⟨rfl, by rw [hU], by rw [hU]; exact hP, va_K.moved hW.alike hK, hD.weaken (fun _ _ _ _ => trivial)⟩⟩ rfl rfl hl.1 rfl (lv_room (Nat.le_of_ble_eq_true rfl)) d_L_law_14 ⟨Nat.le_of_ble_eq_true rfl, Nat.le_of_ble_eq_true rfl⟩) hS (fun q _ h => hFc q h) hFc (fun u t H1 locs ht hvm hw hB hz1 hk1 hS => ?_)
  obtain rfl := hw
  obtain ⟨h, e0, hP1, hK1, hD1⟩ := hB
  rw [ht] at hP1
  obtain ⟨hP, hD⟩ := va_join (wr := []) (w1 := wX cA h (kN (if 0 < L then xs 0 else nI 0)) (kC (if 1 < L then xs 1 else nI 0)) (fun _ => 0, fun _ => 0, fun _ => nI 0, fun _ => 0, fun _ => 0, fun _ => nI 0, none, false)) hP hD [0] [] rfl rfl (by decide) (by decide) hk1 hFc hP1 hD1
  generalize H1 = H at hP hS ⊢
  have hP : va_P D classes (wX cA h (kN (if 0 < L then xs 0 else nI 0)) (kC (if 1 < L then xs 1 else nI 0)) (fun _ => 0, fun _ => 0, fun _ => nI 0, fun _ => 0, fun _ => 0, fun _ => nI 0, none, false)) H := hP
  have hD : va_D (A0 s) (wX cA h (kN (if 0 < L then xs 0 else nI 0)) (kC (if 1 < L then xs 1 else nI 0)) (fun _ => 0, fun _ => 0, fun _ => nI 0, fun _ => 0, fun _ => 0, fun _ => nI 0, none, false)) := hD
  refine W.widen (k := 7) (n := 218) (by omega) (by omega) ?_
  rw [← e0]
  refine lv_astore_n (pc := 17) (lv' := [(1, .ref (h 0)), (0, .ref b)]) hx hb d_L_law_17 rfl hl (by decide) rfl (fun ls hl => ?_)
  refine va_new (pc := 18) (ci := 1) (fs := [.int (nI 0), .int (nI 0), .null, .null, .null, .null, .null, .int (nI 0), .int (bv false)]) (C := R_M) (T := F_M) (N := 9) hx hb hts i_M t_M t_M_ok hown (hts _ tw_126) (hts _ tw_127) (hts _ tw_2) hK hP hD hS hA rfl (fun j hj => by rcases (show j = 0 ∨ j = 1 ∨ j = 2 ∨ j = 3 ∨ j = 4 ∨ j = 5 ∨ j = 6 ∨ j = 7 ∨ j = 8 by omega) with rfl | rfl | rfl | rfl | rfl | rfl | rfl | rfl | rfl <;> first | rfl | (show Value.int 0 = Value.int (nI 0); rw [nI_0])) (Nat.le_of_ble_eq_true rfl) (Nat.le_of_ble_eq_true rfl) d_L_law_18 (fun r H hP hD hS => ?_)
  have hP : va_P D classes (wX cA h (kN (if 0 < L then xs 0 else nI 0)) (kC (if 1 < L then xs 1 else nI 0)) (fun _ => 0, fun _ => 0, fun _ => nI 0, fun _ => 0, fun _ => 0, fun _ => nI 0, none, false) ++ [(r, .inr (1, [.int (nI 0), .int (nI 0), .null, .null, .null, .null, .null, .int (nI 0), .int (bv false)]))]) H := hP
  have hD : va_D (A0 s) (wX cA h (kN (if 0 < L then xs 0 else nI 0)) (kC (if 1 < L then xs 1 else nI 0)) (fun _ => 0, fun _ => 0, fun _ => nI 0, fun _ => 0, fun _ => 0, fun _ => nI 0, none, false) ++ [(r, .inr (1, [.int (nI 0), .int (nI 0), .null, .null, .null, .null, .null, .int (nI 0), .int (bv false)]))]) := hD
  refine W.widen (k := 8) (n := 227) (by omega) (by omega) ?_
  refine lv_dup (pc := 21) hx hb d_L_law_21 rfl ?_
  refine lv_aload_n (pc := 22) hx hb d_L_law_22 rfl (lv_at hl 1 rfl) ?_
  refine lv_iconst (pc := 23) (v := nI 0) hx hb d_L_law_23 (by decide) ?_
  refine clCell (pc := 24) (rest := [.ref r, .ref r]) hx hb hml hown hts hX hbl (by omega) hP hS hl.1 0 (by decide) ⟨by decide, by decide⟩ (Nat.le_of_ble_eq_true rfl) ⟨Nat.le_of_ble_eq_true rfl, Nat.le_of_ble_eq_true rfl⟩ rfl d_L_law_24 (fun H locs hP hS => ?_)
  refine lv_aload_n (pc := 27) hx hb d_L_law_27 rfl (lv_at hl 1 rfl) ?_
  refine lv_iconst (pc := 28) (v := nI 1) hx hb d_L_law_28 (by decide) ?_
  refine clCell (pc := 29) (rest := [.int (if 0 < L then xs 0 else nI 0), .ref r, .ref r]) hx hb hml hown hts hX hbl (by omega) hP hS hl.1 1 (by decide) ⟨by decide, by decide⟩ (Nat.le_of_ble_eq_true rfl) ⟨Nat.le_of_ble_eq_true rfl, Nat.le_of_ble_eq_true rfl⟩ rfl d_L_law_29 (fun H locs hP hS => ?_)
  have hPc := hP.sub (ws' := [(r, .inr (1, [.int (nI 0), .int (nI 0), .null, .null, .null, .null, .null, .int (nI 0), .int (bv false)]))]) [7] rfl
  have hDc := hD.sub (ws' := [(r, .inr (1, [.int (nI 0), .int (nI 0), .null, .null, .null, .null, .null, .int (nI 0), .int (bv false)]))]) [7] (by decide) rfl
  have hFc := va_free (wc := [(r, .inr (1, [.int (nI 0), .int (nI 0), .null, .null, .null, .null, .null, .int (nI 0), .int (bv false)]))]) hD hS hA [7] rfl
  refine va_callv (pc := 32) (va_runI (own := R_law) (As := [.int (if 0 < L then xs 0 else nI 0), .int (if 1 < L then xs 1 else nI 0)]) (rest := [.ref r]) ⟨hx, hb, hml, hown, hts⟩ (c_M_new l D cA r H.size (if 0 < L then xs 0 else nI 0) (if 1 < L then xs 1 else nI 0)) (cwI 2 hts (goodC tw_130) rfl rfl rfl (hts _ tw_2) (hts _ tw_128) (hts _ tw_129) rfl (by decide +kernel) ⟨Nat.le_of_ble_eq_true rfl, Nat.le_of_ble_eq_true rfl⟩) ⟨blindW D cA _ _ _, fun U hU hW => ⟨rfl, by rw [hU], by rw [hU]; exact hPc, va_K.moved hW.alike hK, hDc.weaken (fun _ _ _ _ => trivial)⟩⟩ rfl rfl hl.1 rfl (lv_room (Nat.le_of_ble_eq_true rfl)) d_L_law_32 ⟨Nat.le_of_ble_eq_true rfl, Nat.le_of_ble_eq_true rfl⟩) hS (fun q _ h => hFc q h) hFc (fun u t H1 locs ht hvm hw hB hz1 hk1 hS => ?_)
  obtain rfl := hw
  obtain ⟨g, e1, hP1, hK1, hD1⟩ := hB
  rw [ht] at hP1
  obtain ⟨hP, hD⟩ := va_join (wr := wX cA h (kN (if 0 < L then xs 0 else nI 0)) (kC (if 1 < L then xs 1 else nI 0)) (fun _ => 0, fun _ => 0, fun _ => nI 0, fun _ => 0, fun _ => 0, fun _ => nI 0, none, false)) (w1 := wM cA g (kN (if 0 < L then xs 0 else nI 0)) (kC (if 1 < L then xs 1 else nI 0)) (fun _ => 0, fun _ => 0, fun _ => nI 0, fun _ => 0, fun _ => nI 0, none, false)) hP hD [7] [0, 1, 2, 3, 4, 5, 6] rfl rfl (by decide) (by decide) hk1 hFc hP1 hD1
  generalize H1 = H at hP hS ⊢
  refine W.widen (k := 13) (n := 419) (by omega) (by omega) ?_
  rw [← e1]
  refine lv_astore_n (pc := 35) (lv' := [(2, .ref (g 0)), (1, .ref (h 0)), (0, .ref b)]) hx hb d_L_law_35 rfl hl (by decide) rfl (fun ls hl => ?_)
  refine lv_iconst (pc := 36) (v := nI 2) hx hb d_L_law_36 (by decide) ?_
  refine lv_istore_n (pc := 37) (lv' := [(3, .int (nI 2)), (2, .ref (g 0)), (1, .ref (h 0)), (0, .ref b)]) hx hb d_L_law_37 rfl hl (by decide) rfl (fun ls hl => ?_)
  exact law_loop C0 hL hK (L + 3) 2 (fun _ => 0, fun _ => 0, fun _ => nI 0, fun _ => 0, fun _ => 0, fun _ => nI 0, none, false) (fun _ => 0, fun _ => 0, fun _ => nI 0, fun _ => 0, fun _ => nI 0, none, false) H locs ls (by omega) (by omega) (r_start (kN_ok _) (kC_ok _)) hP hD hS (lv_sub hl [3, 2, 1, 0] rfl)
end
section
set_option maxHeartbeats 4000000 in
theorem lw_walk (l : Launch) (b : Addr) (xs : List Int32) : MetFree l x (headSpec (Jvm.Cond.code x code maxLocals ret :: tables_1) room_1) (lw_P b xs) (fun _ _ _ _ _ => True) lw_Q := by
  refine MetFree.of_bodyS (code := code) (maxLocals := maxLocals) (ret := ret) (by decide) ?_ ?_
  · intro args s m h hn
    obtain ⟨meth, c, h1, h2, h3, h4, h5, h6, -, -⟩ := Cond.code_spec hn (atoms_spec (ws := Jvm.Cond.code x code maxLocals ret :: tables_1) h _ List.mem_cons_self)
    exact ⟨meth, c, h1, h2, h3, h4, h5, h6⟩
  · intro p e s m args below meth c s₁ B hml0 hP _
    obtain ⟨rfl, hx, hbd, hgv⟩ := hP
    obtain ⟨scr, harrAt, hlist, hof, hsmall⟩ := hx
    obtain ⟨hcb, hkn, -, -⟩ := State.arrayAt?_spec harrAt
    have hown : s.vm.findClass R_law = some m.cls := findClass_of_methodNamed B.named
    have hts0 : ∀ c ∈ (Jvm.Cond.code x code maxLocals ret :: tables_1), c.before #[Value.ref b] s = true := atoms_spec (ws := Jvm.Cond.code x code maxLocals ret :: tables_1) B.pre
    have hts : ∀ w ∈ lw_tbl, w.before #[Value.ref b] s = true := k2_hts_sels lw_privs (fun w hw => hts0 w (List.mem_cons_of_mem _ hw)) lw_privs_ok
    have hml : c.maxLocals = 4 := B.maxLocals_eq (hts0 _ List.mem_cons_self)
    have X₀ : Stand p l e room_1 s m #[Value.ref b] below meth c s₁ [] 0 0 := Stand.of_body B
    have hh0 : s₁.heap = s.heap := by rw [B.state]; rfl
    have hsz : scr.slots.size = xs.length := by rw [← Array.length_toList, hlist, List.length_map]
    have hval : ∀ j : Nat, j < xs.length → scr.slots[j]? = some (.int (xs.getD j 0)) := fun j hj => by
      rw [← Array.getElem?_toList, hlist]
      simp [hj]
    have hbl : b < s.heap.size := (Array.getElem?_eq_some_iff.mp hcb).1
    have hX : va_X b xs.length (fun j => xs.getD j 0) s s.heap := ⟨scr, hcb, hof, hkn, hsz, hval⟩
    have K : W p l e room_1 s m #[Value.ref b] below meth c s₁.heap [] 0 0 (lw_Z below #[Value.ref b] s) (entryFrame m ([Value.ref b] : List Value).toArray 4) := by
      rw [hh0]
      exact whole_start l hbd ⟨B.exec, B.bytes, B.returns, hml, hown, hts, hX, hbl, B.notSynchronized, hgv⟩
    obtain ⟨t, a1, o, b1, b2, b3⟩ := K s₁ rfl X₀
    exact ⟨t, o, a1, b1, b2, b3⟩
theorem lw_pre_spec {args : Array Value} {s : State} (h : (Jvm.Cond.and given_1 narrow_1).before args s = true) (hr : rest_1_c.before args s = true) : ∃ (b : Addr) (xs : List Int32), lw_P b xs args s := by
  have hs := flat_of_before _ h
  have hq := flat_of_before _ hr
  have hc : (Cond.count 1).before args s = true := hs _ (by decide +kernel)
  have harr : (Cond.arrayOf (.arg 0) .int).before args s = true := hs _ (by decide +kernel)
  have hle : (Cond.le (.length (.arg 0)) (.int 1538)).before args s = true := hs _ (by decide +kernel)
  have hlen : (Cond.isInt (.length (.arg 0))).before args s = true := hq _ (by decide +kernel)
  have hall : (Cond.all (.arg 0) (.isInt (.elem (.arg 0) (.index 0)))).before args s = true := hq _ (by decide +kernel)
  obtain ⟨b, xs, hb, hx⟩ := State.ints_of_pre rfl harr hlen hall
  have hsm : xs.length < 2 ^ 31 := hx.choose_spec.2.2.2
  have hev : (Term.length (.arg 0)).eval args s none [] s = some (.int xs.length.toInt32) := hx.length_eval hb
  have hv := Cond.le_ints hev (show (Term.int 1538).eval args s none [] s = some (.int 1538) from rfl)
  have hd : xs.length.toInt32 ≤ 1538 := by
    simpa [Cond.before, Cond.holds, hv] using hle
  have hN : xs.length ≤ 1538 := (Int32.ofNat_le_ofNat hsm (by decide)).mp (show Int32.ofNat xs.length ≤ Int32.ofNat 1538 from hd)
  exact ⟨b, xs, Cond.one_arg hc (show args[0]? = some (.ref b) from hb), hx, hN, h⟩
theorem lw_comes (l : Launch) : Comes l x (Jvm.Cond.code x code maxLocals ret :: tables_1) room_1 (fun tb e args s => Calls_1 tb e args s ∧ rest_1 tb e args s ∧ Pre_1 tb e args s)
    (fun _ _ args s o t => lw_Q args s o t) := by
  intro p e ha hc hk s m args below hf hfit hheap happ hpre
  obtain ⟨b, xs, hP⟩ := lw_pre_spec hpre.2.2 hpre.2.1
  obtain ⟨k, o, h1, h2, h3, hQ⟩ := lw_walk l b xs p e ha hc hk s m args below hf ((Spec.applies_iff_loose hf).mp happ).1 hP trivial
  exact ⟨k, o, h1, h2, h3, hQ⟩
theorem lw_frame {s t : State} {o : Outcome} {args : Array Value} (h : Framed s o t [] 13 419) :
    Framed s o t (fieldLocs frame_1_writes args s ++ arrayLocs frame_1_arrays args s ++ staticLocs frame_1_statics s) 13 419 := h
theorem lw_limb (L : Cond) (hL : ∀ (args : Array Value) (s t : State), L.after args s (.returned (some (.int 1))) t = true) :
    ArmFor flags0 classFile x code maxLocals ret World_1 tables_1 room_1 Calls_1 rest_1 Pre_1
      (fun tb e a s o t => postC L tb e a s o t ∧ Framed s o t (fieldLocs frame_1_writes a s ++ arrayLocs frame_1_arrays a s ++ staticLocs frame_1_statics s) 13 419) := by
  intro l _ _ _ p e ha hc hk s m args below hf hfit hheap happ hpre
  obtain ⟨k, o, h1, h2, h3, rfl, hF⟩ := lw_comes l p e ha hc hk s m args below hf hfit hheap happ hpre
  exact ⟨k, _, h1, h2, h3, hL args s _, lw_frame hF⟩
theorem i_vc : Claimed_1_1 ∧ Claimed_1_2 := ⟨lw_limb limb_1_1 (fun args s t => by simp [limb_1_1, Cond.after, Cond.holds, Cond.value]), lw_limb limb_1_2 (fun args s t => Cond.after_iff.mpr (by
  first | (rw [show limb_1_2 = Cond.eq .result (.int 1) from rfl, Cond.eq_ints (x := 1) (y := 1) rfl rfl]; simp; done) | (simp [limb_1_2, Cond.value, Term.eval]; done)))⟩
end
